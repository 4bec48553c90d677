section
/-- an int of the picture as the JVM's int -/
def rf_i (z : Int) : Int32 := Int32.ofInt z
theorem rf_add (a b : Int) : rf_i a + rf_i b = rf_i (a + b) := (Int32.ofInt_add a b).symm
theorem rf_sub (a b : Int) : rf_i a - rf_i b = rf_i (a - b) := (Int32.ofInt_sub a b).symm
theorem rf_mul (a b : Int) : rf_i a * rf_i b = rf_i (a * b) := (Int32.ofInt_mul a b).symm
theorem rf_neg (a : Int) : -rf_i a = rf_i (-a) := (Int32.ofInt_neg a).symm
theorem rf_nat (n : Nat) : nI n = rf_i (n : Int) := Int32.ofInt_eq_ofNat.symm
theorem rf_l0 : (0 : Int32) = rf_i 0 := by decide
theorem rf_l1 : (1 : Int32) = rf_i 1 := by decide
theorem rf_l2 : (2 : Int32) = rf_i 2 := by decide
theorem rf_l3 : (3 : Int32) = rf_i 3 := by decide
theorem rf_l4 : (4 : Int32) = rf_i 4 := by decide
theorem rf_l6 : (6 : Int32) = rf_i 6 := by decide
theorem rf_l7 : (7 : Int32) = rf_i 7 := by decide
theorem rf_l11 : (11 : Int32) = rf_i 11 := by decide
theorem rf_l12 : (12 : Int32) = rf_i 12 := by decide
theorem rf_l13 : (13 : Int32) = rf_i 13 := by decide
theorem rf_l14 : (14 : Int32) = rf_i 14 := by decide
theorem rf_l15 : (15 : Int32) = rf_i 15 := by decide
theorem rf_l16 : (16 : Int32) = rf_i 16 := by decide
theorem rf_l17 : (17 : Int32) = rf_i 17 := by decide
theorem rf_l18 : (18 : Int32) = rf_i 18 := by decide
theorem rf_l19 : (19 : Int32) = rf_i 19 := by decide
theorem rf_l20 : (20 : Int32) = rf_i 20 := by decide
theorem rf_l21 : (21 : Int32) = rf_i 21 := by decide
theorem rf_l22 : (22 : Int32) = rf_i 22 := by decide
theorem rf_l23 : (23 : Int32) = rf_i 23 := by decide
theorem rf_l24 : (24 : Int32) = rf_i 24 := by decide
theorem rf_l25 : (25 : Int32) = rf_i 25 := by decide
theorem rf_l39 : (39 : Int32) = rf_i 39 := by decide
theorem rf_l40 : (40 : Int32) = rf_i 40 := by decide
theorem rf_l80 : (80 : Int32) = rf_i 80 := by decide
theorem rf_l101 : (101 : Int32) = rf_i 101 := by decide
theorem rf_toInt {a : Int} (h : (-2147483648 ≤ a ∧ a < 2147483648)) : (rf_i a).toInt = a := Int32.toInt_ofInt_of_le (by omega) (by omega)
theorem rf_le {a b : Int} (ha : (-2147483648 ≤ a ∧ a < 2147483648)) (hb : (-2147483648 ≤ b ∧ b < 2147483648)) : rf_i a ≤ rf_i b ↔ a ≤ b := by
  rw [Int32.le_iff_toInt_le, rf_toInt ha, rf_toInt hb]
theorem rf_lt {a b : Int} (ha : (-2147483648 ≤ a ∧ a < 2147483648)) (hb : (-2147483648 ≤ b ∧ b < 2147483648)) : rf_i a < rf_i b ↔ a < b := by
  rw [Int32.lt_iff_toInt_lt, rf_toInt ha, rf_toInt hb]
theorem rf_eq {a b : Int} (ha : (-2147483648 ≤ a ∧ a < 2147483648)) (hb : (-2147483648 ≤ b ∧ b < 2147483648)) : rf_i a = rf_i b ↔ a = b := by
  rw [← Int32.toInt_inj, rf_toInt ha, rf_toInt hb]
theorem rf_clamp {a : Int} (h : 0 ≤ a) (h2 : a < 2147483648) : (rf_i a).toNatClampNeg = a.toNat := Int32.toNatClampNeg_ofInt_of_le (by omega) (by omega)
theorem rf_in {a : Int} {N : Nat} (h : 0 ≤ a) (h2 : a < N) (hN : N < 2147483648) : vp_in (rf_i a) N := by
  rw [vp_in_iff, rf_toInt (by omega)]
  exact ⟨h, h2⟩
theorem rf_tm {x : Int} (h : (-2147483648 ≤ x ∧ x < 2147483648)) : rf_i x - rf_i x / 101 * 101 = rf_i (x.tmod 101) := by
  have h1 : Int32.minValue.toInt = -2147483648 := by decide
  have h2 : Int32.maxValue.toInt = 2147483647 := by decide
  have e : rf_i x / rf_i 101 = rf_i (x.tdiv 101) := (Int32.ofInt_tdiv (by omega) (by omega) (by omega) (by omega)).symm
  rw [rf_l101, e, rf_mul, rf_sub, Int.tmod_def, Int.mul_comm (x.tdiv 101) 101]
theorem rf_em {x : Int} (h : 0 ≤ x) (h2 : x < 2147483648) : rf_i x - rf_i x / 101 * 101 = rf_i (x % 101) := by
  rw [rf_tm (by omega), Int.tmod_eq_emod_of_nonneg h]
theorem rf_tme (x : Int) : (0 ≤ x.tmod 101 → x.tmod 101 = x % 101) ∧ (x.tmod 101 < 0 → x.tmod 101 + 101 = x % 101) ∧ -101 < x.tmod 101 ∧ x.tmod 101 < 101 := by
  rw [Int.tmod_eq_emod]
  by_cases h : 0 ≤ x ∨ (101 : Int) ∣ x
  · rw [if_pos h]
    omega
  · rw [if_neg h]
    have e : ((Int.natAbs 101 : Nat) : Int) = 101 := by decide
    rw [e]
    omega
theorem rf_mr (x : Int) : 0 ≤ x % 101 ∧ x % 101 < 101 := by omega
theorem rf_pb {x y : Int} (hx : 0 ≤ x ∧ x < 101) (hy : 0 ≤ y ∧ y < 101) : 0 ≤ x * y ∧ x * y ≤ 10000 :=
  ⟨Int.mul_nonneg hx.1 hy.1, by
    have h : x * y ≤ 100 * 100 := Int.mul_le_mul (by omega) (by omega) hy.1 (by omega)
    omega⟩
theorem rf_ble {x y : Int32} {A B : Prop} (a b : Int) (f : a ≤ b → A) (g : b < a → B) (hx : x = rf_i a := by first | with_reducible rfl | (simp only [rf_l0, rf_l1, rf_l2, rf_l3, rf_l4, rf_l6, rf_l7, rf_l11, rf_l12, rf_l13, rf_l14, rf_l15, rf_l16, rf_l17, rf_l18, rf_l19, rf_l20, rf_l21, rf_l22, rf_l23, rf_l24, rf_l25, rf_l39, rf_l40, rf_l80, rf_l101, rf_neg, rf_add, rf_sub, rf_mul]; done) | (simp only [rf_l0, rf_l1, rf_l2, rf_l3, rf_l4, rf_l6, rf_l7, rf_l11, rf_l12, rf_l13, rf_l14, rf_l15, rf_l16, rf_l17, rf_l18, rf_l19, rf_l20, rf_l21, rf_l22, rf_l23, rf_l24, rf_l25, rf_l39, rf_l40, rf_l80, rf_l101, rf_neg, rf_add, rf_sub, rf_mul]; exact congrArg rf_i (by omega)) | exact congrArg rf_i (by omega)) (hy : y = rf_i b := by first | with_reducible rfl | (simp only [rf_l0, rf_l1, rf_l2, rf_l3, rf_l4, rf_l6, rf_l7, rf_l11, rf_l12, rf_l13, rf_l14, rf_l15, rf_l16, rf_l17, rf_l18, rf_l19, rf_l20, rf_l21, rf_l22, rf_l23, rf_l24, rf_l25, rf_l39, rf_l40, rf_l80, rf_l101, rf_neg, rf_add, rf_sub, rf_mul]; done) | (simp only [rf_l0, rf_l1, rf_l2, rf_l3, rf_l4, rf_l6, rf_l7, rf_l11, rf_l12, rf_l13, rf_l14, rf_l15, rf_l16, rf_l17, rf_l18, rf_l19, rf_l20, rf_l21, rf_l22, rf_l23, rf_l24, rf_l25, rf_l39, rf_l40, rf_l80, rf_l101, rf_neg, rf_add, rf_sub, rf_mul]; exact congrArg rf_i (by omega)) | exact congrArg rf_i (by omega)) (ha : (-2147483648 ≤ a ∧ a < 2147483648) := by omega) (hb : (-2147483648 ≤ b ∧ b < 2147483648) := by omega) : (x ≤ y → A) ∧ (¬ x ≤ y → B) := by
  subst hx hy
  rw [rf_le ha hb]
  exact ⟨f, fun z => g (by omega)⟩
theorem rf_blt {x y : Int32} {A B : Prop} (a b : Int) (f : a < b → A) (g : b ≤ a → B) (hx : x = rf_i a := by first | with_reducible rfl | (simp only [rf_l0, rf_l1, rf_l2, rf_l3, rf_l4, rf_l6, rf_l7, rf_l11, rf_l12, rf_l13, rf_l14, rf_l15, rf_l16, rf_l17, rf_l18, rf_l19, rf_l20, rf_l21, rf_l22, rf_l23, rf_l24, rf_l25, rf_l39, rf_l40, rf_l80, rf_l101, rf_neg, rf_add, rf_sub, rf_mul]; done) | (simp only [rf_l0, rf_l1, rf_l2, rf_l3, rf_l4, rf_l6, rf_l7, rf_l11, rf_l12, rf_l13, rf_l14, rf_l15, rf_l16, rf_l17, rf_l18, rf_l19, rf_l20, rf_l21, rf_l22, rf_l23, rf_l24, rf_l25, rf_l39, rf_l40, rf_l80, rf_l101, rf_neg, rf_add, rf_sub, rf_mul]; exact congrArg rf_i (by omega)) | exact congrArg rf_i (by omega)) (hy : y = rf_i b := by first | with_reducible rfl | (simp only [rf_l0, rf_l1, rf_l2, rf_l3, rf_l4, rf_l6, rf_l7, rf_l11, rf_l12, rf_l13, rf_l14, rf_l15, rf_l16, rf_l17, rf_l18, rf_l19, rf_l20, rf_l21, rf_l22, rf_l23, rf_l24, rf_l25, rf_l39, rf_l40, rf_l80, rf_l101, rf_neg, rf_add, rf_sub, rf_mul]; done) | (simp only [rf_l0, rf_l1, rf_l2, rf_l3, rf_l4, rf_l6, rf_l7, rf_l11, rf_l12, rf_l13, rf_l14, rf_l15, rf_l16, rf_l17, rf_l18, rf_l19, rf_l20, rf_l21, rf_l22, rf_l23, rf_l24, rf_l25, rf_l39, rf_l40, rf_l80, rf_l101, rf_neg, rf_add, rf_sub, rf_mul]; exact congrArg rf_i (by omega)) | exact congrArg rf_i (by omega)) (ha : (-2147483648 ≤ a ∧ a < 2147483648) := by omega) (hb : (-2147483648 ≤ b ∧ b < 2147483648) := by omega) : (x < y → A) ∧ (¬ x < y → B) := by
  subst hx hy
  rw [rf_lt ha hb]
  exact ⟨f, fun z => g (by omega)⟩
theorem rf_beq {x y : Int32} {A B : Prop} (a b : Int) (f : a = b → A) (g : a ≠ b → B) (hx : x = rf_i a := by first | with_reducible rfl | (simp only [rf_l0, rf_l1, rf_l2, rf_l3, rf_l4, rf_l6, rf_l7, rf_l11, rf_l12, rf_l13, rf_l14, rf_l15, rf_l16, rf_l17, rf_l18, rf_l19, rf_l20, rf_l21, rf_l22, rf_l23, rf_l24, rf_l25, rf_l39, rf_l40, rf_l80, rf_l101, rf_neg, rf_add, rf_sub, rf_mul]; done) | (simp only [rf_l0, rf_l1, rf_l2, rf_l3, rf_l4, rf_l6, rf_l7, rf_l11, rf_l12, rf_l13, rf_l14, rf_l15, rf_l16, rf_l17, rf_l18, rf_l19, rf_l20, rf_l21, rf_l22, rf_l23, rf_l24, rf_l25, rf_l39, rf_l40, rf_l80, rf_l101, rf_neg, rf_add, rf_sub, rf_mul]; exact congrArg rf_i (by omega)) | exact congrArg rf_i (by omega)) (hy : y = rf_i b := by first | with_reducible rfl | (simp only [rf_l0, rf_l1, rf_l2, rf_l3, rf_l4, rf_l6, rf_l7, rf_l11, rf_l12, rf_l13, rf_l14, rf_l15, rf_l16, rf_l17, rf_l18, rf_l19, rf_l20, rf_l21, rf_l22, rf_l23, rf_l24, rf_l25, rf_l39, rf_l40, rf_l80, rf_l101, rf_neg, rf_add, rf_sub, rf_mul]; done) | (simp only [rf_l0, rf_l1, rf_l2, rf_l3, rf_l4, rf_l6, rf_l7, rf_l11, rf_l12, rf_l13, rf_l14, rf_l15, rf_l16, rf_l17, rf_l18, rf_l19, rf_l20, rf_l21, rf_l22, rf_l23, rf_l24, rf_l25, rf_l39, rf_l40, rf_l80, rf_l101, rf_neg, rf_add, rf_sub, rf_mul]; exact congrArg rf_i (by omega)) | exact congrArg rf_i (by omega)) (ha : (-2147483648 ≤ a ∧ a < 2147483648) := by omega) (hb : (-2147483648 ≤ b ∧ b < 2147483648) := by omega) : (x = y → A) ∧ (¬ x = y → B) := by
  subst hx hy
  rw [rf_eq ha hb]
  exact ⟨f, g⟩
/-- a function changed at one place -/
def rf_u {α : Type} (f : Nat → α) (k : Nat) (v : α) : Nat → α := fun j => if j = k then v else f j
theorem rf_us {α : Type} (f : Nat → α) (k : Nat) (v : α) : rf_u f k v k = v := if_pos rfl
theorem rf_un {α : Type} {f : Nat → α} {k j : Nat} {v : α} (h : j ≠ k) : rf_u f k v j = f j := if_neg h
theorem rf_uu {α : Type} (f : Nat → α) (k : Nat) (v w : α) : rf_u (rf_u f k v) k w = rf_u f k w := by
  funext j
  by_cases h : j = k
  · rw [h, rf_us, rf_us]
  · rw [rf_un h, rf_un h, rf_un h]
/-- the coefficients, 24 rows of 40, as the one array of 960 -/
def rf_fl (C : Nat → Nat → Int) : Nat → Int32 := fun k => rf_i (C (k / 40) (k % 40))
/-- an array of ints of the picture -/
def rf_ar (D : Nat → Int) : Nat → Int32 := fun k => rf_i (D k)
theorem rf_40 {p j : Nat} (hj : j < 40) : (p * 40 + j) / 40 = p ∧ (p * 40 + j) % 40 = j := by omega
theorem rf_cl40 {x : Int32} {p j : Nat} (hp : p < 24) (hj : j < 40) (hx : x = rf_i ((p : Int) * 40 + j)) : x.toNatClampNeg = p * 40 + j := by
  rw [hx, rf_clamp (by omega) (by omega)]
  omega
theorem rf_rdx {x : Int32} (C : Nat → Nat → Int) (p j : Nat) (hp : p < 24) (hj : j < 40) (hx : x = rf_i ((p : Int) * 40 + j) := by first | with_reducible rfl | (simp only [rf_l0, rf_l1, rf_l2, rf_l3, rf_l4, rf_l6, rf_l7, rf_l11, rf_l12, rf_l13, rf_l14, rf_l15, rf_l16, rf_l17, rf_l18, rf_l19, rf_l20, rf_l21, rf_l22, rf_l23, rf_l24, rf_l25, rf_l39, rf_l40, rf_l80, rf_l101, rf_neg, rf_add, rf_sub, rf_mul]; done) | (simp only [rf_l0, rf_l1, rf_l2, rf_l3, rf_l4, rf_l6, rf_l7, rf_l11, rf_l12, rf_l13, rf_l14, rf_l15, rf_l16, rf_l17, rf_l18, rf_l19, rf_l20, rf_l21, rf_l22, rf_l23, rf_l24, rf_l25, rf_l39, rf_l40, rf_l80, rf_l101, rf_neg, rf_add, rf_sub, rf_mul]; exact congrArg rf_i (by omega)) | exact congrArg rf_i (by omega)) : rf_fl C x.toNatClampNeg = rf_i (C p j) := by
  rw [rf_cl40 hp hj hx]
  show rf_i (C ((p * 40 + j) / 40) ((p * 40 + j) % 40)) = _
  rw [(rf_40 hj).1, (rf_40 hj).2]
theorem rf_wrx {x v : Int32} (C : Nat → Nat → Int) (p j : Nat) (w : Int) (hp : p < 24) (hj : j < 40) (hv : v = rf_i w) (hx : x = rf_i ((p : Int) * 40 + j) := by first | with_reducible rfl | (simp only [rf_l0, rf_l1, rf_l2, rf_l3, rf_l4, rf_l6, rf_l7, rf_l11, rf_l12, rf_l13, rf_l14, rf_l15, rf_l16, rf_l17, rf_l18, rf_l19, rf_l20, rf_l21, rf_l22, rf_l23, rf_l24, rf_l25, rf_l39, rf_l40, rf_l80, rf_l101, rf_neg, rf_add, rf_sub, rf_mul]; done) | (simp only [rf_l0, rf_l1, rf_l2, rf_l3, rf_l4, rf_l6, rf_l7, rf_l11, rf_l12, rf_l13, rf_l14, rf_l15, rf_l16, rf_l17, rf_l18, rf_l19, rf_l20, rf_l21, rf_l22, rf_l23, rf_l24, rf_l25, rf_l39, rf_l40, rf_l80, rf_l101, rf_neg, rf_add, rf_sub, rf_mul]; exact congrArg rf_i (by omega)) | exact congrArg rf_i (by omega)) : upd (rf_fl C) x.toNatClampNeg v = rf_fl (rf_u C p (rf_u (C p) j w)) := by
  rw [rf_cl40 hp hj hx, hv]
  funext k
  show (if k = p * 40 + j then rf_i w else rf_i (C (k / 40) (k % 40))) = rf_i (rf_u C p (rf_u (C p) j w) (k / 40) (k % 40))
  by_cases e : k = p * 40 + j
  · rw [if_pos e, e, (rf_40 hj).1, (rf_40 hj).2, rf_us, rf_us]
  · rw [if_neg e]
    by_cases e1 : k / 40 = p
    · rw [e1, rf_us, rf_un (by omega)]
    · rw [rf_un e1]
theorem rf_inx {x : Int32} (p j : Nat) (hp : p < 24) (hj : j < 40) (hx : x = rf_i ((p : Int) * 40 + j) := by first | with_reducible rfl | (simp only [rf_l0, rf_l1, rf_l2, rf_l3, rf_l4, rf_l6, rf_l7, rf_l11, rf_l12, rf_l13, rf_l14, rf_l15, rf_l16, rf_l17, rf_l18, rf_l19, rf_l20, rf_l21, rf_l22, rf_l23, rf_l24, rf_l25, rf_l39, rf_l40, rf_l80, rf_l101, rf_neg, rf_add, rf_sub, rf_mul]; done) | (simp only [rf_l0, rf_l1, rf_l2, rf_l3, rf_l4, rf_l6, rf_l7, rf_l11, rf_l12, rf_l13, rf_l14, rf_l15, rf_l16, rf_l17, rf_l18, rf_l19, rf_l20, rf_l21, rf_l22, rf_l23, rf_l24, rf_l25, rf_l39, rf_l40, rf_l80, rf_l101, rf_neg, rf_add, rf_sub, rf_mul]; exact congrArg rf_i (by omega)) | exact congrArg rf_i (by omega)) : vp_in x 960 := by
  rw [hx]
  exact rf_in (by omega) (by omega) (by omega)
theorem rf_rdd {x : Int32} (D : Nat → Int) (p : Nat) (hp : p < 24) (hx : x = rf_i (p : Int) := by first | with_reducible rfl | (simp only [rf_l0, rf_l1, rf_l2, rf_l3, rf_l4, rf_l6, rf_l7, rf_l11, rf_l12, rf_l13, rf_l14, rf_l15, rf_l16, rf_l17, rf_l18, rf_l19, rf_l20, rf_l21, rf_l22, rf_l23, rf_l24, rf_l25, rf_l39, rf_l40, rf_l80, rf_l101, rf_neg, rf_add, rf_sub, rf_mul]; done) | (simp only [rf_l0, rf_l1, rf_l2, rf_l3, rf_l4, rf_l6, rf_l7, rf_l11, rf_l12, rf_l13, rf_l14, rf_l15, rf_l16, rf_l17, rf_l18, rf_l19, rf_l20, rf_l21, rf_l22, rf_l23, rf_l24, rf_l25, rf_l39, rf_l40, rf_l80, rf_l101, rf_neg, rf_add, rf_sub, rf_mul]; exact congrArg rf_i (by omega)) | exact congrArg rf_i (by omega)) : rf_ar D x.toNatClampNeg = rf_i (D p) := by
  rw [hx, rf_clamp (by omega) (by omega)]
  rfl
theorem rf_wrd {x v : Int32} (D : Nat → Int) (p : Nat) (w : Int) (hp : p < 24) (hv : v = rf_i w := by first | with_reducible rfl | (simp only [rf_l0, rf_l1, rf_l2, rf_l3, rf_l4, rf_l6, rf_l7, rf_l11, rf_l12, rf_l13, rf_l14, rf_l15, rf_l16, rf_l17, rf_l18, rf_l19, rf_l20, rf_l21, rf_l22, rf_l23, rf_l24, rf_l25, rf_l39, rf_l40, rf_l80, rf_l101, rf_neg, rf_add, rf_sub, rf_mul]; done) | (simp only [rf_l0, rf_l1, rf_l2, rf_l3, rf_l4, rf_l6, rf_l7, rf_l11, rf_l12, rf_l13, rf_l14, rf_l15, rf_l16, rf_l17, rf_l18, rf_l19, rf_l20, rf_l21, rf_l22, rf_l23, rf_l24, rf_l25, rf_l39, rf_l40, rf_l80, rf_l101, rf_neg, rf_add, rf_sub, rf_mul]; exact congrArg rf_i (by omega)) | exact congrArg rf_i (by omega)) (hx : x = rf_i (p : Int) := by first | with_reducible rfl | (simp only [rf_l0, rf_l1, rf_l2, rf_l3, rf_l4, rf_l6, rf_l7, rf_l11, rf_l12, rf_l13, rf_l14, rf_l15, rf_l16, rf_l17, rf_l18, rf_l19, rf_l20, rf_l21, rf_l22, rf_l23, rf_l24, rf_l25, rf_l39, rf_l40, rf_l80, rf_l101, rf_neg, rf_add, rf_sub, rf_mul]; done) | (simp only [rf_l0, rf_l1, rf_l2, rf_l3, rf_l4, rf_l6, rf_l7, rf_l11, rf_l12, rf_l13, rf_l14, rf_l15, rf_l16, rf_l17, rf_l18, rf_l19, rf_l20, rf_l21, rf_l22, rf_l23, rf_l24, rf_l25, rf_l39, rf_l40, rf_l80, rf_l101, rf_neg, rf_add, rf_sub, rf_mul]; exact congrArg rf_i (by omega)) | exact congrArg rf_i (by omega)) : upd (rf_ar D) x.toNatClampNeg v = rf_ar (rf_u D p w) := by
  rw [hx, hv, rf_clamp (by omega) (by omega)]
  funext k
  show (if k = p then rf_i w else rf_i (D k)) = rf_i (rf_u D p w k)
  by_cases e : k = p
  · rw [if_pos e, e, rf_us]
  · rw [if_neg e, rf_un e]
theorem rf_ind {x : Int32} {N : Nat} (p : Nat) (hp : p < N) (hx : x = rf_i (p : Int) := by first | with_reducible rfl | (simp only [rf_l0, rf_l1, rf_l2, rf_l3, rf_l4, rf_l6, rf_l7, rf_l11, rf_l12, rf_l13, rf_l14, rf_l15, rf_l16, rf_l17, rf_l18, rf_l19, rf_l20, rf_l21, rf_l22, rf_l23, rf_l24, rf_l25, rf_l39, rf_l40, rf_l80, rf_l101, rf_neg, rf_add, rf_sub, rf_mul]; done) | (simp only [rf_l0, rf_l1, rf_l2, rf_l3, rf_l4, rf_l6, rf_l7, rf_l11, rf_l12, rf_l13, rf_l14, rf_l15, rf_l16, rf_l17, rf_l18, rf_l19, rf_l20, rf_l21, rf_l22, rf_l23, rf_l24, rf_l25, rf_l39, rf_l40, rf_l80, rf_l101, rf_neg, rf_add, rf_sub, rf_mul]; exact congrArg rf_i (by omega)) | exact congrArg rf_i (by omega)) (hN : N < 2147483648 := by omega) : vp_in x N := by
  rw [hx]
  exact rf_in (by omega) (by omega) hN
/-- a loop that counts up from 0 -/
theorem rf_loop {σ : Type} (W : Nat → Int32 → σ → Prop) (I : Nat → σ → Prop) (e : Nat) (s : σ) {z : Int32} (h0 : I 0 s) (hx : ∀ n s, I e s → W (n + 1) (rf_i (e : Int)) s)
    (hs : ∀ n i s, i < e → I i s → (∀ s', I (i + 1) s' → W n (rf_i ((i + 1 : Nat) : Int)) s') → W (n + 1) (rf_i (i : Int)) s) (hz : z = rf_i ((0 : Nat) : Int) := by rfl) : ∃ n, W n z s := by
  rw [hz]
  exact pk_loop (fun n i s => W n (rf_i (i : Int)) s) I e 0 s (by omega) h0 hx hs
theorem rf_nx (i : Nat) : rf_i (i : Int) + 1 = rf_i ((i + 1 : Nat) : Int) := by first | with_reducible rfl | (simp only [rf_l0, rf_l1, rf_l2, rf_l3, rf_l4, rf_l6, rf_l7, rf_l11, rf_l12, rf_l13, rf_l14, rf_l15, rf_l16, rf_l17, rf_l18, rf_l19, rf_l20, rf_l21, rf_l22, rf_l23, rf_l24, rf_l25, rf_l39, rf_l40, rf_l80, rf_l101, rf_neg, rf_add, rf_sub, rf_mul]; done) | (simp only [rf_l0, rf_l1, rf_l2, rf_l3, rf_l4, rf_l6, rf_l7, rf_l11, rf_l12, rf_l13, rf_l14, rf_l15, rf_l16, rf_l17, rf_l18, rf_l19, rf_l20, rf_l21, rf_l22, rf_l23, rf_l24, rf_l25, rf_l39, rf_l40, rf_l80, rf_l101, rf_neg, rf_add, rf_sub, rf_mul]; exact congrArg rf_i (by omega)) | exact congrArg rf_i (by omega)
/-- row p filled up to place i -/
def rf_mx (C : Nat → Nat → Int) (p i : Nat) (G : Nat → Int) : Nat → Nat → Int := rf_u C p (fun j => if j < i then G j else C p j)
theorem rf_mx0 (C : Nat → Nat → Int) (p : Nat) (G : Nat → Int) : rf_mx C p 0 G = C := by
  funext q
  unfold rf_mx
  by_cases h : q = p
  · rw [h, rf_us]
    funext j
    rw [if_neg (by omega)]
  · rw [rf_un h]
theorem rf_mxS {C : Nat → Nat → Int} {p i : Nat} {G : Nat → Int} {w : Int} (hw : w = G i) : rf_u (rf_mx C p i G) p (rf_u (rf_mx C p i G p) i w) = rf_mx C p (i + 1) G := by
  unfold rf_mx
  rw [rf_uu, rf_us]
  refine congrArg (rf_u C p) ?_
  funext j
  by_cases h : j = i
  · rw [h, rf_us, if_pos (by omega), hw]
  · rw [rf_un h]
    by_cases h2 : j < i
    · rw [if_pos h2, if_pos (by omega)]
    · rw [if_neg h2, if_neg (by omega)]
theorem rf_flc {C C' : Nat → Nat → Int} (h : ∀ p j, j < 40 → C p j = C' p j) : rf_fl C = rf_fl C' := by
  funext k
  show rf_i (C (k / 40) (k % 40)) = rf_i (C' (k / 40) (k % 40))
  rw [h _ _ (Nat.mod_lt k (by omega))]
theorem rf_mx40 (C : Nat → Nat → Int) (p : Nat) (G : Nat → Int) : rf_fl (rf_mx C p 40 G) = rf_fl (rf_u C p G) := by
  refine rf_flc (fun q j hj => ?_)
  unfold rf_mx
  by_cases h : q = p
  · rw [h, rf_us, rf_us, if_pos hj]
  · rw [rf_un h, rf_un h]
theorem rf_mxo {C : Nat → Nat → Int} {p i q : Nat} {G : Nat → Int} (h : q ≠ p) : rf_mx C p i G q = C q := rf_un h
theorem rf_mxp {C : Nat → Nat → Int} {p i j : Nat} {G : Nat → Int} (h : i ≤ j) : rf_mx C p i G p j = C p j := by
  unfold rf_mx
  rw [rf_us, if_neg (by omega)]
theorem rf_mxr {C : Nat → Nat → Int} {p i q j : Nat} {G : Nat → Int} (h : q ≠ p ∨ i ≤ j) : rf_mx C p i G q j = C q j := by
  by_cases e : q = p
  · rw [e]
    exact rf_mxp (by omega)
  · rw [rf_mxo e]
end
section
/-- coefficients below 101 -/
def rf_bd (c : Nat → Int) : Prop := ∀ j, j < 40 → 0 ≤ c j ∧ c j < 101
/-- the highest place below k that isn't 0, or -1 -/
def rf_fd (c : Nat → Int) : Nat → Int
  | 0 => -1
  | k + 1 => if c k = 0 then rf_fd c k else (k : Int)
def rf_dg (c : Nat → Int) : Int := rf_fd c 40
theorem rf_fd_s {c : Nat → Int} {k : Nat} (h : c k = 0) : rf_fd c (k + 1) = rf_fd c k := if_pos h
theorem rf_fd_t {c : Nat → Int} {k : Nat} (h : ¬ c k = 0) : rf_fd c (k + 1) = (k : Int) := if_neg h
theorem rf_fd_lt (c : Nat → Int) (k : Nat) : -1 ≤ rf_fd c k ∧ rf_fd c k < k := by
  induction k with
  | zero =>
    show (-1 : Int) ≤ -1 ∧ (-1 : Int) < ((0 : Nat) : Int)
    omega
  | succ k ih =>
    by_cases h : c k = 0
    · rw [rf_fd_s h]
      omega
    · rw [rf_fd_t h]
      omega
theorem rf_fd_z (c : Nat → Int) (k : Nat) : ∀ j : Nat, j < k → rf_fd c k < j → c j = 0 := by
  induction k with
  | zero => intro j hj; omega
  | succ k ih =>
    intro j hj hl
    by_cases h : c k = 0
    · rw [rf_fd_s h] at hl
      by_cases e : j = k
      · rw [e, h]
      · exact ih j (by omega) hl
    · rw [rf_fd_t h] at hl
      omega
theorem rf_fd_n (c : Nat → Int) (k : Nat) : 0 ≤ rf_fd c k → ¬ c (rf_fd c k).toNat = 0 := by
  induction k with
  | zero =>
    intro h
    have h' : (0 : Int) ≤ -1 := h
    omega
  | succ k ih =>
    by_cases h : c k = 0
    · rw [rf_fd_s h]
      exact ih
    · rw [rf_fd_t h]
      intro _
      rw [Int.toNat_natCast]
      exact h
theorem rf_fd_le {c : Nat → Int} {k : Nat} {e : Int} (he : -1 ≤ e) (h : ∀ j : Nat, j < k → e < j → c j = 0) : rf_fd c k ≤ e := by
  rcases Int.lt_or_le e (rf_fd c k) with g | g
  · have h1 := rf_fd_lt c k
    exact absurd (h (rf_fd c k).toNat (by omega) (by omega)) (rf_fd_n c k (by omega))
  · exact g
theorem rf_fd_e {c : Nat → Int} {k e : Nat} (he : e < k) (hn : ¬ c e = 0) (h : ∀ j : Nat, j < k → e < j → c j = 0) : rf_fd c k = e := by
  have h1 : rf_fd c k ≤ e := rf_fd_le (by omega) (fun j hj hl => h j hj (by omega))
  rcases Int.lt_or_le (rf_fd c k) e with g | g
  · exact absurd (rf_fd_z c k e he g) hn
  · omega
theorem rf_dg_lt (c : Nat → Int) : -1 ≤ rf_dg c ∧ rf_dg c < 40 := rf_fd_lt c 40
theorem rf_dg_z {c : Nat → Int} {j : Nat} (hj : j < 40) (h : rf_dg c < j) : c j = 0 := rf_fd_z c 40 j hj h
theorem rf_dg_n {c : Nat → Int} (h : 0 ≤ rf_dg c) : ¬ c (rf_dg c).toNat = 0 := rf_fd_n c 40 h
theorem rf_dg_le {c : Nat → Int} {e : Int} (he : -1 ≤ e) (h : ∀ j : Nat, j < 40 → e < j → c j = 0) : rf_dg c ≤ e := rf_fd_le he h
theorem rf_dg_e {c : Nat → Int} {e : Nat} (he : e < 40) (hn : ¬ c e = 0) (h : ∀ j : Nat, j < 40 → e < j → c j = 0) : rf_dg c = e := rf_fd_e he hn h
theorem rf_bd_0 : rf_bd (fun _ => 0) := fun j _ => by
  show (0 : Int) ≤ 0 ∧ (0 : Int) < 101
  omega
theorem rf_dg_0 : rf_dg (fun _ => 0) = -1 := by
  have h1 := rf_dg_lt (fun _ => 0)
  have h2 : rf_dg (fun _ => 0) ≤ -1 := rf_dg_le (by omega) (fun j _ _ => rfl)
  omega
theorem rf_bd_u {c : Nat → Int} {k : Nat} {v : Int} (h : rf_bd c) (hv : 0 ≤ v ∧ v < 101) : rf_bd (rf_u c k v) := fun j hj => by
  by_cases e : j = k
  · rw [e, rf_us]
    exact hv
  · rw [rf_un e]
    exact h j hj
/-- the constant c -/
def rf_k (c : Int) : Nat → Int := rf_u (fun _ => 0) 0 c
theorem rf_k_bd {c : Int} (h : 0 ≤ c ∧ c < 101) : rf_bd (rf_k c) := rf_bd_u rf_bd_0 h
theorem rf_k_dg {c : Int} (h : ¬ c = 0) : rf_dg (rf_k c) = 0 :=
  rf_dg_e (e := 0) (by omega) (by rw [show rf_k c 0 = c from rf_us _ _ _]; exact h) (fun j _ hl => rf_un (by omega))
theorem rf_k_0 : rf_dg (rf_k 0) = -1 := by
  have h1 := rf_dg_lt (rf_k 0)
  have h2 : rf_dg (rf_k 0) ≤ -1 := rf_dg_le (by omega) (fun j _ _ => by
    by_cases e : j = 0
    · rw [e]
      exact rf_us _ _ _
    · exact rf_un e)
  omega
theorem rf_k_1 : rf_k 1 0 = 1 := rf_us _ _ _
/-- the variable -/
def rf_x : Nat → Int := rf_u (fun _ => 0) 1 1
theorem rf_x_bd : rf_bd rf_x := rf_bd_u rf_bd_0 (by omega)
theorem rf_x_dg : rf_dg rf_x = 1 :=
  rf_dg_e (e := 1) (by omega) (by rw [show rf_x 1 = 1 from rf_us _ _ _]; decide) (fun j _ hl => rf_un (by omega))
/-- 101 is a prime -/
theorem rf_prD : ∀ x : Fin 101, ∀ y : Fin 101, x.val ≠ 0 → y.val ≠ 0 → x.val * y.val % 101 ≠ 0 := by decide +kernel
theorem rf_pr {x y : Int} (hx : 0 ≤ x ∧ x < 101) (hy : 0 ≤ y ∧ y < 101) (h1 : ¬ x = 0) (h2 : ¬ y = 0) : ¬ x * y % 101 = 0 := by
  obtain ⟨n, rfl⟩ := Int.eq_ofNat_of_zero_le hx.1
  obtain ⟨m, rfl⟩ := Int.eq_ofNat_of_zero_le hy.1
  have h := rf_prD ⟨n, by omega⟩ ⟨m, by omega⟩ (by show n ≠ 0; omega) (by show m ≠ 0; omega)
  have h' : n * m % 101 ≠ 0 := h
  have e : (n : Int) * (m : Int) = ((n * m : Nat) : Int) := (Int.natCast_mul n m).symm
  rw [e]
  omega
theorem rf_pr2 {x y : Int} (hx : ¬ x % 101 = 0) (h : x * y % 101 = 0) : y % 101 = 0 := by
  by_cases e : y % 101 = 0
  · exact e
  · rw [Int.mul_emod] at h
    exact absurd h (rf_pr (rf_mr x) (rf_mr y) hx e)
/-- a to the power 99, as the Java text reckons it -/
def rf_q (s : Int) : Int := s * s % 101
def rf_iv (a : Int) : Int := (((1 * a % 101) * rf_q a % 101) * rf_q (rf_q (rf_q (rf_q (rf_q a)))) % 101) * rf_q (rf_q (rf_q (rf_q (rf_q (rf_q a))))) % 101
theorem rf_ivD : ∀ a : Fin 101, a.val ≠ 0 → 0 < rf_iv (a.val : Int) ∧ rf_iv (a.val : Int) < 101 ∧ (a.val : Int) * rf_iv (a.val : Int) % 101 = 1 := by decide +kernel
theorem rf_iv_s {a : Int} (ha : 0 ≤ a ∧ a < 101) (h : ¬ a = 0) : 0 < rf_iv a ∧ rf_iv a < 101 ∧ a * rf_iv a % 101 = 1 := by
  obtain ⟨n, rfl⟩ := Int.eq_ofNat_of_zero_le ha.1
  exact rf_ivD ⟨n, by omega⟩ (by show n ≠ 0; omega)
theorem rf_iv_r (a : Int) : 0 ≤ rf_iv a ∧ rf_iv a < 101 := rf_mr _
theorem rf_cn {x y v : Int} (h : y * v % 101 = 1) : (x - (x * v % 101) * y) % 101 = 0 := by
  have h1 : x * v % 101 = x * v - 101 * (x * v / 101) := Int.emod_def _ _
  have h2 : y * v = 101 * (y * v / 101) + 1 := by omega
  have h3 : x - (x * v % 101) * y = 101 * ((x * v / 101) * y - x * (y * v / 101)) := by
    rw [h1]
    generalize x * v / 101 = q at *
    generalize y * v / 101 = t at *
    have h4 : x * (y * v) = x * (101 * t + 1) := by rw [h2]
    grind
  rw [h3]
  exact Int.mul_emod_right 101 _
end
section
/-- the product, place by place as the Java text reckons it -/
def rf_mi (cp cq : Nat → Int) (i : Nat) : Nat → (Nat → Int) → (Nat → Int)
  | 0, M => M
  | j + 1, M => rf_u (rf_mi cp cq i j M) (i + j) ((rf_mi cp cq i j M (i + j) + cp i * cq j) % 101)
def rf_mo (cp cq : Nat → Int) (e : Nat) : Nat → (Nat → Int)
  | 0 => fun _ => 0
  | i + 1 => rf_mi cp cq i e (rf_mo cp cq e i)
def rf_ml (cp cq : Nat → Int) : Nat → Int := rf_mo cp cq (rf_dg cq + 1).toNat (rf_dg cp + 1).toNat
theorem rf_mi_b (cp cq : Nat → Int) (i : Nat) {M : Nat → Int} (h : rf_bd M) : ∀ j, rf_bd (rf_mi cp cq i j M)
  | 0 => h
  | j + 1 => rf_bd_u (rf_mi_b cp cq i h j) (rf_mr _)
theorem rf_mo_b (cp cq : Nat → Int) (e : Nat) : ∀ i, rf_bd (rf_mo cp cq e i)
  | 0 => rf_bd_0
  | i + 1 => rf_mi_b cp cq i (rf_mo_b cp cq e i) e
theorem rf_ml_b (cp cq : Nat → Int) : rf_bd (rf_ml cp cq) := rf_mo_b cp cq _ _
theorem rf_mi_o (cp cq : Nat → Int) (i : Nat) (M : Nat → Int) {k : Nat} : ∀ j, i + j ≤ k → rf_mi cp cq i j M k = M k
  | 0, _ => rfl
  | j + 1, h => by
    show rf_u (rf_mi cp cq i j M) (i + j) _ k = M k
    rw [rf_un (by omega)]
    exact rf_mi_o cp cq i M j (by omega)
theorem rf_mo_z (cp cq : Nat → Int) (e : Nat) {k : Nat} : ∀ i, i + e ≤ k + 1 → rf_mo cp cq e i k = 0
  | 0, _ => rfl
  | i + 1, h => by
    show rf_mi cp cq i e (rf_mo cp cq e i) k = 0
    rw [rf_mi_o cp cq i _ e (by omega)]
    exact rf_mo_z cp cq e i (by omega)
theorem rf_mo_l (cp cq : Nat → Int) (e i : Nat) : rf_mo cp cq (e + 1) (i + 1) (i + e) = cp i * cq e % 101 := by
  show rf_u (rf_mi cp cq i e (rf_mo cp cq (e + 1) i)) (i + e) ((rf_mi cp cq i e (rf_mo cp cq (e + 1) i) (i + e) + cp i * cq e) % 101) (i + e) = _
  rw [rf_us, rf_mi_o cp cq i _ e (by omega), rf_mo_z cp cq (e + 1) i (by omega), Int.zero_add]
theorem rf_ml_le {cp cq : Nat → Int} {E : Int} (hE : -1 ≤ E) (h : rf_dg cp + rf_dg cq ≤ E) : rf_dg (rf_ml cp cq) ≤ E := by
  have h1 := rf_dg_lt cp
  have h2 := rf_dg_lt cq
  exact rf_dg_le hE (fun j _ hl => rf_mo_z cp cq _ _ (by omega))
theorem rf_ml_dg {cp cq : Nat → Int} (bp : rf_bd cp) (bq : rf_bd cq) (hp : 0 ≤ rf_dg cp) (hq : 0 ≤ rf_dg cq) (h : rf_dg cp + rf_dg cq < 40) : rf_dg (rf_ml cp cq) = rf_dg cp + rf_dg cq := by
  have n1 := rf_dg_n hp
  have n2 := rf_dg_n hq
  have b1 := bp (rf_dg cp).toNat (by omega)
  have b2 := bq (rf_dg cq).toNat (by omega)
  have e : rf_ml cp cq ((rf_dg cp).toNat + (rf_dg cq).toNat) = cp (rf_dg cp).toNat * cq (rf_dg cq).toNat % 101 := by
    unfold rf_ml
    rw [show (rf_dg cq + 1).toNat = (rf_dg cq).toNat + 1 by omega, show (rf_dg cp + 1).toNat = (rf_dg cp).toNat + 1 by omega]
    exact rf_mo_l cp cq _ _
  have r : rf_dg (rf_ml cp cq) = (((rf_dg cp).toNat + (rf_dg cq).toNat : Nat) : Int) := by
    refine rf_dg_e (by omega) ?_ (fun j _ hl => rf_mo_z cp cq _ _ (by omega))
    rw [e]
    exact rf_pr b1 b2 n1 n2
  rw [r]
  omega
/-- p + s q -/
def rf_ad (s : Int) (cp cq : Nat → Int) : Nat → Int := fun j => (cp j + s * cq j) % 101
theorem rf_ad_b (s : Int) (cp cq : Nat → Int) : rf_bd (rf_ad s cp cq) := fun _ _ => rf_mr _
theorem rf_ad_le {s : Int} {cp cq : Nat → Int} {E : Int} (hE : -1 ≤ E) (h1 : rf_dg cp ≤ E) (h2 : rf_dg cq ≤ E) : rf_dg (rf_ad s cp cq) ≤ E :=
  rf_dg_le hE (fun j hj hl => by
    show (cp j + s * cq j) % 101 = 0
    rw [rf_dg_z hj (by omega : rf_dg cp < j), rf_dg_z hj (by omega : rf_dg cq < j), Int.mul_zero]
    decide)
/-- the derivative -/
def rf_dr (c : Nat → Int) : Nat → Int := fun j => if j < 39 then ((j : Int) + 1) * c (j + 1) % 101 else 0
theorem rf_dr_b (c : Nat → Int) : rf_bd (rf_dr c) := fun j _ => by
  unfold rf_dr
  by_cases h : j < 39
  · rw [if_pos h]
    exact rf_mr _
  · rw [if_neg h]
    omega
theorem rf_dr_le (c : Nat → Int) : rf_dg (rf_dr c) ≤ rf_dg c :=
  rf_dg_le (rf_dg_lt c).1 (fun j hj hl => by
    unfold rf_dr
    by_cases h : j < 39
    · rw [if_pos h, rf_dg_z (c := c) (by omega : j + 1 < 40) (by omega), Int.mul_zero]
      decide
    · rw [if_neg h])
/-- k times p -/
def rf_sc (c : Nat → Int) (k : Int) : Nat → Int := fun j => c j * k % 101
theorem rf_sc_b (c : Nat → Int) (k : Int) : rf_bd (rf_sc c k) := fun _ _ => rf_mr _
theorem rf_sc_dg {c : Nat → Int} {k : Int} (b : rf_bd c) (hk : 0 ≤ k ∧ k < 101) (h0 : ¬ k = 0) : rf_dg (rf_sc c k) = rf_dg c := by
  have l := rf_dg_lt c
  have z : ∀ j : Nat, j < 40 → rf_dg c < j → rf_sc c k j = 0 := fun j hj hl => by
    show c j * k % 101 = 0
    rw [rf_dg_z hj hl, Int.zero_mul]
    decide
  by_cases h : 0 ≤ rf_dg c
  · have r : rf_dg (rf_sc c k) = ((rf_dg c).toNat : Int) :=
      rf_dg_e (by omega) (rf_pr (b _ (by omega)) hk (rf_dg_n h) h0) (fun j hj hl => z j hj (by omega))
    rw [r]
    omega
  · have l2 := rf_dg_lt (rf_sc c k)
    have r : rf_dg (rf_sc c k) ≤ rf_dg c := rf_dg_le (by omega) z
    omega
/-- one round of a division -/
def rf_dk (c b : Nat → Int) : Int := c (rf_dg c).toNat * rf_iv (b (rf_dg b).toNat) % 101
def rf_ds (c b : Nat → Int) (k : Int) (sh i : Nat) : Nat → Int := fun j => if sh ≤ j ∧ j < sh + i then (c j - k * b (j - sh)) % 101 else c j
def rf_dc (c b : Nat → Int) : Nat → Int := rf_ds c b (rf_dk c b) (rf_dg c - rf_dg b).toNat (rf_dg b + 1).toNat
def rf_dv (b : Nat → Int) : Nat → (Nat → Int) → (Nat → Int) → (Nat → Int) × (Nat → Int)
  | 0, c, z => (c, z)
  | m + 1, c, z => if rf_dg c < rf_dg b then (c, z) else rf_dv b m (rf_dc c b) (rf_u z (rf_dg c - rf_dg b).toNat (rf_dk c b))
theorem rf_dv_t {b c z : Nat → Int} {m : Nat} (h : rf_dg c < rf_dg b) : rf_dv b (m + 1) c z = (c, z) := if_pos h
theorem rf_dv_f {b c z : Nat → Int} {m : Nat} (h : ¬ rf_dg c < rf_dg b) : rf_dv b (m + 1) c z = rf_dv b m (rf_dc c b) (rf_u z (rf_dg c - rf_dg b).toNat (rf_dk c b)) := if_neg h
theorem rf_ds_b {c b : Nat → Int} {k : Int} {sh i : Nat} (h : rf_bd c) : rf_bd (rf_ds c b k sh i) := fun j hj => by
  unfold rf_ds
  by_cases e : sh ≤ j ∧ j < sh + i
  · rw [if_pos e]
    exact rf_mr _
  · rw [if_neg e]
    exact h j hj
theorem rf_dc_b {c b : Nat → Int} (h : rf_bd c) : rf_bd (rf_dc c b) := rf_ds_b h
theorem rf_dc_dg {c b : Nat → Int} (hb : rf_bd b) (h0 : 0 ≤ rf_dg b) (h : rf_dg b ≤ rf_dg c) : rf_dg (rf_dc c b) < rf_dg c := by
  have l := rf_dg_lt c
  have l2 := rf_dg_lt b
  have r : rf_dg (rf_dc c b) ≤ rf_dg c - 1 := by
    refine rf_dg_le (by omega) (fun j hj hl => ?_)
    unfold rf_dc rf_ds
    by_cases e : j = (rf_dg c).toNat
    · rw [if_pos (by omega), show j - (rf_dg c - rf_dg b).toNat = (rf_dg b).toNat by omega, e]
      exact rf_cn (rf_iv_s (hb _ (by omega)) (rf_dg_n h0)).2.2
    · rw [if_neg (by omega)]
      exact rf_dg_z hj (by omega)
  omega
theorem rf_dv_r {b : Nat → Int} (hb : rf_bd b) (h0 : 0 ≤ rf_dg b) : ∀ (m : Nat) (c z : Nat → Int), rf_bd c → rf_dg c < rf_dg b + m → rf_bd (rf_dv b m c z).1 ∧ rf_dg (rf_dv b m c z).1 < rf_dg b ∧ rf_dg (rf_dv b m c z).1 ≤ rf_dg c
  | 0, c, z, hc, h => ⟨hc, by show rf_dg c < rf_dg b; omega, Int.le_refl _⟩
  | m + 1, c, z, hc, h => by
    by_cases e : rf_dg c < rf_dg b
    · rw [rf_dv_t e]
      exact ⟨hc, e, Int.le_refl _⟩
    · rw [rf_dv_f e]
      have g := rf_dc_dg hb h0 (by omega : rf_dg b ≤ rf_dg c)
      obtain ⟨r1, r2, r3⟩ := rf_dv_r hb h0 m (rf_dc c b) (rf_u z (rf_dg c - rf_dg b).toNat (rf_dk c b)) (rf_dc_b hc) (by omega)
      exact ⟨r1, r2, by omega⟩
theorem rf_dv_q {b : Nat → Int} (hb : rf_bd b) (h0 : 0 ≤ rf_dg b) : ∀ (m : Nat) (c z : Nat → Int), rf_bd z → rf_bd (rf_dv b m c z).2 ∧ ∀ j : Nat, rf_dg c - rf_dg b < j → (rf_dv b m c z).2 j = z j
  | 0, c, z, hz => ⟨hz, fun _ _ => rfl⟩
  | m + 1, c, z, hz => by
    by_cases e : rf_dg c < rf_dg b
    · rw [rf_dv_t e]
      exact ⟨hz, fun _ _ => rfl⟩
    · rw [rf_dv_f e]
      have g := rf_dc_dg hb h0 (by omega : rf_dg b ≤ rf_dg c)
      obtain ⟨r1, r2⟩ := rf_dv_q hb h0 m (rf_dc c b) (rf_u z (rf_dg c - rf_dg b).toNat (rf_dk c b)) (rf_bd_u hz (rf_mr _))
      exact ⟨r1, fun j hj => by rw [r2 j (by omega), rf_un (by omega)]⟩
/-- the remainder and the quotient -/
def rf_md (a b : Nat → Int) : Nat → Int := (rf_dv b 40 a (fun _ => 0)).1
def rf_qt (a b : Nat → Int) : Nat → Int := (rf_dv b 40 a (fun _ => 0)).2
theorem rf_md_s {a b : Nat → Int} (ha : rf_bd a) (hb : rf_bd b) (h0 : 0 ≤ rf_dg b) : rf_bd (rf_md a b) ∧ rf_dg (rf_md a b) < rf_dg b ∧ rf_dg (rf_md a b) ≤ rf_dg a := by
  have l := rf_dg_lt a
  exact rf_dv_r hb h0 40 a _ ha (by omega)
theorem rf_md_t {a b : Nat → Int} (h : rf_dg a < rf_dg b) : rf_md a b = a := by
  unfold rf_md
  rw [rf_dv_t h]
theorem rf_qt_b {a b : Nat → Int} (hb : rf_bd b) (h0 : 0 ≤ rf_dg b) : rf_bd (rf_qt a b) := (rf_dv_q hb h0 40 a _ rf_bd_0).1
theorem rf_qt_dg {a b : Nat → Int} (ha : rf_bd a) (hb : rf_bd b) (h0 : 0 ≤ rf_dg b) (h : rf_dg b ≤ rf_dg a) : rf_dg (rf_qt a b) = rf_dg a - rf_dg b := by
  have l := rf_dg_lt a
  have e : ¬ rf_dg a < rf_dg b := by omega
  have g := rf_dc_dg hb h0 h
  have r : rf_dg (rf_qt a b) = ((rf_dg a - rf_dg b).toNat : Int) := by
    refine rf_dg_e (by omega) ?_ (fun j hj hl => (rf_dv_q hb h0 40 a _ rf_bd_0).2 j (by omega))
    unfold rf_qt
    have hk : rf_bd (rf_u (fun _ => 0) (rf_dg a - rf_dg b).toNat (rf_dk a b)) := rf_bd_u rf_bd_0 (rf_mr _)
    rw [rf_dv_f e, (rf_dv_q hb h0 39 (rf_dc a b) _ hk).2 (rf_dg a - rf_dg b).toNat (by omega), rf_us]
    have i := rf_iv_s (hb (rf_dg b).toNat (by omega)) (rf_dg_n h0)
    exact rf_pr (ha _ (by omega)) (by omega) (rf_dg_n (by omega)) (by omega)
  rw [r]
  omega
/-- the greatest common divisor -/
def rf_gc : Nat → (Nat → Int) → (Nat → Int) → (Nat → Int)
  | 0, a, _ => a
  | m + 1, a, b => if rf_dg b < 0 then a else rf_gc m b (rf_md a b)
theorem rf_gc_t {a b : Nat → Int} {m : Nat} (h : rf_dg b < 0) : rf_gc (m + 1) a b = a := if_pos h
theorem rf_gc_f {a b : Nat → Int} {m : Nat} (h : ¬ rf_dg b < 0) : rf_gc (m + 1) a b = rf_gc m b (rf_md a b) := if_neg h
theorem rf_gc_1 {dp dq : Int} : ∀ (m : Nat) (a b : Nat → Int), rf_bd a → rf_bd b → 0 ≤ rf_dg a → rf_dg a ≤ dq → rf_dg b ≤ dp → rf_dg b < rf_dg a → (rf_dg b < 0 → rf_dg a ≤ dp) → rf_dg b < m →
    rf_bd (rf_gc m a b) ∧ 0 ≤ rf_dg (rf_gc m a b) ∧ rf_dg (rf_gc m a b) ≤ dp ∧ rf_dg (rf_gc m a b) ≤ dq
  | 0, a, b, ha, hb, h0, h1, h2, h3, h4, hm => ⟨ha, h0, h4 (by omega), h1⟩
  | m + 1, a, b, ha, hb, h0, h1, h2, h3, h4, hm => by
    by_cases e : rf_dg b < 0
    · rw [rf_gc_t e]
      exact ⟨ha, h0, h4 e, h1⟩
    · rw [rf_gc_f e]
      obtain ⟨r1, r2, r3⟩ := rf_md_s ha hb (by omega)
      exact rf_gc_1 m b (rf_md a b) hb r1 (by omega) (by omega) (by omega) r2 (fun _ => by omega) (by omega)
theorem rf_gc_0 {a b : Nat → Int} (ha : rf_bd a) (hb : rf_bd b) (h0 : 0 ≤ rf_dg a) (h1 : 0 ≤ rf_dg b) :
    rf_bd (rf_gc 80 a b) ∧ 0 ≤ rf_dg (rf_gc 80 a b) ∧ rf_dg (rf_gc 80 a b) ≤ rf_dg a ∧ rf_dg (rf_gc 80 a b) ≤ rf_dg b := by
  have e : ¬ rf_dg b < 0 := by omega
  have l := rf_dg_lt b
  rw [rf_gc_f e]
  obtain ⟨r1, r2, r3⟩ := rf_md_s ha hb h1
  refine rf_gc_1 79 b (rf_md a b) hb r1 h1 (Int.le_refl _) r3 r2 (fun hz => ?_) (by omega)
  rcases Int.lt_or_le (rf_dg a) (rf_dg b) with g | g
  · rw [rf_md_t g] at hz
    omega
  · exact g
/-- lowest terms -/
def rf_lq (cp cq : Nat → Int) : Nat → Int := rf_qt cq (rf_gc 80 cp cq)
def rf_lu (cp cq : Nat → Int) : Int := rf_iv (rf_lq cp cq (rf_dg (rf_lq cp cq)).toNat)
def rf_lp (cp cq : Nat → Int) : Nat → Int := if rf_dg cp < 0 then cp else rf_sc (rf_qt cp (rf_gc 80 cp cq)) (rf_lu cp cq)
def rf_lw (cp cq : Nat → Int) : Nat → Int := if rf_dg cp < 0 then rf_k 1 else rf_sc (rf_lq cp cq) (rf_lu cp cq)
theorem rf_low {cp cq : Nat → Int} (bp : rf_bd cp) (bq : rf_bd cq) (h0 : 0 ≤ rf_dg cq) :
    rf_bd (rf_lp cp cq) ∧ rf_bd (rf_lw cp cq) ∧ rf_dg (rf_lp cp cq) ≤ rf_dg cp ∧ 0 ≤ rf_dg (rf_lw cp cq) ∧ rf_dg (rf_lw cp cq) ≤ rf_dg cq ∧ rf_lw cp cq (rf_dg (rf_lw cp cq)).toNat = 1 ∧ (rf_dg (rf_lp cp cq) < 0 → rf_dg (rf_lw cp cq) = 0) := by
  unfold rf_lp rf_lw
  by_cases e : rf_dg cp < 0
  · rw [if_pos e, if_pos e]
    have hk : rf_dg (rf_k 1) = 0 := rf_k_dg (by decide)
    rw [hk]
    exact ⟨bp, rf_k_bd (by omega), Int.le_refl _, Int.le_refl _, h0, rf_k_1, fun _ => rfl⟩
  · rw [if_neg e, if_neg e]
    obtain ⟨g1, g2, g3, g4⟩ := rf_gc_0 bp bq (by omega) h0
    have q1 := rf_qt_dg bp g1 g2 g3
    have q2 : rf_dg (rf_lq cp cq) = _ := rf_qt_dg bq g1 g2 g4
    have b1 : rf_bd (rf_qt cp (rf_gc 80 cp cq)) := rf_qt_b g1 g2
    have b2 : rf_bd (rf_lq cp cq) := rf_qt_b g1 g2
    have l2 := rf_dg_lt (rf_lq cp cq)
    have i : 0 < rf_lu cp cq ∧ rf_lu cp cq < 101 ∧ rf_lq cp cq (rf_dg (rf_lq cp cq)).toNat * rf_lu cp cq % 101 = 1 := rf_iv_s (b2 _ (by omega)) (rf_dg_n (by omega))
    have s1 := rf_sc_dg b1 (k := rf_lu cp cq) (by omega) (by omega)
    have s2 := rf_sc_dg b2 (k := rf_lu cp cq) (by omega) (by omega)
    refine ⟨rf_sc_b _ _, rf_sc_b _ _, by omega, by omega, by omega, ?_, fun h => by omega⟩
    rw [s2]
    exact i.2.2
end
section
/-- values of polynomials, as lists, lowest first -/
def rf_ev : List Int → Int → Int
  | [], _ => 0
  | c :: cs, x => c + x * rf_ev cs x
/-- the quotient of c + x cs by x - a -/
def rf_ql (a : Int) : List Int → List Int
  | [] => []
  | c :: cs => rf_ev (c :: cs) a :: rf_ql a cs
theorem rf_ql_e (a x : Int) : ∀ cs : List Int, x * rf_ev cs x - a * rf_ev cs a = (x - a) * rf_ev (rf_ql a cs) x
  | [] => by
    show x * 0 - a * 0 = (x - a) * 0
    omega
  | c :: cs => by
    have ih := rf_ql_e a x cs
    show x * (c + x * rf_ev cs x) - a * (c + a * rf_ev cs a) = (x - a) * ((c + a * rf_ev cs a) + x * rf_ev (rf_ql a cs) x)
    generalize rf_ev cs x = u at *
    generalize rf_ev cs a = v at *
    generalize rf_ev (rf_ql a cs) x = w at *
    have h : x * (x * u - a * v) = x * ((x - a) * w) := by rw [ih]
    grind
theorem rf_ql_n (a : Int) : ∀ cs : List Int, (rf_ql a cs).length = cs.length
  | [] => rfl
  | c :: cs => by
    show (rf_ql a cs).length + 1 = cs.length + 1
    rw [rf_ql_n a cs]
/-- the highest coefficient -/
def rf_la : List Int → Int
  | [] => 0
  | [c] => c
  | _ :: d :: cs => rf_la (d :: cs)
theorem rf_la_1 (c : Int) : rf_la [c] = c := rfl
theorem rf_la_2 (c d : Int) (cs : List Int) : rf_la (c :: d :: cs) = rf_la (d :: cs) := rfl
theorem rf_ql_l (a : Int) : ∀ cs : List Int, rf_la (rf_ql a cs) = rf_la cs
  | [] => rfl
  | [c] => by
    show rf_la [c + a * 0] = rf_la [c]
    rw [rf_la_1, rf_la_1]
    omega
  | c :: d :: cs => by
    have ih := rf_ql_l a (d :: cs)
    show rf_la (rf_ev (c :: d :: cs) a :: rf_ev (d :: cs) a :: rf_ql a cs) = rf_la (c :: d :: cs)
    rw [rf_la_2, rf_la_2]
    exact ih
/-- how many of 0 .. n - 1 are zeros of g -/
def rf_ct (g : Nat → Int) : Nat → Nat
  | 0 => 0
  | n + 1 => if g n = 0 then rf_ct g n + 1 else rf_ct g n
theorem rf_ct_t {g : Nat → Int} {n : Nat} (h : g n = 0) : rf_ct g (n + 1) = rf_ct g n + 1 := if_pos h
theorem rf_ct_f {g : Nat → Int} {n : Nat} (h : ¬ g n = 0) : rf_ct g (n + 1) = rf_ct g n := if_neg h
theorem rf_ct_0 {g : Nat → Int} : ∀ n, (∀ b, b < n → ¬ g b = 0) → rf_ct g n = 0
  | 0, _ => rfl
  | n + 1, h => by
    rw [rf_ct_f (h n (by omega))]
    exact rf_ct_0 n (fun b hb => h b (by omega))
theorem rf_ct_a {g : Nat → Int} : ∀ n, (∀ b, b < n → g b = 0) → rf_ct g n = n
  | 0, _ => rfl
  | n + 1, h => by
    rw [rf_ct_t (h n (by omega)), rf_ct_a n (fun b hb => h b (by omega))]
theorem rf_ct_l (g : Nat → Int) : ∀ n, rf_ct g n ≤ n
  | 0 => Nat.le_refl 0
  | n + 1 => by
    have ih := rf_ct_l g n
    by_cases h : g n = 0
    · rw [rf_ct_t h]
      omega
    · rw [rf_ct_f h]
      omega
theorem rf_ct_m {g h : Nat → Int} : ∀ n, (∀ b, b < n → g b = 0 → h b = 0) → rf_ct g n ≤ rf_ct h n
  | 0, _ => Nat.le_refl 0
  | n + 1, k => by
    have ih := rf_ct_m n (fun b hb => k b (by omega))
    by_cases e : g n = 0
    · rw [rf_ct_t e, rf_ct_t (k n (by omega) e)]
      omega
    · rw [rf_ct_f e]
      by_cases e2 : h n = 0
      · rw [rf_ct_t e2]
        omega
      · rw [rf_ct_f e2]
        exact ih
theorem rf_ct_1 {g h : Nat → Int} {a : Nat} : ∀ n, (∀ b, b < n → b ≠ a → g b = 0 → h b = 0) → rf_ct g n ≤ rf_ct h n + 1
  | 0, _ => Nat.zero_le _
  | n + 1, k => by
    by_cases ea : n = a
    · have m := rf_ct_m (g := g) (h := h) n (fun b hb => k b (by omega) (by omega))
      by_cases e : g n = 0
      · rw [rf_ct_t e]
        by_cases e2 : h n = 0
        · rw [rf_ct_t e2]
          omega
        · rw [rf_ct_f e2]
          omega
      · rw [rf_ct_f e]
        by_cases e2 : h n = 0
        · rw [rf_ct_t e2]
          omega
        · rw [rf_ct_f e2]
          omega
    · have ih := rf_ct_1 (g := g) (h := h) (a := a) n (fun b hb => k b (by omega))
      by_cases e : g n = 0
      · rw [rf_ct_t e, rf_ct_t (k n (by omega) ea e)]
        omega
      · rw [rf_ct_f e]
        by_cases e2 : h n = 0
        · rw [rf_ct_t e2]
          omega
        · rw [rf_ct_f e2]
          exact ih
/-- a polynomial of degree m has at most m zeros -/
theorem rf_rt : ∀ (m : Nat) (cs : List Int), cs.length = m + 1 → ¬ rf_la cs % 101 = 0 → rf_ct (fun a => rf_ev cs (a : Int) % 101) 101 ≤ m
  | 0, [], h, _ => by
    have h' : (0 : Nat) = 0 + 1 := h
    omega
  | 0, [c], _, hl => by
    rw [rf_ct_0 101 (fun b _ => by
      show ¬ (c + (b : Int) * 0) % 101 = 0
      rw [rf_la_1] at hl
      omega)]
    exact Nat.le_refl 0
  | 0, c :: d :: cs, h, _ => by
    have h' : cs.length + 1 + 1 = 0 + 1 := h
    omega
  | m + 1, [], h, _ => by
    have h' : (0 : Nat) = m + 1 + 1 := h
    omega
  | m + 1, [c], h, _ => by
    have h' : (0 : Nat) + 1 = m + 1 + 1 := h
    omega
  | m + 1, c :: d :: cs, h, hl => by
    by_cases hx : ∃ a : Nat, a < 101 ∧ rf_ev (c :: d :: cs) (a : Int) % 101 = 0
    · obtain ⟨a, ha, hz⟩ := hx
      have hn : (rf_ql (a : Int) (d :: cs)).length = m + 1 := by
        rw [rf_ql_n]
        have h' : cs.length + 1 + 1 = m + 1 + 1 := h
        show cs.length + 1 = m + 1
        omega
      have ih := rf_rt m (rf_ql (a : Int) (d :: cs)) hn (by rw [rf_ql_l, ← rf_la_2 c]; exact hl)
      have k := rf_ct_1 (g := fun b => rf_ev (c :: d :: cs) (b : Int) % 101) (h := fun b => rf_ev (rf_ql (a : Int) (d :: cs)) (b : Int) % 101) (a := a) 101 (fun b hb hba hz2 => by
        have e := rf_ql_e (a : Int) (b : Int) (d :: cs)
        have z1 : (c + (a : Int) * rf_ev (d :: cs) (a : Int)) % 101 = 0 := hz
        have z2 : (c + (b : Int) * rf_ev (d :: cs) (b : Int)) % 101 = 0 := hz2
        refine rf_pr2 (x := (b : Int) - (a : Int)) (by omega) ?_
        rw [← e]
        omega)
      omega
    · rw [rf_ct_0 101 (fun b hb hz => hx ⟨b, hb, hz⟩)]
      omega
/-- the coefficients as a list -/
def rf_ls (c : Nat → Int) : Nat → Nat → List Int
  | 0, _ => []
  | m + 1, i => c i :: rf_ls c m (i + 1)
theorem rf_ls_n (c : Nat → Int) : ∀ m i, (rf_ls c m i).length = m
  | 0, _ => rfl
  | m + 1, i => by
    show (rf_ls c m (i + 1)).length + 1 = m + 1
    rw [rf_ls_n c m]
theorem rf_ls_l (c : Nat → Int) : ∀ m i, rf_la (rf_ls c (m + 1) i) = c (i + m)
  | 0, i => rfl
  | m + 1, i => by
    show rf_la (c i :: c (i + 1) :: rf_ls c m (i + 1 + 1)) = _
    rw [rf_la_2]
    have ih := rf_ls_l c m (i + 1)
    rw [show i + (m + 1) = i + 1 + m by omega]
    exact ih
/-- a value -/
def rf_at (c : Nat → Int) (a : Int) : Int := rf_ev (rf_ls c (rf_dg c + 1).toNat 0) a % 101
theorem rf_at_r (c : Nat → Int) (a : Int) : 0 ≤ rf_at c a ∧ rf_at c a < 101 := rf_mr _
theorem rf_at_c {c : Nat → Int} (b : rf_bd c) (h : 0 ≤ rf_dg c) : (rf_ct (fun a => rf_at c (a : Int)) 101 : Int) ≤ rf_dg c := by
  have l := rf_dg_lt c
  have e : (rf_dg c + 1).toNat = (rf_dg c).toNat + 1 := by omega
  have bb := b (rf_dg c).toNat (by omega)
  have nn := rf_dg_n h
  have r := rf_rt (rf_dg c).toNat (rf_ls c (rf_dg c + 1).toNat 0) (by rw [rf_ls_n, e]) (by
    rw [e, rf_ls_l, Nat.zero_add]
    omega)
  have r2 : rf_ct (fun a => rf_at c (a : Int)) 101 ≤ (rf_dg c).toNat := r
  omega
theorem rf_at_z {c : Nat → Int} (h : rf_dg c < 0) (a : Int) : rf_at c a = 0 := by
  unfold rf_at
  rw [show (rf_dg c + 1).toNat = 0 by omega]
  rfl
theorem rf_at_1 {c : Nat → Int} (h : rf_dg c = 0) (h1 : c 0 = 1) (a : Int) : rf_at c a = 1 := by
  unfold rf_at
  rw [h]
  show (c 0 + a * 0) % 101 = 1
  rw [h1]
  omega
/-- the value of a fraction -/
def rf_fr (cp cq : Nat → Int) (a : Int) : Int := if rf_at cq a = 0 then -4 else rf_at cp a * rf_iv (rf_at cq a) % 101
theorem rf_fr_t {cp cq : Nat → Int} {a : Int} (h : rf_at cq a = 0) : rf_fr cp cq a = -4 := if_pos h
theorem rf_fr_f {cp cq : Nat → Int} {a : Int} (h : ¬ rf_at cq a = 0) : rf_fr cp cq a = rf_at cp a * rf_iv (rf_at cq a) % 101 := if_neg h
theorem rf_fr_r (cp cq : Nat → Int) (a : Int) : -4 ≤ rf_fr cp cq a ∧ rf_fr cp cq a < 101 := by
  by_cases h : rf_at cq a = 0
  · rw [rf_fr_t h]
    omega
  · rw [rf_fr_f h]
    omega
theorem rf_fr_z {cp cq : Nat → Int} {a : Int} (h : rf_fr cp cq a = 0) : rf_at cp a = 0 := by
  by_cases e : rf_at cq a = 0
  · rw [rf_fr_t e] at h
    omega
  · rw [rf_fr_f e] at h
    by_cases g : rf_at cp a = 0
    · exact g
    · have i := rf_iv_s (rf_at_r cq a) e
      exact absurd h (rf_pr (rf_at_r cp a) (by omega) g (by omega))
theorem rf_zeros {cp cq : Nat → Int} (b : rf_bd cp) (h : 0 ≤ rf_dg cp) : (rf_ct (fun a => rf_fr cp cq (a : Int)) 101 : Int) ≤ rf_dg cp := by
  have h1 := rf_at_c b h
  have h2 := rf_ct_m (g := fun a => rf_fr cp cq (a : Int)) (h := fun a => rf_at cp (a : Int)) 101 (fun _ _ hz => rf_fr_z hz)
  omega
theorem rf_zeros0 {cp cq : Nat → Int} (h : rf_dg cp < 0) (hq : rf_dg cq = 0) (h1 : cq 0 = 1) : rf_ct (fun a => rf_fr cp cq (a : Int)) 101 = 101 ∧ rf_ct (fun a => rf_at cq (a : Int)) 101 = 0 := by
  constructor
  · refine rf_ct_a 101 (fun b _ => ?_)
    have e := rf_at_1 hq h1 (b : Int)
    show rf_fr cp cq (b : Int) = 0
    rw [rf_fr_f (by omega), rf_at_z h, Int.zero_mul]
    decide
  · refine rf_ct_0 101 (fun b _ => ?_)
    have e := rf_at_1 hq h1 (b : Int)
    show ¬ rf_at cq (b : Int) = 0
    omega
theorem rf_hm (E a x : Int) : ((E % 101) * a + x) % 101 = (x + a * E) % 101 := by
  have h1 : E = 101 * (E / 101) + E % 101 := by omega
  have h2 : a * E = 101 * (a * (E / 101)) + (E % 101) * a := by
    generalize E % 101 = r at *
    generalize E / 101 = q at *
    rw [h1]
    grind
  omega
end
section
theorem rf_clear {post : St1 → Prop} {n x : Int32} {C : Nat → Nat → Int} {D : Nat → Int} {a3 : Nat → Int32} (p : Nat) (hp : p < 24)
    (h : post (n, rf_fl (rf_u C p (fun _ => 0)), rf_ar (rf_u D p (-1)), a3)) (hx : x = rf_i (p : Int) := by first | with_reducible rfl | (simp only [rf_l0, rf_l1, rf_l2, rf_l3, rf_l4, rf_l6, rf_l7, rf_l11, rf_l12, rf_l13, rf_l14, rf_l15, rf_l16, rf_l17, rf_l18, rf_l19, rf_l20, rf_l21, rf_l22, rf_l23, rf_l24, rf_l25, rf_l39, rf_l40, rf_l80, rf_l101, rf_neg, rf_add, rf_sub, rf_mul]; done) | (simp only [rf_l0, rf_l1, rf_l2, rf_l3, rf_l4, rf_l6, rf_l7, rf_l11, rf_l12, rf_l13, rf_l14, rf_l15, rf_l16, rf_l17, rf_l18, rf_l19, rf_l20, rf_l21, rf_l22, rf_l23, rf_l24, rf_l25, rf_l39, rf_l40, rf_l80, rf_l101, rf_neg, rf_add, rf_sub, rf_mul]; exact congrArg rf_i (by omega)) | exact congrArg rf_i (by omega)) : wpX_clear post (n, rf_fl C, rf_ar D, a3) x := by
  subst hx
  refine rf_loop (fun m x2 s => wX_clear_2 post (rf_i (p : Int)) n m x2 s (rf_ar D) a3) (fun i s => s = rf_fl (rf_mx C p i (fun _ => 0))) 40 (rf_fl C) (by rw [rf_mx0]) ?_ ?_
  · intro m s hs
    subst hs
    rw [rf_mx40]
    exact rf_ble 40 40 (fun _ => ⟨rf_ind p hp, nm_r (rf_wrd D p (-1) hp) h⟩) (fun z => absurd z (by omega))
  · intro m i s hi hs hw
    subst hs
    exact rf_ble 40 i (fun z => absurd z (by omega)) (fun _ => ⟨rf_inx p i hp hi, nm_r (rf_wrx _ p i 0 hp hi rf_l0) (nm_r (rf_nx i) (hw _ (congrArg rf_fl (rf_mxS rfl))))⟩)
theorem rf_copy {post : St1 → Prop} {n x y : Int32} {C : Nat → Nat → Int} {D : Nat → Int} {a3 : Nat → Int32} (p t : Nat) (hp : p < 24) (ht : t < 24)
    (h : post (n, rf_fl (rf_u C t (C p)), rf_ar (rf_u D t (D p)), a3)) (hx : x = rf_i (p : Int) := by first | with_reducible rfl | (simp only [rf_l0, rf_l1, rf_l2, rf_l3, rf_l4, rf_l6, rf_l7, rf_l11, rf_l12, rf_l13, rf_l14, rf_l15, rf_l16, rf_l17, rf_l18, rf_l19, rf_l20, rf_l21, rf_l22, rf_l23, rf_l24, rf_l25, rf_l39, rf_l40, rf_l80, rf_l101, rf_neg, rf_add, rf_sub, rf_mul]; done) | (simp only [rf_l0, rf_l1, rf_l2, rf_l3, rf_l4, rf_l6, rf_l7, rf_l11, rf_l12, rf_l13, rf_l14, rf_l15, rf_l16, rf_l17, rf_l18, rf_l19, rf_l20, rf_l21, rf_l22, rf_l23, rf_l24, rf_l25, rf_l39, rf_l40, rf_l80, rf_l101, rf_neg, rf_add, rf_sub, rf_mul]; exact congrArg rf_i (by omega)) | exact congrArg rf_i (by omega)) (hy : y = rf_i (t : Int) := by first | with_reducible rfl | (simp only [rf_l0, rf_l1, rf_l2, rf_l3, rf_l4, rf_l6, rf_l7, rf_l11, rf_l12, rf_l13, rf_l14, rf_l15, rf_l16, rf_l17, rf_l18, rf_l19, rf_l20, rf_l21, rf_l22, rf_l23, rf_l24, rf_l25, rf_l39, rf_l40, rf_l80, rf_l101, rf_neg, rf_add, rf_sub, rf_mul]; done) | (simp only [rf_l0, rf_l1, rf_l2, rf_l3, rf_l4, rf_l6, rf_l7, rf_l11, rf_l12, rf_l13, rf_l14, rf_l15, rf_l16, rf_l17, rf_l18, rf_l19, rf_l20, rf_l21, rf_l22, rf_l23, rf_l24, rf_l25, rf_l39, rf_l40, rf_l80, rf_l101, rf_neg, rf_add, rf_sub, rf_mul]; exact congrArg rf_i (by omega)) | exact congrArg rf_i (by omega)) : wpX_copy post (n, rf_fl C, rf_ar D, a3) x y := by
  subst hx hy
  refine rf_loop (fun m x3 s => wX_copy_2 post (rf_i (p : Int)) (rf_i (t : Int)) n m x3 s (rf_ar D) a3) (fun i s => s = rf_fl (rf_mx C t i (C p))) 40 (rf_fl C) (by rw [rf_mx0]) ?_ ?_
  · intro m s hs
    subst hs
    rw [rf_mx40]
    exact rf_ble 40 40 (fun _ => ⟨rf_ind p hp, rf_ind t ht, nm_r (rf_wrd D t (D p) ht (rf_rdd D p hp)) h⟩) (fun z => absurd z (by omega))
  · intro m i s hi hs hw
    subst hs
    have e : rf_fl (rf_mx C t i (C p)) (rf_i (p : Int) * 40 + rf_i (i : Int)).toNatClampNeg = rf_i (C p i) := by
      rw [rf_rdx _ p i hp hi, rf_mxr (Or.inr (Nat.le_refl i))]
    exact rf_ble 40 i (fun z => absurd z (by omega)) (fun _ => ⟨rf_inx p i hp hi, rf_inx t i ht hi, nm_r (rf_wrx _ t i (C p i) ht hi e) (nm_r (rf_nx i) (hw _ (congrArg rf_fl (rf_mxS rfl))))⟩)
theorem rf_fit {post : St1 → Prop} {n x : Int32} {C : Nat → Nat → Int} {D : Nat → Int} {a3 : Nat → Int32} (p : Nat) (hp : p < 24) {c : Nat → Int} (hc : C p = c) (hb : rf_bd c)
    (h : post (n, rf_fl C, rf_ar (rf_u D p (rf_dg c)), a3)) (hx : x = rf_i (p : Int) := by first | with_reducible rfl | (simp only [rf_l0, rf_l1, rf_l2, rf_l3, rf_l4, rf_l6, rf_l7, rf_l11, rf_l12, rf_l13, rf_l14, rf_l15, rf_l16, rf_l17, rf_l18, rf_l19, rf_l20, rf_l21, rf_l22, rf_l23, rf_l24, rf_l25, rf_l39, rf_l40, rf_l80, rf_l101, rf_neg, rf_add, rf_sub, rf_mul]; done) | (simp only [rf_l0, rf_l1, rf_l2, rf_l3, rf_l4, rf_l6, rf_l7, rf_l11, rf_l12, rf_l13, rf_l14, rf_l15, rf_l16, rf_l17, rf_l18, rf_l19, rf_l20, rf_l21, rf_l22, rf_l23, rf_l24, rf_l25, rf_l39, rf_l40, rf_l80, rf_l101, rf_neg, rf_add, rf_sub, rf_mul]; exact congrArg rf_i (by omega)) | exact congrArg rf_i (by omega)) : wpX_fit post (n, rf_fl C, rf_ar D, a3) x := by
  subst hx
  subst hc
  have key : ∀ k : Nat, k ≤ 40 → post (n, rf_fl C, rf_ar (rf_u D p (rf_fd (C p) k)), a3) → wX_fit_5 post (rf_i (p : Int)) n (rf_fl C) (rf_ar D) a3 (k + 1) (rf_i ((k : Int) - 1)) (rf_i (40 - (k : Int))) := by
    intro k
    induction k with
    | zero =>
      intro _ h
      exact rf_ble 40 40 (fun _ => ⟨rf_ind p hp, nm_r (rf_wrd D p (-1) hp) h⟩) (fun z => absurd z (by omega))
    | succ k ih =>
      intro hk h
      have b := hb k (by omega)
      have e : rf_fl C (rf_i (p : Int) * 40 + rf_i (((k + 1 : Nat) : Int) - 1)).toNatClampNeg = rf_i (C p k) := rf_rdx C p k hp (by omega)
      refine rf_ble 40 (39 - k) (fun z => absurd z (by omega)) (fun _ => rf_blt k 0 (fun z => absurd z (by omega)) (fun _ => ⟨rf_inx p k hp (by omega), ?_⟩))
      refine rf_beq (C p k) 0 (fun z => ?_) (fun z => ?_) e
      · refine nm_r (e' := rf_i ((k : Int) - 1)) (by first | with_reducible rfl | (simp only [rf_l0, rf_l1, rf_l2, rf_l3, rf_l4, rf_l6, rf_l7, rf_l11, rf_l12, rf_l13, rf_l14, rf_l15, rf_l16, rf_l17, rf_l18, rf_l19, rf_l20, rf_l21, rf_l22, rf_l23, rf_l24, rf_l25, rf_l39, rf_l40, rf_l80, rf_l101, rf_neg, rf_add, rf_sub, rf_mul]; done) | (simp only [rf_l0, rf_l1, rf_l2, rf_l3, rf_l4, rf_l6, rf_l7, rf_l11, rf_l12, rf_l13, rf_l14, rf_l15, rf_l16, rf_l17, rf_l18, rf_l19, rf_l20, rf_l21, rf_l22, rf_l23, rf_l24, rf_l25, rf_l39, rf_l40, rf_l80, rf_l101, rf_neg, rf_add, rf_sub, rf_mul]; exact congrArg rf_i (by omega)) | exact congrArg rf_i (by omega)) (nm_r (e' := rf_i (40 - (k : Int))) (by first | with_reducible rfl | (simp only [rf_l0, rf_l1, rf_l2, rf_l3, rf_l4, rf_l6, rf_l7, rf_l11, rf_l12, rf_l13, rf_l14, rf_l15, rf_l16, rf_l17, rf_l18, rf_l19, rf_l20, rf_l21, rf_l22, rf_l23, rf_l24, rf_l25, rf_l39, rf_l40, rf_l80, rf_l101, rf_neg, rf_add, rf_sub, rf_mul]; done) | (simp only [rf_l0, rf_l1, rf_l2, rf_l3, rf_l4, rf_l6, rf_l7, rf_l11, rf_l12, rf_l13, rf_l14, rf_l15, rf_l16, rf_l17, rf_l18, rf_l19, rf_l20, rf_l21, rf_l22, rf_l23, rf_l24, rf_l25, rf_l39, rf_l40, rf_l80, rf_l101, rf_neg, rf_add, rf_sub, rf_mul]; exact congrArg rf_i (by omega)) | exact congrArg rf_i (by omega)) (ih (by omega) ?_))
        rw [rf_fd_s z] at h
        exact h
      · refine ⟨rf_ind p hp, nm_r (rf_wrd D p k hp) ?_⟩
        rw [rf_fd_t z] at h
        exact h
  have r := key 40 (by omega) h
  rw [show rf_i (((40 : Nat) : Int) - 1) = 39 by decide, show rf_i (40 - ((40 : Nat) : Int)) = 0 by decide] at r
  exact ⟨41, r⟩
theorem rf_reduce {post : Int32 → Prop} {u : St1} {x : Int32} (v : Int) (h : post (rf_i (v % 101))) (hx : x = rf_i v := by first | with_reducible rfl | (simp only [rf_l0, rf_l1, rf_l2, rf_l3, rf_l4, rf_l6, rf_l7, rf_l11, rf_l12, rf_l13, rf_l14, rf_l15, rf_l16, rf_l17, rf_l18, rf_l19, rf_l20, rf_l21, rf_l22, rf_l23, rf_l24, rf_l25, rf_l39, rf_l40, rf_l80, rf_l101, rf_neg, rf_add, rf_sub, rf_mul]; done) | (simp only [rf_l0, rf_l1, rf_l2, rf_l3, rf_l4, rf_l6, rf_l7, rf_l11, rf_l12, rf_l13, rf_l14, rf_l15, rf_l16, rf_l17, rf_l18, rf_l19, rf_l20, rf_l21, rf_l22, rf_l23, rf_l24, rf_l25, rf_l39, rf_l40, rf_l80, rf_l101, rf_neg, rf_add, rf_sub, rf_mul]; exact congrArg rf_i (by omega)) | exact congrArg rf_i (by omega)) (hv : (-2147483648 ≤ v ∧ v < 2147483648) := by omega) : wpX_reduce post u x := by
  subst hx
  obtain ⟨u1, u2, u3, u4⟩ := u
  have t := rf_tme v
  refine ⟨by decide, nm_r (rf_tm hv) ?_⟩
  refine rf_ble 0 (v.tmod 101) (fun z => ?_) (fun z => ?_)
  · rw [t.1 z]
    exact h
  · rw [rf_l101, rf_add, t.2.1 z]
    exact h
/-- row r holds the polynomial c, and its degree -/
def rf_P (C : Nat → Nat → Int) (D : Nat → Int) (r : Nat) (c : Nat → Int) : Prop := C r = c ∧ D r = rf_dg c ∧ rf_bd c
/-- row r is what it was -/
def rf_E (C : Nat → Nat → Int) (D : Nat → Int) (C' : Nat → Nat → Int) (D' : Nat → Int) (r : Nat) : Prop := C' r = C r ∧ D' r = D r
theorem rf_Pt {C C' : Nat → Nat → Int} {D D' : Nat → Int} {r : Nat} {c : Nat → Int} (e : rf_E C D C' D' r) (h : rf_P C D r c) : rf_P C' D' r c := ⟨e.1.trans h.1, e.2.trans h.2.1, h.2.2⟩
theorem rf_Et {C C1 C2 : Nat → Nat → Int} {D D1 D2 : Nat → Int} {r : Nat} (e : rf_E C D C1 D1 r) (f : rf_E C1 D1 C2 D2 r) : rf_E C D C2 D2 r := ⟨f.1.trans e.1, f.2.trans e.2⟩
theorem rf_Er (C : Nat → Nat → Int) (D : Nat → Int) (r : Nat) : rf_E C D C D r := ⟨rfl, rfl⟩
theorem rf_Eu {C : Nat → Nat → Int} {D : Nat → Int} {t r : Nat} {c : Nat → Int} {d : Int} (h : r ≠ t) : rf_E C D (rf_u C t c) (rf_u D t d) r := ⟨rf_un h, rf_un h⟩
theorem rf_Pu {C : Nat → Nat → Int} {D : Nat → Int} {t : Nat} {c : Nat → Int} (b : rf_bd c) : rf_P (rf_u C t c) (rf_u D t (rf_dg c)) t c := ⟨rf_us _ _ _, rf_us _ _ _, b⟩
theorem rf_copyP {post : St1 → Prop} {n x y : Int32} {C : Nat → Nat → Int} {D : Nat → Int} {a3 : Nat → Int32} (p t : Nat) {c : Nat → Int} (Pp : rf_P C D p c)
    (h : ∀ C' D', (∀ r, r ≠ t → rf_E C D C' D' r) → rf_P C' D' t c → post (n, rf_fl C', rf_ar D', a3)) (hp : p < 24 := by omega) (ht : t < 24 := by omega) (hx : x = rf_i (p : Int) := by first | with_reducible rfl | (simp only [rf_l0, rf_l1, rf_l2, rf_l3, rf_l4, rf_l6, rf_l7, rf_l11, rf_l12, rf_l13, rf_l14, rf_l15, rf_l16, rf_l17, rf_l18, rf_l19, rf_l20, rf_l21, rf_l22, rf_l23, rf_l24, rf_l25, rf_l39, rf_l40, rf_l80, rf_l101, rf_neg, rf_add, rf_sub, rf_mul]; done) | (simp only [rf_l0, rf_l1, rf_l2, rf_l3, rf_l4, rf_l6, rf_l7, rf_l11, rf_l12, rf_l13, rf_l14, rf_l15, rf_l16, rf_l17, rf_l18, rf_l19, rf_l20, rf_l21, rf_l22, rf_l23, rf_l24, rf_l25, rf_l39, rf_l40, rf_l80, rf_l101, rf_neg, rf_add, rf_sub, rf_mul]; exact congrArg rf_i (by omega)) | exact congrArg rf_i (by omega)) (hy : y = rf_i (t : Int) := by first | with_reducible rfl | (simp only [rf_l0, rf_l1, rf_l2, rf_l3, rf_l4, rf_l6, rf_l7, rf_l11, rf_l12, rf_l13, rf_l14, rf_l15, rf_l16, rf_l17, rf_l18, rf_l19, rf_l20, rf_l21, rf_l22, rf_l23, rf_l24, rf_l25, rf_l39, rf_l40, rf_l80, rf_l101, rf_neg, rf_add, rf_sub, rf_mul]; done) | (simp only [rf_l0, rf_l1, rf_l2, rf_l3, rf_l4, rf_l6, rf_l7, rf_l11, rf_l12, rf_l13, rf_l14, rf_l15, rf_l16, rf_l17, rf_l18, rf_l19, rf_l20, rf_l21, rf_l22, rf_l23, rf_l24, rf_l25, rf_l39, rf_l40, rf_l80, rf_l101, rf_neg, rf_add, rf_sub, rf_mul]; exact congrArg rf_i (by omega)) | exact congrArg rf_i (by omega)) : wpX_copy post (n, rf_fl C, rf_ar D, a3) x y := by
  obtain ⟨p1, p2, p3⟩ := Pp
  refine rf_copy p t hp ht ?_ hx hy
  rw [p1, p2]
  exact h _ _ (fun r hr => rf_Eu hr) (rf_Pu p3)
theorem rf_const {post : St1 → Prop} {n x y : Int32} {C : Nat → Nat → Int} {D : Nat → Int} {a3 : Nat → Int32} (p : Nat) (v : Int) (hv : 0 ≤ v ∧ v < 101)
    (h : ∀ C' D', (∀ r, r ≠ p → rf_E C D C' D' r) → rf_P C' D' p (rf_k v) → post (n, rf_fl C', rf_ar D', a3)) (hp : p < 24 := by omega) (hx : x = rf_i (p : Int) := by first | with_reducible rfl | (simp only [rf_l0, rf_l1, rf_l2, rf_l3, rf_l4, rf_l6, rf_l7, rf_l11, rf_l12, rf_l13, rf_l14, rf_l15, rf_l16, rf_l17, rf_l18, rf_l19, rf_l20, rf_l21, rf_l22, rf_l23, rf_l24, rf_l25, rf_l39, rf_l40, rf_l80, rf_l101, rf_neg, rf_add, rf_sub, rf_mul]; done) | (simp only [rf_l0, rf_l1, rf_l2, rf_l3, rf_l4, rf_l6, rf_l7, rf_l11, rf_l12, rf_l13, rf_l14, rf_l15, rf_l16, rf_l17, rf_l18, rf_l19, rf_l20, rf_l21, rf_l22, rf_l23, rf_l24, rf_l25, rf_l39, rf_l40, rf_l80, rf_l101, rf_neg, rf_add, rf_sub, rf_mul]; exact congrArg rf_i (by omega)) | exact congrArg rf_i (by omega)) (hy : y = rf_i v := by first | with_reducible rfl | (simp only [rf_l0, rf_l1, rf_l2, rf_l3, rf_l4, rf_l6, rf_l7, rf_l11, rf_l12, rf_l13, rf_l14, rf_l15, rf_l16, rf_l17, rf_l18, rf_l19, rf_l20, rf_l21, rf_l22, rf_l23, rf_l24, rf_l25, rf_l39, rf_l40, rf_l80, rf_l101, rf_neg, rf_add, rf_sub, rf_mul]; done) | (simp only [rf_l0, rf_l1, rf_l2, rf_l3, rf_l4, rf_l6, rf_l7, rf_l11, rf_l12, rf_l13, rf_l14, rf_l15, rf_l16, rf_l17, rf_l18, rf_l19, rf_l20, rf_l21, rf_l22, rf_l23, rf_l24, rf_l25, rf_l39, rf_l40, rf_l80, rf_l101, rf_neg, rf_add, rf_sub, rf_mul]; exact congrArg rf_i (by omega)) | exact congrArg rf_i (by omega)) : wpX_constantTo post (n, rf_fl C, rf_ar D, a3) x y := by
  subst hx hy
  refine rf_clear p hp ?_
  have e : upd (rf_fl (rf_u C p (fun _ => 0))) (rf_i (p : Int) * 40).toNatClampNeg (rf_i v) = rf_fl (rf_u C p (rf_k v)) := by
    rw [rf_wrx _ p 0 v hp (by omega) rfl, rf_uu, rf_us]
    rfl
  refine ⟨rf_inx p 0 hp (by omega), nm_r e ?_⟩
  refine rf_beq v 0 (fun z => ⟨rf_ind p hp, nm_r (rf_wrd _ p (-1) hp) ?_⟩) (fun z => ⟨rf_ind p hp, nm_r (rf_wrd _ p 0 hp) ?_⟩)
  · rw [rf_uu, ← rf_k_0, ← z]
    exact h _ _ (fun r hr => rf_Eu hr) (rf_Pu (rf_k_bd hv))
  · rw [rf_uu, ← rf_k_dg z]
    exact h _ _ (fun r hr => rf_Eu hr) (rf_Pu (rf_k_bd hv))
theorem rf_deriveTo {post : St1 → Prop} {n x y : Int32} {C : Nat → Nat → Int} {D : Nat → Int} {a3 : Nat → Int32} (p t : Nat) {c : Nat → Int} (Pp : rf_P C D p c)
    (h : ∀ C' D', (∀ r, r ≠ t → rf_E C D C' D' r) → rf_P C' D' t (rf_dr c) → post (n, rf_fl C', rf_ar D', a3)) (hp : p < 24 := by omega) (ht : t < 24 := by omega) (hpt : p ≠ t := by omega) (hx : x = rf_i (p : Int) := by first | with_reducible rfl | (simp only [rf_l0, rf_l1, rf_l2, rf_l3, rf_l4, rf_l6, rf_l7, rf_l11, rf_l12, rf_l13, rf_l14, rf_l15, rf_l16, rf_l17, rf_l18, rf_l19, rf_l20, rf_l21, rf_l22, rf_l23, rf_l24, rf_l25, rf_l39, rf_l40, rf_l80, rf_l101, rf_neg, rf_add, rf_sub, rf_mul]; done) | (simp only [rf_l0, rf_l1, rf_l2, rf_l3, rf_l4, rf_l6, rf_l7, rf_l11, rf_l12, rf_l13, rf_l14, rf_l15, rf_l16, rf_l17, rf_l18, rf_l19, rf_l20, rf_l21, rf_l22, rf_l23, rf_l24, rf_l25, rf_l39, rf_l40, rf_l80, rf_l101, rf_neg, rf_add, rf_sub, rf_mul]; exact congrArg rf_i (by omega)) | exact congrArg rf_i (by omega)) (hy : y = rf_i (t : Int) := by first | with_reducible rfl | (simp only [rf_l0, rf_l1, rf_l2, rf_l3, rf_l4, rf_l6, rf_l7, rf_l11, rf_l12, rf_l13, rf_l14, rf_l15, rf_l16, rf_l17, rf_l18, rf_l19, rf_l20, rf_l21, rf_l22, rf_l23, rf_l24, rf_l25, rf_l39, rf_l40, rf_l80, rf_l101, rf_neg, rf_add, rf_sub, rf_mul]; done) | (simp only [rf_l0, rf_l1, rf_l2, rf_l3, rf_l4, rf_l6, rf_l7, rf_l11, rf_l12, rf_l13, rf_l14, rf_l15, rf_l16, rf_l17, rf_l18, rf_l19, rf_l20, rf_l21, rf_l22, rf_l23, rf_l24, rf_l25, rf_l39, rf_l40, rf_l80, rf_l101, rf_neg, rf_add, rf_sub, rf_mul]; exact congrArg rf_i (by omega)) | exact congrArg rf_i (by omega)) : wpX_deriveTo post (n, rf_fl C, rf_ar D, a3) x y := by
  subst hx hy
  obtain ⟨p1, p2, p3⟩ := Pp
  refine rf_loop (fun m x3 s => wX_deriveTo_2 post (rf_i (p : Int)) (rf_i (t : Int)) n m x3 s (rf_ar D) a3) (fun i s => s = rf_fl (rf_mx C t i (rf_dr c))) 39 (rf_fl C) (by rw [rf_mx0]) ?_ ?_
  · intro m s hs
    subst hs
    have e : upd (rf_fl (rf_mx C t 39 (rf_dr c))) (rf_i (t : Int) * 40 + 40 - 1).toNatClampNeg 0 = rf_fl (rf_u C t (rf_dr c)) := by
      rw [rf_wrx _ t 39 0 ht (by omega) rf_l0, rf_mxS (show (0 : Int) = rf_dr c 39 from rfl), rf_mx40]
    exact rf_ble 39 39 (fun _ => ⟨rf_inx t 39 ht (by omega), nm_r e (rf_fit t ht (rf_us _ _ _) (rf_dr_b c) (h _ _ (fun r hr => rf_Eu hr) (rf_Pu (rf_dr_b c))))⟩) (fun z => absurd z (by omega))
  · intro m i s hi hs hw
    subst hs
    have b := p3 (i + 1) (by omega)
    have b2 := rf_pb (x := (i : Int) + 1) (y := c (i + 1)) (by omega) b
    have e1 : rf_fl (rf_mx C t i (rf_dr c)) (rf_i (p : Int) * 40 + rf_i (i : Int) + 1).toNatClampNeg = rf_i (c (i + 1)) := by
      rw [rf_rdx _ p (i + 1) hp (by omega), rf_mxo hpt, p1]
    have e2 : (rf_i (i : Int) + 1) * rf_i (c (i + 1)) - (rf_i (i : Int) + 1) * rf_i (c (i + 1)) / 101 * 101 = rf_i (rf_dr c i) := by
      rw [rf_l1, rf_add, rf_mul, rf_em b2.1 (by omega)]
      unfold rf_dr
      rw [if_pos hi]
    refine rf_ble 39 i (fun z => absurd z (by omega)) (fun _ => ⟨rf_inx p (i + 1) hp (by omega), by decide, rf_inx t i ht (by omega), ?_⟩)
    rw [e1, e2]
    exact nm_r (rf_wrx _ t i (rf_dr c i) ht (by omega) rfl) (nm_r (rf_nx i) (hw _ (congrArg rf_fl (rf_mxS rfl))))
theorem rf_scale {post : St1 → Prop} {n x y : Int32} {C : Nat → Nat → Int} {D : Nat → Int} {a3 : Nat → Int32} (p : Nat) {c : Nat → Int} (Pp : rf_P C D p c) (k : Int) (hk : 0 ≤ k ∧ k < 101)
    (h : ∀ C' D', (∀ r, r ≠ p → rf_E C D C' D' r) → rf_P C' D' p (rf_sc c k) → post (n, rf_fl C', rf_ar D', a3)) (hp : p < 24 := by omega) (hx : x = rf_i (p : Int) := by first | with_reducible rfl | (simp only [rf_l0, rf_l1, rf_l2, rf_l3, rf_l4, rf_l6, rf_l7, rf_l11, rf_l12, rf_l13, rf_l14, rf_l15, rf_l16, rf_l17, rf_l18, rf_l19, rf_l20, rf_l21, rf_l22, rf_l23, rf_l24, rf_l25, rf_l39, rf_l40, rf_l80, rf_l101, rf_neg, rf_add, rf_sub, rf_mul]; done) | (simp only [rf_l0, rf_l1, rf_l2, rf_l3, rf_l4, rf_l6, rf_l7, rf_l11, rf_l12, rf_l13, rf_l14, rf_l15, rf_l16, rf_l17, rf_l18, rf_l19, rf_l20, rf_l21, rf_l22, rf_l23, rf_l24, rf_l25, rf_l39, rf_l40, rf_l80, rf_l101, rf_neg, rf_add, rf_sub, rf_mul]; exact congrArg rf_i (by omega)) | exact congrArg rf_i (by omega)) (hy : y = rf_i k := by first | with_reducible rfl | (simp only [rf_l0, rf_l1, rf_l2, rf_l3, rf_l4, rf_l6, rf_l7, rf_l11, rf_l12, rf_l13, rf_l14, rf_l15, rf_l16, rf_l17, rf_l18, rf_l19, rf_l20, rf_l21, rf_l22, rf_l23, rf_l24, rf_l25, rf_l39, rf_l40, rf_l80, rf_l101, rf_neg, rf_add, rf_sub, rf_mul]; done) | (simp only [rf_l0, rf_l1, rf_l2, rf_l3, rf_l4, rf_l6, rf_l7, rf_l11, rf_l12, rf_l13, rf_l14, rf_l15, rf_l16, rf_l17, rf_l18, rf_l19, rf_l20, rf_l21, rf_l22, rf_l23, rf_l24, rf_l25, rf_l39, rf_l40, rf_l80, rf_l101, rf_neg, rf_add, rf_sub, rf_mul]; exact congrArg rf_i (by omega)) | exact congrArg rf_i (by omega)) : wpX_scale post (n, rf_fl C, rf_ar D, a3) x y := by
  subst hx hy
  obtain ⟨p1, p2, p3⟩ := Pp
  refine rf_loop (fun m x3 s => wX_scale_2 post (rf_i (p : Int)) (rf_i k) n m x3 s (rf_ar D) a3) (fun i s => s = rf_fl (rf_mx C p i (rf_sc c k))) 40 (rf_fl C) (by rw [rf_mx0]) ?_ ?_
  · intro m s hs
    subst hs
    rw [rf_mx40]
    exact rf_ble 40 40 (fun _ => rf_fit p hp (rf_us _ _ _) (rf_sc_b c k) (h _ _ (fun r hr => rf_Eu hr) (rf_Pu (rf_sc_b c k)))) (fun z => absurd z (by omega))
  · intro m i s hi hs hw
    subst hs
    have b2 := rf_pb (p3 i hi) hk
    have e1 : rf_fl (rf_mx C p i (rf_sc c k)) (rf_i (p : Int) * 40 + rf_i (i : Int)).toNatClampNeg = rf_i (c i) := by
      rw [rf_rdx _ p i hp hi, rf_mxp (Nat.le_refl i), p1]
    have e2 : rf_i (c i) * rf_i k - rf_i (c i) * rf_i k / 101 * 101 = rf_i (rf_sc c k i) := by
      rw [rf_mul, rf_em b2.1 (by omega)]
      rfl
    refine rf_ble 40 i (fun z => absurd z (by omega)) (fun _ => ⟨rf_inx p i hp hi, by decide, rf_inx p i hp hi, ?_⟩)
    rw [e1, e2]
    exact nm_r (rf_wrx _ p i (rf_sc c k i) hp hi rfl) (nm_r (rf_nx i) (hw _ (congrArg rf_fl (rf_mxS rfl))))
theorem rf_addp {post : St1 → Prop} {n x y z v : Int32} {C : Nat → Nat → Int} {D : Nat → Int} {a3 : Nat → Int32} (p q t : Nat) (s : Int) (hs : s = 1 ∨ s = -1) {cp cq : Nat → Int} (Pp : rf_P C D p cp) (Pq : rf_P C D q cq)
    (h : ∀ C' D', (∀ r, r ≠ t → rf_E C D C' D' r) → rf_P C' D' t (rf_ad s cp cq) → post (n, rf_fl C', rf_ar D', a3)) (hp : p < 24 := by omega) (hq : q < 24 := by omega) (ht : t < 24 := by omega) (hpt : p ≠ t := by omega) (hqt : q ≠ t := by omega)
    (hx : x = rf_i (p : Int) := by first | with_reducible rfl | (simp only [rf_l0, rf_l1, rf_l2, rf_l3, rf_l4, rf_l6, rf_l7, rf_l11, rf_l12, rf_l13, rf_l14, rf_l15, rf_l16, rf_l17, rf_l18, rf_l19, rf_l20, rf_l21, rf_l22, rf_l23, rf_l24, rf_l25, rf_l39, rf_l40, rf_l80, rf_l101, rf_neg, rf_add, rf_sub, rf_mul]; done) | (simp only [rf_l0, rf_l1, rf_l2, rf_l3, rf_l4, rf_l6, rf_l7, rf_l11, rf_l12, rf_l13, rf_l14, rf_l15, rf_l16, rf_l17, rf_l18, rf_l19, rf_l20, rf_l21, rf_l22, rf_l23, rf_l24, rf_l25, rf_l39, rf_l40, rf_l80, rf_l101, rf_neg, rf_add, rf_sub, rf_mul]; exact congrArg rf_i (by omega)) | exact congrArg rf_i (by omega)) (hy : y = rf_i (q : Int) := by first | with_reducible rfl | (simp only [rf_l0, rf_l1, rf_l2, rf_l3, rf_l4, rf_l6, rf_l7, rf_l11, rf_l12, rf_l13, rf_l14, rf_l15, rf_l16, rf_l17, rf_l18, rf_l19, rf_l20, rf_l21, rf_l22, rf_l23, rf_l24, rf_l25, rf_l39, rf_l40, rf_l80, rf_l101, rf_neg, rf_add, rf_sub, rf_mul]; done) | (simp only [rf_l0, rf_l1, rf_l2, rf_l3, rf_l4, rf_l6, rf_l7, rf_l11, rf_l12, rf_l13, rf_l14, rf_l15, rf_l16, rf_l17, rf_l18, rf_l19, rf_l20, rf_l21, rf_l22, rf_l23, rf_l24, rf_l25, rf_l39, rf_l40, rf_l80, rf_l101, rf_neg, rf_add, rf_sub, rf_mul]; exact congrArg rf_i (by omega)) | exact congrArg rf_i (by omega)) (hv : v = rf_i s := by first | with_reducible rfl | (simp only [rf_l0, rf_l1, rf_l2, rf_l3, rf_l4, rf_l6, rf_l7, rf_l11, rf_l12, rf_l13, rf_l14, rf_l15, rf_l16, rf_l17, rf_l18, rf_l19, rf_l20, rf_l21, rf_l22, rf_l23, rf_l24, rf_l25, rf_l39, rf_l40, rf_l80, rf_l101, rf_neg, rf_add, rf_sub, rf_mul]; done) | (simp only [rf_l0, rf_l1, rf_l2, rf_l3, rf_l4, rf_l6, rf_l7, rf_l11, rf_l12, rf_l13, rf_l14, rf_l15, rf_l16, rf_l17, rf_l18, rf_l19, rf_l20, rf_l21, rf_l22, rf_l23, rf_l24, rf_l25, rf_l39, rf_l40, rf_l80, rf_l101, rf_neg, rf_add, rf_sub, rf_mul]; exact congrArg rf_i (by omega)) | exact congrArg rf_i (by omega)) (hz : z = rf_i (t : Int) := by first | with_reducible rfl | (simp only [rf_l0, rf_l1, rf_l2, rf_l3, rf_l4, rf_l6, rf_l7, rf_l11, rf_l12, rf_l13, rf_l14, rf_l15, rf_l16, rf_l17, rf_l18, rf_l19, rf_l20, rf_l21, rf_l22, rf_l23, rf_l24, rf_l25, rf_l39, rf_l40, rf_l80, rf_l101, rf_neg, rf_add, rf_sub, rf_mul]; done) | (simp only [rf_l0, rf_l1, rf_l2, rf_l3, rf_l4, rf_l6, rf_l7, rf_l11, rf_l12, rf_l13, rf_l14, rf_l15, rf_l16, rf_l17, rf_l18, rf_l19, rf_l20, rf_l21, rf_l22, rf_l23, rf_l24, rf_l25, rf_l39, rf_l40, rf_l80, rf_l101, rf_neg, rf_add, rf_sub, rf_mul]; exact congrArg rf_i (by omega)) | exact congrArg rf_i (by omega)) : wpX_add post (n, rf_fl C, rf_ar D, a3) x y v z := by
  subst hx hy hz hv
  obtain ⟨p1, p2, p3⟩ := Pp
  obtain ⟨q1, q2, q3⟩ := Pq
  refine rf_loop (fun m x3 w => wX_add_3 post (rf_i (p : Int)) (rf_i (q : Int)) (rf_i s) (rf_i (t : Int)) n m x3 w (rf_ar D) a3) (fun i w => w = rf_fl (rf_mx C t i (rf_ad s cp cq))) 40 (rf_fl C) (by rw [rf_mx0]) ?_ ?_
  · intro m w hw
    subst hw
    rw [rf_mx40]
    exact rf_ble 40 40 (fun _ => rf_fit t ht (rf_us _ _ _) (rf_ad_b s cp cq) (h _ _ (fun r hr => rf_Eu hr) (rf_Pu (rf_ad_b s cp cq)))) (fun z => absurd z (by omega))
  · intro m i w hi hs2 hw
    subst hs2
    have b1 := p3 i hi
    have b2 := q3 i hi
    have e1 : rf_fl (rf_mx C t i (rf_ad s cp cq)) (rf_i (p : Int) * 40 + rf_i (i : Int)).toNatClampNeg = rf_i (cp i) := by
      rw [rf_rdx _ p i hp hi, rf_mxo hpt, p1]
    have e2 : rf_fl (rf_mx C t i (rf_ad s cp cq)) (rf_i (q : Int) * 40 + rf_i (i : Int)).toNatClampNeg = rf_i (cq i) := by
      rw [rf_rdx _ q i hq hi, rf_mxo hqt, q1]
    have b3 : -200 ≤ cp i + s * cq i ∧ cp i + s * cq i ≤ 200 := by
      rcases hs with g | g
      · rw [g]
        omega
      · rw [g]
        omega
    refine rf_ble 40 i (fun z => absurd z (by omega)) (fun _ => ⟨rf_inx p i hp hi, rf_inx q i hq hi, ?_⟩)
    rw [e1, e2, rf_mul, rf_add]
    refine nm_e (rf_reduce (cp i + s * cq i) ⟨rf_inx t i ht hi, nm_r (rf_wrx _ t i (rf_ad s cp cq i) ht hi rfl) (nm_r (rf_nx i) (hw _ (congrArg rf_fl (rf_mxS rfl))))⟩)
end
section
theorem rf_multiply {post : St1 → Prop} {n x y z : Int32} {C : Nat → Nat → Int} {D : Nat → Int} {a3 : Nat → Int32} (p q t : Nat) {cp cq : Nat → Int} (Pp : rf_P C D p cp) (Pq : rf_P C D q cq) (hd : rf_dg cp + rf_dg cq < 40)
    (h : ∀ C' D', (∀ r, r ≠ t → rf_E C D C' D' r) → rf_P C' D' t (rf_ml cp cq) → post (n, rf_fl C', rf_ar D', a3)) (hp : p < 24 := by omega) (hq : q < 24 := by omega) (ht : t < 24 := by omega) (hpt : p ≠ t := by omega) (hqt : q ≠ t := by omega)
    (hx : x = rf_i (p : Int) := by first | with_reducible rfl | (simp only [rf_l0, rf_l1, rf_l2, rf_l3, rf_l4, rf_l6, rf_l7, rf_l11, rf_l12, rf_l13, rf_l14, rf_l15, rf_l16, rf_l17, rf_l18, rf_l19, rf_l20, rf_l21, rf_l22, rf_l23, rf_l24, rf_l25, rf_l39, rf_l40, rf_l80, rf_l101, rf_neg, rf_add, rf_sub, rf_mul]; done) | (simp only [rf_l0, rf_l1, rf_l2, rf_l3, rf_l4, rf_l6, rf_l7, rf_l11, rf_l12, rf_l13, rf_l14, rf_l15, rf_l16, rf_l17, rf_l18, rf_l19, rf_l20, rf_l21, rf_l22, rf_l23, rf_l24, rf_l25, rf_l39, rf_l40, rf_l80, rf_l101, rf_neg, rf_add, rf_sub, rf_mul]; exact congrArg rf_i (by omega)) | exact congrArg rf_i (by omega)) (hy : y = rf_i (q : Int) := by first | with_reducible rfl | (simp only [rf_l0, rf_l1, rf_l2, rf_l3, rf_l4, rf_l6, rf_l7, rf_l11, rf_l12, rf_l13, rf_l14, rf_l15, rf_l16, rf_l17, rf_l18, rf_l19, rf_l20, rf_l21, rf_l22, rf_l23, rf_l24, rf_l25, rf_l39, rf_l40, rf_l80, rf_l101, rf_neg, rf_add, rf_sub, rf_mul]; done) | (simp only [rf_l0, rf_l1, rf_l2, rf_l3, rf_l4, rf_l6, rf_l7, rf_l11, rf_l12, rf_l13, rf_l14, rf_l15, rf_l16, rf_l17, rf_l18, rf_l19, rf_l20, rf_l21, rf_l22, rf_l23, rf_l24, rf_l25, rf_l39, rf_l40, rf_l80, rf_l101, rf_neg, rf_add, rf_sub, rf_mul]; exact congrArg rf_i (by omega)) | exact congrArg rf_i (by omega)) (hz : z = rf_i (t : Int) := by first | with_reducible rfl | (simp only [rf_l0, rf_l1, rf_l2, rf_l3, rf_l4, rf_l6, rf_l7, rf_l11, rf_l12, rf_l13, rf_l14, rf_l15, rf_l16, rf_l17, rf_l18, rf_l19, rf_l20, rf_l21, rf_l22, rf_l23, rf_l24, rf_l25, rf_l39, rf_l40, rf_l80, rf_l101, rf_neg, rf_add, rf_sub, rf_mul]; done) | (simp only [rf_l0, rf_l1, rf_l2, rf_l3, rf_l4, rf_l6, rf_l7, rf_l11, rf_l12, rf_l13, rf_l14, rf_l15, rf_l16, rf_l17, rf_l18, rf_l19, rf_l20, rf_l21, rf_l22, rf_l23, rf_l24, rf_l25, rf_l39, rf_l40, rf_l80, rf_l101, rf_neg, rf_add, rf_sub, rf_mul]; exact congrArg rf_i (by omega)) | exact congrArg rf_i (by omega)) : wpX_multiply post (n, rf_fl C, rf_ar D, a3) x y z := by
  subst hx hy hz
  obtain ⟨p1, p2, p3⟩ := Pp
  obtain ⟨q1, q2, q3⟩ := Pq
  have lp := rf_dg_lt cp
  have lq := rf_dg_lt cq
  refine rf_clear t ht ?_
  have d1 : ∀ {x : Int32}, x = rf_i (p : Int) → rf_ar (rf_u D t (-1)) x.toNatClampNeg = rf_i (rf_dg cp) := fun hx => by
    rw [rf_rdd _ p hp hx, rf_un hpt, p2]
  have d2 : ∀ {x : Int32}, x = rf_i (q : Int) → rf_ar (rf_u D t (-1)) x.toNatClampNeg = rf_i (rf_dg cq) := fun hx => by
    rw [rf_rdd _ q hq hx, rf_un hqt, q2]
  refine rf_loop (fun m x4 s => wX_multiply_8 post (rf_i (p : Int)) (rf_i (q : Int)) (rf_i (t : Int)) n m x4 s (rf_ar (rf_u D t (-1))) a3) (fun i s => s = rf_fl (rf_u C t (rf_mo cp cq (rf_dg cq + 1).toNat i))) (rf_dg cp + 1).toNat _ rfl ?_ ?_
  · intro m s hs
    subst hs
    refine ⟨rf_ind p hp, rf_blt (rf_dg cp) (rf_dg cp + 1) (fun _ => ?_) (fun z => absurd z (by omega)) (d1 rfl)⟩
    refine rf_fit t ht (rf_us _ _ _) (rf_ml_b cp cq) ?_
    rw [rf_uu]
    exact h _ _ (fun r hr => rf_Eu hr) (rf_Pu (rf_ml_b cp cq))
  · intro m i s hi hs hw
    subst hs
    refine ⟨rf_ind p hp, rf_blt (rf_dg cp) i (fun z => absurd z (by omega)) (fun _ => ?_) (d1 rfl)⟩
    refine rf_loop (fun m' x5 s => wX_multiply_22 post (wX_multiply_8 post (rf_i (p : Int)) (rf_i (q : Int)) (rf_i (t : Int)) n m) (rf_i (p : Int)) (rf_i (q : Int)) (rf_i (t : Int)) (rf_i (i : Int)) n m' x5 s (rf_ar (rf_u D t (-1))) a3)
      (fun j s => s = rf_fl (rf_u C t (rf_mi cp cq i j (rf_mo cp cq (rf_dg cq + 1).toNat i)))) (rf_dg cq + 1).toNat _ rfl ?_ ?_
    · intro m' s hs
      subst hs
      exact ⟨rf_ind q hq, rf_blt (rf_dg cq) (rf_dg cq + 1) (fun _ => nm_r (rf_nx i) (hw _ rfl)) (fun z => absurd z (by omega)) (d2 rfl)⟩
    · intro m' j s hj hs hw'
      subst hs
      have bM := rf_mi_b cp cq i (rf_mo_b cp cq (rf_dg cq + 1).toNat i) j (i + j) (by omega)
      have b2 := rf_pb (p3 i (by omega)) (q3 j (by omega))
      generalize hM : rf_mi cp cq i j (rf_mo cp cq (rf_dg cq + 1).toNat i) = M at *
      have e1 : rf_fl (rf_u C t M) (rf_i (p : Int) * 40 + rf_i (i : Int)).toNatClampNeg = rf_i (cp i) := by
        rw [rf_rdx _ p i hp (by omega), rf_un hpt, p1]
      have e2 : rf_fl (rf_u C t M) (rf_i (q : Int) * 40 + rf_i (j : Int)).toNatClampNeg = rf_i (cq j) := by
        rw [rf_rdx _ q j hq (by omega), rf_un hqt, q1]
      have e3 : rf_fl (rf_u C t M) (rf_i ((t : Int) * 40 + ((i + j : Nat) : Int))).toNatClampNeg = rf_i (M (i + j)) := by
        rw [rf_rdx _ t (i + j) ht (by omega), rf_us]
      refine ⟨rf_ind q hq, rf_blt (rf_dg cq) j (fun z => absurd z (by omega)) (fun _ => ?_) (d2 rfl)⟩
      refine rf_ble 40 (i + j) (fun z => absurd z (by omega)) (fun _ => nm_r (e' := rf_i ((t : Int) * 40 + ((i + j : Nat) : Int))) (by first | with_reducible rfl | (simp only [rf_l0, rf_l1, rf_l2, rf_l3, rf_l4, rf_l6, rf_l7, rf_l11, rf_l12, rf_l13, rf_l14, rf_l15, rf_l16, rf_l17, rf_l18, rf_l19, rf_l20, rf_l21, rf_l22, rf_l23, rf_l24, rf_l25, rf_l39, rf_l40, rf_l80, rf_l101, rf_neg, rf_add, rf_sub, rf_mul]; done) | (simp only [rf_l0, rf_l1, rf_l2, rf_l3, rf_l4, rf_l6, rf_l7, rf_l11, rf_l12, rf_l13, rf_l14, rf_l15, rf_l16, rf_l17, rf_l18, rf_l19, rf_l20, rf_l21, rf_l22, rf_l23, rf_l24, rf_l25, rf_l39, rf_l40, rf_l80, rf_l101, rf_neg, rf_add, rf_sub, rf_mul]; exact congrArg rf_i (by omega)) | exact congrArg rf_i (by omega)) ⟨rf_inx p i hp (by omega), rf_inx q j hq (by omega), ?_⟩)
      rw [e1, e2, e3, rf_mul]
      refine nm_e ⟨rf_inx t (i + j) ht (by omega), by decide, rf_inx t (i + j) ht (by omega), ?_⟩
      rw [rf_add, rf_em (by omega) (by omega)]
      refine nm_r (rf_wrx _ t (i + j) _ ht (by omega) rfl) (nm_r (rf_nx j) (hw' _ ?_))
      rw [rf_uu, rf_us, ← hM]
      rfl
theorem rf_iv1 {post : Int32 → Prop} {n : Int32} {a1 a2 a3 : Nat → Int32} {m : Nat} {x s : Int} {k k' : Int32} (hk : ¬ 7 ≤ k) (hb : (((99 : Int32) >>> (k &&& 31)) &&& 1) = 1) (hk' : k + 1 = k') (bx : 0 ≤ x ∧ x < 101) (bs : 0 ≤ s ∧ s < 101)
    (h : wX_inverse_7 post n a1 a2 a3 m (rf_i (x * s % 101)) (rf_i (rf_q s)) k') : wX_inverse_7 post n a1 a2 a3 (m + 1) (rf_i x) (rf_i s) k := by
  have b1 := rf_pb bx bs
  have b2 := rf_pb bs bs
  have e1 : rf_i x * rf_i s - rf_i x * rf_i s / 101 * 101 = rf_i (x * s % 101) := by
    rw [rf_mul, rf_em b1.1 (by omega)]
  have e2 : rf_i s * rf_i s - rf_i s * rf_i s / 101 * 101 = rf_i (rf_q s) := by
    rw [rf_mul, rf_em b2.1 (by omega)]
    rfl
  exact br_f hk (br_t hb ⟨by decide, nm_r e1 ⟨by decide, nm_r e2 (nm_r hk' h)⟩⟩)
theorem rf_iv0 {post : Int32 → Prop} {n : Int32} {a1 a2 a3 : Nat → Int32} {m : Nat} {x s : Int} {k k' : Int32} (hk : ¬ 7 ≤ k) (hb : ¬ (((99 : Int32) >>> (k &&& 31)) &&& 1) = 1) (hk' : k + 1 = k') (bs : 0 ≤ s ∧ s < 101)
    (h : wX_inverse_7 post n a1 a2 a3 m (rf_i x) (rf_i (rf_q s)) k') : wX_inverse_7 post n a1 a2 a3 (m + 1) (rf_i x) (rf_i s) k := by
  have b2 := rf_pb bs bs
  have e2 : rf_i s * rf_i s - rf_i s * rf_i s / 101 * 101 = rf_i (rf_q s) := by
    rw [rf_mul, rf_em b2.1 (by omega)]
    rfl
  exact br_f hk (br_f hb ⟨by decide, nm_r e2 (nm_r hk' h)⟩)
theorem rf_inverse {post : Int32 → Prop} {u : St1} {x : Int32} (a : Int) (ha : 0 ≤ a ∧ a < 101) (h : post (rf_i (rf_iv a))) (hx : x = rf_i a := by first | with_reducible rfl | (simp only [rf_l0, rf_l1, rf_l2, rf_l3, rf_l4, rf_l6, rf_l7, rf_l11, rf_l12, rf_l13, rf_l14, rf_l15, rf_l16, rf_l17, rf_l18, rf_l19, rf_l20, rf_l21, rf_l22, rf_l23, rf_l24, rf_l25, rf_l39, rf_l40, rf_l80, rf_l101, rf_neg, rf_add, rf_sub, rf_mul]; done) | (simp only [rf_l0, rf_l1, rf_l2, rf_l3, rf_l4, rf_l6, rf_l7, rf_l11, rf_l12, rf_l13, rf_l14, rf_l15, rf_l16, rf_l17, rf_l18, rf_l19, rf_l20, rf_l21, rf_l22, rf_l23, rf_l24, rf_l25, rf_l39, rf_l40, rf_l80, rf_l101, rf_neg, rf_add, rf_sub, rf_mul]; exact congrArg rf_i (by omega)) | exact congrArg rf_i (by omega)) : wpX_inverse post u x := by
  subst hx
  obtain ⟨u1, u2, u3, u4⟩ := u
  have h1 : wX_inverse_7 post u1 u2 u3 u4 8 (rf_i 1) (rf_i a) 0 :=
    rf_iv1 (k' := 1) (by decide) (by decide) (by decide) (by omega) ha (rf_iv1 (k' := 2) (by decide) (by decide) (by decide) (rf_mr _) (rf_mr _) (rf_iv0 (k' := 3) (by decide) (by decide) (by decide) (rf_mr _) (rf_iv0 (k' := 4) (by decide) (by decide) (by decide) (rf_mr _)
      (rf_iv0 (k' := 5) (by decide) (by decide) (by decide) (rf_mr _) (rf_iv1 (k' := 6) (by decide) (by decide) (by decide) (rf_mr _) (rf_mr _) (rf_iv1 (k' := 7) (by decide) (by decide) (by decide) (rf_mr _) (rf_mr _) (br_t (by decide) h)))))))
  rw [← rf_l1] at h1
  exact ⟨8, h1⟩
end
section
/-- row z, if z isn't negative, holds v -/
def rf_cz (C : Nat → Nat → Int) (z : Int) (v : Nat → Int) : Nat → Nat → Int := fun r => if (r : Int) = z then v else C r
theorem rf_cz_n {C : Nat → Nat → Int} {z : Int} {v : Nat → Int} {r : Nat} (h : ¬ (r : Int) = z) : rf_cz C z v r = C r := if_neg h
theorem rf_cz_m {C : Nat → Nat → Int} {z : Int} (v : Nat → Int) (h : z < 0) : rf_cz C z v = C := by
  funext r
  exact rf_cz_n (by omega)
theorem rf_cz_u {C : Nat → Nat → Int} {z : Nat} {v : Nat → Int} : rf_cz C (z : Int) v = rf_u C z v := by
  funext r
  unfold rf_cz rf_u
  by_cases h : r = z
  · rw [if_pos (by omega), if_pos h]
  · rw [if_neg (by omega), if_neg h]
theorem rf_cz_p {C : Nat → Nat → Int} {z : Int} {v c c' : Nat → Int} {p : Nat} (h : ¬ (p : Int) = z) : rf_u (rf_cz (rf_u C p c) z v) p c' = rf_cz (rf_u C p c') z v := by
  funext r
  by_cases e : r = p
  · rw [e, rf_us, rf_cz_n h, rf_us]
  · rw [rf_un e]
    unfold rf_cz
    rw [rf_un e, rf_un e]
theorem rf_ue {α : Type} {f : Nat → α} {k : Nat} {v : α} (h : f k = v) : rf_u f k v = f := by
  funext j
  by_cases e : j = k
  · rw [e, rf_us, h]
  · rw [rf_un e]
theorem rf_uc {α : Type} {f : Nat → α} {k l : Nat} {v w : α} (h : k ≠ l) : rf_u (rf_u f k v) l w = rf_u (rf_u f l w) k v := by
  funext j
  by_cases e : j = k
  · rw [e, rf_us, rf_un h, rf_us]
  · by_cases e2 : j = l
    · rw [e2, rf_us, rf_un (by omega), rf_us]
    · rw [rf_un e2, rf_un e, rf_un e, rf_un e2]
theorem rf_ds0 (c b : Nat → Int) (k : Int) (sh : Nat) : rf_ds c b k sh 0 = c := by
  funext j
  unfold rf_ds
  rw [if_neg (by omega)]
theorem rf_dsS {c b : Nat → Int} {k : Int} {sh i : Nat} {w : Int} (hw : w = (c (i + sh) - k * b i) % 101) : rf_u (rf_ds c b k sh i) (i + sh) w = rf_ds c b k sh (i + 1) := by
  funext j
  unfold rf_ds
  by_cases e : j = i + sh
  · rw [e, rf_us, if_pos (by omega), hw, show i + sh - sh = i by omega]
  · rw [rf_un e]
    by_cases e2 : sh ≤ j ∧ j < sh + i
    · rw [if_pos e2, if_pos (by omega)]
    · rw [if_neg e2, if_neg (by omega)]
theorem rf_ds_at (c b : Nat → Int) (k : Int) (sh i : Nat) : rf_ds c b k sh i (i + sh) = c (i + sh) := by
  unfold rf_ds
  rw [if_neg (by omega)]
theorem rf_div98 {post : St1 → Prop} {J : Int32 → Int32 → (Nat → Int32) → (Nat → Int32) → (Nat → Int32) → Prop} {n x4 : Int32} {C : Nat → Nat → Int} {D : Nat → Int} {a3 : Nat → Int32} {p q : Nat} {z : Int} {c b zc : Nat → Int} {r : Nat}
    (hp : p < 24) (hq : q < 24) (hz : -1 ≤ z ∧ z < 24) (hpq : p ≠ q) (hpz : ¬ (p : Int) = z) (hqz : ¬ (q : Int) = z) (bc : rf_bd c) (bb : rf_bd b) (h0 : 0 ≤ rf_dg b) (hcb : rf_dg b ≤ rf_dg c) (hC : C q = b) (hDq : D q = rf_dg b)
    (h : J (rf_i ((r + 1 : Nat) : Int)) n (rf_fl (rf_cz (rf_u C p (rf_dc c b)) z (rf_u zc (rf_dg c - rf_dg b).toNat (rf_dk c b)))) (rf_ar (rf_u D p (rf_dg (rf_dc c b)))) a3) :
    ∃ m, wX_divide_98 post J (rf_i (p : Int)) (rf_i (q : Int)) (rf_i z) x4 (rf_i (r : Int)) (rf_i (rf_dg c - rf_dg b)) (rf_i (rf_dk c b)) n m 0 (rf_fl (rf_cz (rf_u C p c) z zc)) (rf_ar D) a3 := by
  have lc := rf_dg_lt c
  have lb := rf_dg_lt b
  have hk : 0 ≤ rf_dk c b ∧ rf_dk c b < 101 := rf_mr _
  have dq : ∀ {x : Int32}, x = rf_i (q : Int) → rf_ar D x.toNatClampNeg = rf_i (rf_dg b) := fun hx => by
    rw [rf_rdd _ q hq hx, hDq]
  generalize hsh : (rf_dg c - rf_dg b).toNat = sh at *
  have hsh2 : rf_dg c - rf_dg b = (sh : Int) := by omega
  rw [hsh2]
  refine rf_loop (fun m x8 s => wX_divide_98 post J (rf_i (p : Int)) (rf_i (q : Int)) (rf_i z) x4 (rf_i (r : Int)) (rf_i (sh : Int)) (rf_i (rf_dk c b)) n m x8 s (rf_ar D) a3) (fun i s => s = rf_fl (rf_cz (rf_u C p (rf_ds c b (rf_dk c b) sh i)) z zc)) (rf_dg b + 1).toNat _ (by rw [rf_ds0]) ?_ ?_
  · intro m s hs
    subst hs
    have edc : rf_ds c b (rf_dk c b) sh (rf_dg b + 1).toNat = rf_dc c b := by
      unfold rf_dc
      rw [hsh]
    rw [edc]
    refine ⟨rf_ind q hq, rf_blt (rf_dg b) (rf_dg b + 1) (fun _ => ?_) (fun g => absurd g (by omega)) (dq rfl)⟩
    refine rf_blt z 0 (fun g => ?_) (fun g => ?_)
    · refine rf_fit p hp (c := rf_dc c b) (by rw [rf_cz_n hpz, rf_us]) (rf_dc_b bc) ?_
      refine nm_r (rf_nx r) ?_
      rw [rf_cz_m _ g] at h
      rw [rf_cz_m _ g]
      exact h
    · obtain ⟨w, rfl⟩ := Int.eq_ofNat_of_zero_le g
      have e : upd (rf_fl (rf_cz (rf_u C p (rf_dc c b)) (w : Int) zc)) (rf_i (w : Int) * 40 + rf_i (sh : Int)).toNatClampNeg (rf_i (rf_dk c b)) = rf_fl (rf_cz (rf_u C p (rf_dc c b)) (w : Int) (rf_u zc sh (rf_dk c b))) := by
        rw [rf_wrx _ w sh _ (by omega) (by omega) rfl, rf_cz_u, rf_cz_u, rf_uu, rf_us]
      refine ⟨rf_inx w sh (by omega) (by omega), nm_r e ?_⟩
      refine rf_fit p hp (c := rf_dc c b) (by rw [rf_cz_n hpz, rf_us]) (rf_dc_b bc) ?_
      exact nm_r (rf_nx r) h
  · intro m i s hi hs hw
    subst hs
    have b1 := bc (i + sh) (by omega)
    have b2 := bb i (by omega)
    have b3 := rf_pb hk b2
    have e1 : rf_fl (rf_cz (rf_u C p (rf_ds c b (rf_dk c b) sh i)) z zc) (rf_i ((p : Int) * 40 + ((i + sh : Nat) : Int))).toNatClampNeg = rf_i (c (i + sh)) := by
      rw [rf_rdx _ p (i + sh) hp (by omega), rf_cz_n hpz, rf_us, rf_ds_at]
    have e2 : rf_fl (rf_cz (rf_u C p (rf_ds c b (rf_dk c b) sh i)) z zc) (rf_i (q : Int) * 40 + rf_i (i : Int)).toNatClampNeg = rf_i (b i) := by
      rw [rf_rdx _ q i hq (by omega), rf_cz_n hqz, rf_un (by omega), hC]
    refine ⟨rf_ind q hq, rf_blt (rf_dg b) i (fun g => absurd g (by omega)) (fun _ => ?_) (dq rfl)⟩
    refine nm_r (e' := rf_i ((p : Int) * 40 + ((i + sh : Nat) : Int))) (by first | with_reducible rfl | (simp only [rf_l0, rf_l1, rf_l2, rf_l3, rf_l4, rf_l6, rf_l7, rf_l11, rf_l12, rf_l13, rf_l14, rf_l15, rf_l16, rf_l17, rf_l18, rf_l19, rf_l20, rf_l21, rf_l22, rf_l23, rf_l24, rf_l25, rf_l39, rf_l40, rf_l80, rf_l101, rf_neg, rf_add, rf_sub, rf_mul]; done) | (simp only [rf_l0, rf_l1, rf_l2, rf_l3, rf_l4, rf_l6, rf_l7, rf_l11, rf_l12, rf_l13, rf_l14, rf_l15, rf_l16, rf_l17, rf_l18, rf_l19, rf_l20, rf_l21, rf_l22, rf_l23, rf_l24, rf_l25, rf_l39, rf_l40, rf_l80, rf_l101, rf_neg, rf_add, rf_sub, rf_mul]; exact congrArg rf_i (by omega)) | exact congrArg rf_i (by omega)) ⟨rf_inx p (i + sh) hp (by omega), rf_inx q i hq (by omega), ?_⟩
    rw [e1, e2, rf_mul, rf_sub]
    refine rf_reduce (c (i + sh) - rf_dk c b * b i) ⟨rf_inx p (i + sh) hp (by omega), nm_r (rf_wrx _ p (i + sh) _ hp (by omega) rfl) (nm_r (rf_nx i) (hw _ ?_))⟩
    rw [rf_cz_p hpz, rf_cz_n hpz, rf_us, rf_dsS rfl]
theorem rf_div34 {post : St1 → Prop} {n : Int32} {C : Nat → Nat → Int} {a3 : Nat → Int32} {p q : Nat} {z : Int} {b : Nat → Int}
    (hp : p < 24) (hq : q < 24) (hz : -1 ≤ z ∧ z < 24) (hpq : p ≠ q) (hpz : ¬ (p : Int) = z) (hqz : ¬ (q : Int) = z) (bb : rf_bd b) (h0 : 0 ≤ rf_dg b) (hC : C q = b) :
    ∀ (m r : Nat) (D : Nat → Int) (c zc : Nat → Int), r + m = 40 → rf_bd c → D p = rf_dg c → D q = rf_dg b →
      wX_divide_190 post (rf_i z) n (rf_fl (rf_cz (rf_u C p (rf_dv b m c zc).1) z (rf_dv b m c zc).2)) (rf_ar (rf_u D p (rf_dg (rf_dv b m c zc).1))) a3 →
      wX_divide_34 post (rf_i (p : Int)) (rf_i (q : Int)) (rf_i z) (rf_i (rf_iv (b (rf_dg b).toNat))) (m + 1) (rf_i (r : Int)) n (rf_fl (rf_cz (rf_u C p c) z zc)) (rf_ar D) a3
  | 0, r, D, c, zc, hr, bc, hDp, hDq, h => by
    have h' : wX_divide_190 post (rf_i z) n (rf_fl (rf_cz (rf_u C p c) z zc)) (rf_ar (rf_u D p (rf_dg c))) a3 := h
    rw [rf_ue hDp] at h'
    exact rf_ble 40 r (fun _ => h') (fun g => absurd g (by omega))
  | m + 1, r, D, c, zc, hr, bc, hDp, hDq, h => by
    have lc := rf_dg_lt c
    have lb := rf_dg_lt b
    have dp : ∀ {x : Int32}, x = rf_i (p : Int) → rf_ar D x.toNatClampNeg = rf_i (rf_dg c) := fun hx => by
      rw [rf_rdd _ p hp hx, hDp]
    have dq : ∀ {x : Int32}, x = rf_i (q : Int) → rf_ar D x.toNatClampNeg = rf_i (rf_dg b) := fun hx => by
      rw [rf_rdd _ q hq hx, hDq]
    refine rf_ble 40 r (fun g => absurd g (by omega)) (fun _ => ⟨rf_ind p hp, rf_ind q hq, rf_blt (rf_dg c) (rf_dg b) (fun g => ?_) (fun g => ?_) (dp rfl) (dq rfl)⟩)
    · rw [rf_dv_t g] at h
      have h' : wX_divide_190 post (rf_i z) n (rf_fl (rf_cz (rf_u C p c) z zc)) (rf_ar (rf_u D p (rf_dg c))) a3 := h
      rw [rf_ue hDp] at h'
      exact h'
    · rw [rf_dv_f (by omega)] at h
      have b1 := bc (rf_dg c).toNat (by omega)
      have b2 := rf_pb b1 (rf_iv_r (b (rf_dg b).toNat))
      refine ⟨rf_ind p hp, rf_ind q hq, ?_⟩
      rw [dp rfl, dq rfl, rf_sub]
      refine nm_e ⟨rf_ind p hp, rf_inx p (rf_dg c).toNat hp (by omega), by decide, ?_⟩
      have e1 : rf_fl (rf_cz (rf_u C p c) z zc) (rf_i (p : Int) * 40 + rf_i (rf_dg c)).toNatClampNeg = rf_i (c (rf_dg c).toNat) := by
        rw [rf_rdx _ p (rf_dg c).toNat hp (by omega), rf_cz_n hpz, rf_us]
      rw [e1, rf_mul, rf_em b2.1 (by omega)]
      refine nm_e (rf_div98 hp hq hz hpq hpz hqz bc bb h0 g hC hDq ?_)
      refine rf_div34 hp hq hz hpq hpz hqz bb h0 hC m (r + 1) _ _ _ (by omega) (rf_dc_b bc) (rf_us _ _ _) (by rw [rf_un (by omega), hDq]) ?_
      rw [rf_uu]
      exact h
theorem rf_div9 {post : St1 → Prop} {n : Int32} {C : Nat → Nat → Int} {D : Nat → Int} {a3 : Nat → Int32} {p q : Nat} {z : Int} {c b zc : Nat → Int}
    (hp : p < 24) (hq : q < 24) (hz : -1 ≤ z ∧ z < 24) (hpq : p ≠ q) (hpz : ¬ (p : Int) = z) (hqz : ¬ (q : Int) = z) (bc : rf_bd c) (bb : rf_bd b) (h0 : 0 ≤ rf_dg b) (hC : C q = b) (hDp : D p = rf_dg c) (hDq : D q = rf_dg b)
    (h : wX_divide_190 post (rf_i z) n (rf_fl (rf_cz (rf_u C p (rf_dv b 40 c zc).1) z (rf_dv b 40 c zc).2)) (rf_ar (rf_u D p (rf_dg (rf_dv b 40 c zc).1))) a3) :
    wX_divide_9 post (rf_i (p : Int)) (rf_i (q : Int)) (rf_i z) n (rf_fl (rf_cz (rf_u C p c) z zc)) (rf_ar D) a3 := by
  have lb := rf_dg_lt b
  have dq : ∀ {x : Int32}, x = rf_i (q : Int) → rf_ar D x.toNatClampNeg = rf_i (rf_dg b) := fun hx => by
    rw [rf_rdd _ q hq hx, hDq]
  have e1 : rf_fl (rf_cz (rf_u C p c) z zc) (rf_i (q : Int) * 40 + rf_i (rf_dg b)).toNatClampNeg = rf_i (b (rf_dg b).toNat) := by
    rw [rf_rdx _ q (rf_dg b).toNat hq (by omega), rf_cz_n hqz, rf_un (by omega), hC]
  unfold wX_divide_9
  rw [dq rfl, e1]
  refine ⟨rf_ind q hq, rf_inx q (rf_dg b).toNat hq (by omega), rf_inverse (b (rf_dg b).toNat) (bb (rf_dg b).toNat (by omega)) ?_⟩
  have r := rf_div34 (post := post) (n := n) (a3 := a3) hp hq hz hpq hpz hqz bb h0 hC 40 0 D c zc (by omega) bc hDp hDq h
  rw [show rf_i ((0 : Nat) : Int) = 0 by decide] at r
  exact ⟨41, r⟩
/-- a division without a quotient -/
theorem rf_divide0 {post : St1 → Prop} {n x y z : Int32} {C : Nat → Nat → Int} {D : Nat → Int} {a3 : Nat → Int32} (p q : Nat) {c b : Nat → Int} (Pp : rf_P C D p c) (Pq : rf_P C D q b) (h0 : 0 ≤ rf_dg b)
    (h : ∀ C' D', (∀ r, r ≠ p → rf_E C D C' D' r) → rf_P C' D' p (rf_md c b) → post (n, rf_fl C', rf_ar D', a3)) (hp : p < 24 := by omega) (hq : q < 24 := by omega) (hpq : p ≠ q := by omega)
    (hx : x = rf_i (p : Int) := by first | with_reducible rfl | (simp only [rf_l0, rf_l1, rf_l2, rf_l3, rf_l4, rf_l6, rf_l7, rf_l11, rf_l12, rf_l13, rf_l14, rf_l15, rf_l16, rf_l17, rf_l18, rf_l19, rf_l20, rf_l21, rf_l22, rf_l23, rf_l24, rf_l25, rf_l39, rf_l40, rf_l80, rf_l101, rf_neg, rf_add, rf_sub, rf_mul]; done) | (simp only [rf_l0, rf_l1, rf_l2, rf_l3, rf_l4, rf_l6, rf_l7, rf_l11, rf_l12, rf_l13, rf_l14, rf_l15, rf_l16, rf_l17, rf_l18, rf_l19, rf_l20, rf_l21, rf_l22, rf_l23, rf_l24, rf_l25, rf_l39, rf_l40, rf_l80, rf_l101, rf_neg, rf_add, rf_sub, rf_mul]; exact congrArg rf_i (by omega)) | exact congrArg rf_i (by omega)) (hy : y = rf_i (q : Int) := by first | with_reducible rfl | (simp only [rf_l0, rf_l1, rf_l2, rf_l3, rf_l4, rf_l6, rf_l7, rf_l11, rf_l12, rf_l13, rf_l14, rf_l15, rf_l16, rf_l17, rf_l18, rf_l19, rf_l20, rf_l21, rf_l22, rf_l23, rf_l24, rf_l25, rf_l39, rf_l40, rf_l80, rf_l101, rf_neg, rf_add, rf_sub, rf_mul]; done) | (simp only [rf_l0, rf_l1, rf_l2, rf_l3, rf_l4, rf_l6, rf_l7, rf_l11, rf_l12, rf_l13, rf_l14, rf_l15, rf_l16, rf_l17, rf_l18, rf_l19, rf_l20, rf_l21, rf_l22, rf_l23, rf_l24, rf_l25, rf_l39, rf_l40, rf_l80, rf_l101, rf_neg, rf_add, rf_sub, rf_mul]; exact congrArg rf_i (by omega)) | exact congrArg rf_i (by omega)) (hz : z = rf_i (-1) := by first | with_reducible rfl | (simp only [rf_l0, rf_l1, rf_l2, rf_l3, rf_l4, rf_l6, rf_l7, rf_l11, rf_l12, rf_l13, rf_l14, rf_l15, rf_l16, rf_l17, rf_l18, rf_l19, rf_l20, rf_l21, rf_l22, rf_l23, rf_l24, rf_l25, rf_l39, rf_l40, rf_l80, rf_l101, rf_neg, rf_add, rf_sub, rf_mul]; done) | (simp only [rf_l0, rf_l1, rf_l2, rf_l3, rf_l4, rf_l6, rf_l7, rf_l11, rf_l12, rf_l13, rf_l14, rf_l15, rf_l16, rf_l17, rf_l18, rf_l19, rf_l20, rf_l21, rf_l22, rf_l23, rf_l24, rf_l25, rf_l39, rf_l40, rf_l80, rf_l101, rf_neg, rf_add, rf_sub, rf_mul]; exact congrArg rf_i (by omega)) | exact congrArg rf_i (by omega)) : wpX_divide post (n, rf_fl C, rf_ar D, a3) x y z := by
  subst hx hy hz
  obtain ⟨p1, p2, p3⟩ := Pp
  obtain ⟨q1, q2, q3⟩ := Pq
  have r := rf_div9 (post := post) (n := n) (C := C) (D := D) (a3 := a3) (z := -1) (c := c) (b := b) (zc := fun _ => 0) hp hq (by omega) hpq (by omega) (by omega) p3 q3 h0 q1 p2 q2
    (rf_blt (-1) 0 (fun _ => by
      rw [rf_cz_m _ (by omega)]
      exact h _ _ (fun r hr => rf_Eu hr) (rf_Pu (rf_md_s p3 q3 h0).1)) (fun g => absurd g (by omega)))
  rw [rf_cz_m _ (by omega), rf_ue p1] at r
  exact rf_blt (-1) 0 (fun _ => r) (fun g => absurd g (by omega))
/-- a division with its quotient in row z -/
theorem rf_divide1 {post : St1 → Prop} {n x y w : Int32} {C : Nat → Nat → Int} {D : Nat → Int} {a3 : Nat → Int32} (p q z : Nat) {c b : Nat → Int} (Pp : rf_P C D p c) (Pq : rf_P C D q b) (h0 : 0 ≤ rf_dg b)
    (h : ∀ C' D', (∀ r, r ≠ p → r ≠ z → rf_E C D C' D' r) → rf_P C' D' z (rf_qt c b) → post (n, rf_fl C', rf_ar D', a3)) (hp : p < 24 := by omega) (hq : q < 24 := by omega) (hz : z < 24 := by omega) (hpq : p ≠ q := by omega) (hpz : p ≠ z := by omega) (hqz : q ≠ z := by omega)
    (hx : x = rf_i (p : Int) := by first | with_reducible rfl | (simp only [rf_l0, rf_l1, rf_l2, rf_l3, rf_l4, rf_l6, rf_l7, rf_l11, rf_l12, rf_l13, rf_l14, rf_l15, rf_l16, rf_l17, rf_l18, rf_l19, rf_l20, rf_l21, rf_l22, rf_l23, rf_l24, rf_l25, rf_l39, rf_l40, rf_l80, rf_l101, rf_neg, rf_add, rf_sub, rf_mul]; done) | (simp only [rf_l0, rf_l1, rf_l2, rf_l3, rf_l4, rf_l6, rf_l7, rf_l11, rf_l12, rf_l13, rf_l14, rf_l15, rf_l16, rf_l17, rf_l18, rf_l19, rf_l20, rf_l21, rf_l22, rf_l23, rf_l24, rf_l25, rf_l39, rf_l40, rf_l80, rf_l101, rf_neg, rf_add, rf_sub, rf_mul]; exact congrArg rf_i (by omega)) | exact congrArg rf_i (by omega)) (hy : y = rf_i (q : Int) := by first | with_reducible rfl | (simp only [rf_l0, rf_l1, rf_l2, rf_l3, rf_l4, rf_l6, rf_l7, rf_l11, rf_l12, rf_l13, rf_l14, rf_l15, rf_l16, rf_l17, rf_l18, rf_l19, rf_l20, rf_l21, rf_l22, rf_l23, rf_l24, rf_l25, rf_l39, rf_l40, rf_l80, rf_l101, rf_neg, rf_add, rf_sub, rf_mul]; done) | (simp only [rf_l0, rf_l1, rf_l2, rf_l3, rf_l4, rf_l6, rf_l7, rf_l11, rf_l12, rf_l13, rf_l14, rf_l15, rf_l16, rf_l17, rf_l18, rf_l19, rf_l20, rf_l21, rf_l22, rf_l23, rf_l24, rf_l25, rf_l39, rf_l40, rf_l80, rf_l101, rf_neg, rf_add, rf_sub, rf_mul]; exact congrArg rf_i (by omega)) | exact congrArg rf_i (by omega)) (hw : w = rf_i (z : Int) := by first | with_reducible rfl | (simp only [rf_l0, rf_l1, rf_l2, rf_l3, rf_l4, rf_l6, rf_l7, rf_l11, rf_l12, rf_l13, rf_l14, rf_l15, rf_l16, rf_l17, rf_l18, rf_l19, rf_l20, rf_l21, rf_l22, rf_l23, rf_l24, rf_l25, rf_l39, rf_l40, rf_l80, rf_l101, rf_neg, rf_add, rf_sub, rf_mul]; done) | (simp only [rf_l0, rf_l1, rf_l2, rf_l3, rf_l4, rf_l6, rf_l7, rf_l11, rf_l12, rf_l13, rf_l14, rf_l15, rf_l16, rf_l17, rf_l18, rf_l19, rf_l20, rf_l21, rf_l22, rf_l23, rf_l24, rf_l25, rf_l39, rf_l40, rf_l80, rf_l101, rf_neg, rf_add, rf_sub, rf_mul]; exact congrArg rf_i (by omega)) | exact congrArg rf_i (by omega)) : wpX_divide post (n, rf_fl C, rf_ar D, a3) x y w := by
  subst hx hy hw
  obtain ⟨p1, p2, p3⟩ := Pp
  obtain ⟨q1, q2, q3⟩ := Pq
  refine rf_blt (z : Int) 0 (fun g => absurd g (by omega)) (fun _ => rf_clear z hz ?_)
  have r := rf_div9 (post := post) (n := n) (C := C) (D := rf_u D z (-1)) (a3 := a3) (z := (z : Int)) (c := c) (b := b) (zc := fun _ => 0) hp hq (by omega) hpq (by omega) (by omega) p3 q3 h0 q1 (by rw [rf_un hpz, p2]) (by rw [rf_un hqz, q2])
    (rf_blt (z : Int) 0 (fun g => absurd g (by omega)) (fun _ => by
      refine rf_fit z hz (c := rf_qt c b) (by rw [rf_cz_u, rf_us]; rfl) (rf_qt_b q3 h0) ?_
      refine h _ _ (fun r h1 h2 => ⟨?_, ?_⟩) ⟨by rw [rf_cz_u, rf_us]; rfl, rf_us _ _ _, rf_qt_b q3 h0⟩
      · rw [rf_cz_u, rf_un h2, rf_un h1]
      · rw [rf_un h2, rf_un h1, rf_un h2]))
  rw [rf_cz_u, rf_ue p1] at r
  exact r
end
section
theorem rf_low32 {post : St1 → Prop} {n x1 x2 : Int32} {a3 : Nat → Int32} : ∀ (m r : Nat) (C : Nat → Nat → Int) (D : Nat → Int) (ca cb : Nat → Int), r + m = 80 → rf_P C D 12 ca → rf_P C D 13 cb →
    (∀ C' D', (∀ r, r ≠ 12 → r ≠ 13 → r ≠ 14 → rf_E C D C' D' r) → rf_P C' D' 12 (rf_gc m ca cb) → wX_lower_87 post x1 x2 n (rf_fl C') (rf_ar D') a3) → wX_lower_32 post x1 x2 (m + 1) (rf_i (r : Int)) n (rf_fl C) (rf_ar D) a3
  | 0, r, C, D, ca, cb, hr, Pa, Pb, h => rf_ble 80 r (fun _ => h C D (fun r _ _ _ => rf_Er C D r) Pa) (fun g => absurd g (by omega))
  | m + 1, r, C, D, ca, cb, hr, Pa, Pb, h => by
    have lb := rf_dg_lt cb
    refine rf_ble 80 r (fun g => absurd g (by omega)) (fun _ => rf_blt (rf_dg cb) 0 (fun g => ?_) (fun g => ?_) (congrArg rf_i Pb.2.1))
    · rw [rf_gc_t g] at h
      exact h C D (fun r _ _ _ => rf_Er C D r) Pa
    · rw [rf_gc_f (by omega)] at h
      refine rf_divide0 12 13 Pa Pb (by omega) (fun C1 D1 f1 P1 => ?_)
      refine rf_copyP 12 14 P1 (fun C2 D2 f2 P2 => ?_)
      refine rf_copyP 13 12 (rf_Pt (rf_Et (f1 13 (by omega)) (f2 13 (by omega))) Pb) (fun C3 D3 f3 P3 => ?_)
      refine rf_copyP 14 13 (rf_Pt (f3 14 (by omega)) P2) (fun C4 D4 f4 P4 => ?_)
      refine nm_r (rf_nx r) (rf_low32 m (r + 1) C4 D4 cb (rf_md ca cb) (by omega) (rf_Pt (f4 12 (by omega)) P3) P4 (fun C' D' f P => h C' D' (fun r h1 h2 h3 => ?_) P))
      exact rf_Et (rf_Et (rf_Et (rf_Et (f1 r h1) (f2 r h3)) (f3 r h1)) (f4 r h2)) (f r h1 h2 h3)
theorem rf_low87 {post : St1 → Prop} {n x y : Int32} {C : Nat → Nat → Int} {D : Nat → Int} {a3 : Nat → Int32} (p q : Nat) {cp cq g : Nat → Int} (Pp : rf_P C D p cp) (Pq : rf_P C D q cq) (Pg : rf_P C D 12 g) (hg : 0 ≤ rf_dg g) (hgq : rf_dg g ≤ rf_dg cq)
    (hp : p < 12 ∨ 15 < p) (hq : q < 12 ∨ 15 < q) (hpq : p ≠ q) (hp2 : p < 24) (hq2 : q < 24)
    (h : ∀ C' D', (∀ r, r ≠ p → r ≠ q → r ≠ 14 → r ≠ 15 → rf_E C D C' D' r) → rf_P C' D' p (rf_sc (rf_qt cp g) (rf_iv (rf_qt cq g (rf_dg (rf_qt cq g)).toNat))) → rf_P C' D' q (rf_sc (rf_qt cq g) (rf_iv (rf_qt cq g (rf_dg (rf_qt cq g)).toNat))) → post (n, rf_fl C', rf_ar D', a3))
    (hx : x = rf_i (p : Int) := by first | with_reducible rfl | (simp only [rf_l0, rf_l1, rf_l2, rf_l3, rf_l4, rf_l6, rf_l7, rf_l11, rf_l12, rf_l13, rf_l14, rf_l15, rf_l16, rf_l17, rf_l18, rf_l19, rf_l20, rf_l21, rf_l22, rf_l23, rf_l24, rf_l25, rf_l39, rf_l40, rf_l80, rf_l101, rf_neg, rf_add, rf_sub, rf_mul]; done) | (simp only [rf_l0, rf_l1, rf_l2, rf_l3, rf_l4, rf_l6, rf_l7, rf_l11, rf_l12, rf_l13, rf_l14, rf_l15, rf_l16, rf_l17, rf_l18, rf_l19, rf_l20, rf_l21, rf_l22, rf_l23, rf_l24, rf_l25, rf_l39, rf_l40, rf_l80, rf_l101, rf_neg, rf_add, rf_sub, rf_mul]; exact congrArg rf_i (by omega)) | exact congrArg rf_i (by omega)) (hy : y = rf_i (q : Int) := by first | with_reducible rfl | (simp only [rf_l0, rf_l1, rf_l2, rf_l3, rf_l4, rf_l6, rf_l7, rf_l11, rf_l12, rf_l13, rf_l14, rf_l15, rf_l16, rf_l17, rf_l18, rf_l19, rf_l20, rf_l21, rf_l22, rf_l23, rf_l24, rf_l25, rf_l39, rf_l40, rf_l80, rf_l101, rf_neg, rf_add, rf_sub, rf_mul]; done) | (simp only [rf_l0, rf_l1, rf_l2, rf_l3, rf_l4, rf_l6, rf_l7, rf_l11, rf_l12, rf_l13, rf_l14, rf_l15, rf_l16, rf_l17, rf_l18, rf_l19, rf_l20, rf_l21, rf_l22, rf_l23, rf_l24, rf_l25, rf_l39, rf_l40, rf_l80, rf_l101, rf_neg, rf_add, rf_sub, rf_mul]; exact congrArg rf_i (by omega)) | exact congrArg rf_i (by omega)) : wX_lower_87 post x y n (rf_fl C) (rf_ar D) a3 := by
  subst hx hy
  have bq := Pq.2.2
  have bg := Pg.2.2
  have l := rf_dg_lt cq
  have dq := rf_qt_dg bq bg hg hgq
  have bQ : rf_bd (rf_qt cq g) := rf_qt_b bg hg
  unfold wX_lower_87
  refine rf_copyP p 14 Pp (fun C1 D1 f1 P1 => ?_)
  refine rf_divide1 14 12 15 P1 (rf_Pt (f1 12 (by omega)) Pg) hg (fun C2 D2 f2 P2 => ?_)
  refine rf_copyP 15 p P2 (fun C3 D3 f3 P3 => ?_)
  have q3 := rf_Pt (f3 q (by omega)) (rf_Pt (f2 q (by omega) (by omega)) (rf_Pt (f1 q (by omega)) Pq))
  have g3 := rf_Pt (f3 12 (by omega)) (rf_Pt (f2 12 (by omega) (by omega)) (rf_Pt (f1 12 (by omega)) Pg))
  refine rf_copyP q 14 q3 (fun C4 D4 f4 P4 => ?_)
  refine rf_divide1 14 12 15 P4 (rf_Pt (f4 12 (by omega)) g3) hg (fun C5 D5 f5 P5 => ?_)
  refine rf_copyP 15 q P5 (fun C6 D6 f6 P6 => ?_)
  have p6 := rf_Pt (f6 p (by omega)) (rf_Pt (f5 p (by omega) (by omega)) (rf_Pt (f4 p (by omega)) P3))
  have e1 : rf_ar D6 (rf_i (q : Int)).toNatClampNeg = rf_i (rf_dg (rf_qt cq g)) := by
    rw [rf_rdd _ q hq2, P6.2.1]
  have e2 : rf_fl C6 (rf_i (q : Int) * 40 + rf_i (rf_dg (rf_qt cq g))).toNatClampNeg = rf_i (rf_qt cq g (rf_dg (rf_qt cq g)).toNat) := by
    rw [rf_rdx _ q (rf_dg (rf_qt cq g)).toNat hq2 (by omega), P6.1]
  refine ⟨rf_ind q hq2, ?_⟩
  rw [e1, e2]
  refine ⟨rf_inx q (rf_dg (rf_qt cq g)).toNat hq2 (by omega), rf_inverse (rf_qt cq g (rf_dg (rf_qt cq g)).toNat) (bQ _ (by omega)) ?_⟩
  refine rf_scale p p6 _ (rf_iv_r _) (fun C7 D7 f7 P7 => ?_)
  refine rf_scale q (rf_Pt (f7 q (by omega)) P6) _ (rf_iv_r _) (fun C8 D8 f8 P8 => ?_)
  refine h C8 D8 (fun r h1 h2 h3 h4 => ?_) (rf_Pt (f8 p (by omega)) P7) P8
  exact rf_Et (rf_Et (rf_Et (rf_Et (rf_Et (rf_Et (rf_Et (f1 r h3) (f2 r h3 h4)) (f3 r h1)) (f4 r h3)) (f5 r h3 h4)) (f6 r h2)) (f7 r h1)) (f8 r h2)
theorem rf_lower {post : St1 → Prop} {n x y : Int32} {C : Nat → Nat → Int} {D : Nat → Int} {a3 : Nat → Int32} (p q : Nat) {cp cq : Nat → Int} (Pp : rf_P C D p cp) (Pq : rf_P C D q cq) (h0 : 0 ≤ rf_dg cq)
    (h : ∀ C' D', (∀ r, r ≠ p → r ≠ q → (r < 12 ∨ 15 < r) → rf_E C D C' D' r) → rf_P C' D' p (rf_lp cp cq) → rf_P C' D' q (rf_lw cp cq) → post (n, rf_fl C', rf_ar D', a3))
    (hp : p < 12 ∨ 15 < p := by omega) (hq : q < 12 ∨ 15 < q := by omega) (hpq : p ≠ q := by omega) (hp2 : p < 24 := by omega) (hq2 : q < 24 := by omega)
    (hx : x = rf_i (p : Int) := by first | with_reducible rfl | (simp only [rf_l0, rf_l1, rf_l2, rf_l3, rf_l4, rf_l6, rf_l7, rf_l11, rf_l12, rf_l13, rf_l14, rf_l15, rf_l16, rf_l17, rf_l18, rf_l19, rf_l20, rf_l21, rf_l22, rf_l23, rf_l24, rf_l25, rf_l39, rf_l40, rf_l80, rf_l101, rf_neg, rf_add, rf_sub, rf_mul]; done) | (simp only [rf_l0, rf_l1, rf_l2, rf_l3, rf_l4, rf_l6, rf_l7, rf_l11, rf_l12, rf_l13, rf_l14, rf_l15, rf_l16, rf_l17, rf_l18, rf_l19, rf_l20, rf_l21, rf_l22, rf_l23, rf_l24, rf_l25, rf_l39, rf_l40, rf_l80, rf_l101, rf_neg, rf_add, rf_sub, rf_mul]; exact congrArg rf_i (by omega)) | exact congrArg rf_i (by omega)) (hy : y = rf_i (q : Int) := by first | with_reducible rfl | (simp only [rf_l0, rf_l1, rf_l2, rf_l3, rf_l4, rf_l6, rf_l7, rf_l11, rf_l12, rf_l13, rf_l14, rf_l15, rf_l16, rf_l17, rf_l18, rf_l19, rf_l20, rf_l21, rf_l22, rf_l23, rf_l24, rf_l25, rf_l39, rf_l40, rf_l80, rf_l101, rf_neg, rf_add, rf_sub, rf_mul]; done) | (simp only [rf_l0, rf_l1, rf_l2, rf_l3, rf_l4, rf_l6, rf_l7, rf_l11, rf_l12, rf_l13, rf_l14, rf_l15, rf_l16, rf_l17, rf_l18, rf_l19, rf_l20, rf_l21, rf_l22, rf_l23, rf_l24, rf_l25, rf_l39, rf_l40, rf_l80, rf_l101, rf_neg, rf_add, rf_sub, rf_mul]; exact congrArg rf_i (by omega)) | exact congrArg rf_i (by omega)) : wpX_lower post (n, rf_fl C, rf_ar D, a3) x y := by
  subst hx hy
  have l := rf_dg_lt cp
  refine ⟨rf_ind p hp2, rf_ble 0 (rf_dg cp) (fun g => ?_) (fun g => ?_) rf_l0 (by rw [rf_rdd _ p hp2, Pp.2.1])⟩
  · obtain ⟨g1, g2, g3, g4⟩ := rf_gc_0 Pp.2.2 Pq.2.2 g h0
    refine rf_copyP p 12 Pp (fun C1 D1 f1 P1 => ?_)
    refine rf_copyP q 13 (rf_Pt (f1 q (by omega)) Pq) (fun C2 D2 f2 P2 => ?_)
    have r := rf_low32 (post := post) (x1 := rf_i (p : Int)) (x2 := rf_i (q : Int)) (n := n) (a3 := a3) 80 0 C2 D2 cp cq (by omega) (rf_Pt (f2 12 (by omega)) P1) P2 (fun C3 D3 f3 P3 => by
      have e1 : rf_lp cp cq = rf_sc (rf_qt cp (rf_gc 80 cp cq)) (rf_lu cp cq) := if_neg (by omega)
      have e2 : rf_lw cp cq = rf_sc (rf_lq cp cq) (rf_lu cp cq) := if_neg (by omega)
      rw [e1, e2] at h
      refine rf_low87 p q (rf_Pt (f3 p (by omega) (by omega) (by omega)) (rf_Pt (f2 p (by omega)) (rf_Pt (f1 p (by omega)) Pp))) (rf_Pt (f3 q (by omega) (by omega) (by omega)) (rf_Pt (f2 q (by omega)) (rf_Pt (f1 q (by omega)) Pq))) P3 g2 g4 hp hq hpq hp2 hq2 (fun C4 D4 f4 P4 P4' => h C4 D4 (fun r h1 h2 h3 => ?_) P4 P4')
      exact rf_Et (rf_Et (rf_Et (f1 r (by omega)) (f2 r (by omega))) (f3 r (by omega) (by omega) (by omega))) (f4 r h1 h2 (by omega) (by omega)))
    rw [show rf_i ((0 : Nat) : Int) = 0 by decide] at r
    exact ⟨81, r⟩
  · have e1 : rf_lp cp cq = cp := if_pos (by omega)
    have e2 : rf_lw cp cq = rf_k 1 := if_pos (by omega)
    rw [e1, e2] at h
    exact rf_const q 1 (by omega) (fun C1 D1 f1 P1 => h C1 D1 (fun r _ h2 _ => f1 r h2) (rf_Pt (f1 p hpq) Pp) P1)
theorem rf_mulF {post : St1 → Prop} {n x y z : Int32} {C : Nat → Nat → Int} {D : Nat → Int} {a3 : Nat → Int32} (f a b : Nat) {cp cq ca cb : Nat → Int} (Pp : rf_P C D (2 * f) cp) (Pq : rf_P C D (2 * f + 1) cq) (Pa : rf_P C D a ca) (Pb : rf_P C D b cb)
    (h1 : rf_dg cp + rf_dg ca < 40) (h2 : rf_dg cq + rf_dg cb < 40)
    (h : ∀ C' D', (∀ r, r ≠ 2 * f → r ≠ 2 * f + 1 → r ≠ 16 → r ≠ 17 → rf_E C D C' D' r) → rf_P C' D' (2 * f) (rf_ml cp ca) → rf_P C' D' (2 * f + 1) (rf_ml cq cb) → post (n, rf_fl C', rf_ar D', a3))
    (hf : f < 6 := by omega) (ha : a < 24 := by omega) (hb : b < 24 := by omega) (ha2 : a ≠ 16 := by omega) (hb2 : b ≠ 16 := by omega) (hb3 : b ≠ 17 := by omega)
    (hx : x = rf_i (f : Int) := by first | with_reducible rfl | (simp only [rf_l0, rf_l1, rf_l2, rf_l3, rf_l4, rf_l6, rf_l7, rf_l11, rf_l12, rf_l13, rf_l14, rf_l15, rf_l16, rf_l17, rf_l18, rf_l19, rf_l20, rf_l21, rf_l22, rf_l23, rf_l24, rf_l25, rf_l39, rf_l40, rf_l80, rf_l101, rf_neg, rf_add, rf_sub, rf_mul]; done) | (simp only [rf_l0, rf_l1, rf_l2, rf_l3, rf_l4, rf_l6, rf_l7, rf_l11, rf_l12, rf_l13, rf_l14, rf_l15, rf_l16, rf_l17, rf_l18, rf_l19, rf_l20, rf_l21, rf_l22, rf_l23, rf_l24, rf_l25, rf_l39, rf_l40, rf_l80, rf_l101, rf_neg, rf_add, rf_sub, rf_mul]; exact congrArg rf_i (by omega)) | exact congrArg rf_i (by omega)) (hy : y = rf_i (a : Int) := by first | with_reducible rfl | (simp only [rf_l0, rf_l1, rf_l2, rf_l3, rf_l4, rf_l6, rf_l7, rf_l11, rf_l12, rf_l13, rf_l14, rf_l15, rf_l16, rf_l17, rf_l18, rf_l19, rf_l20, rf_l21, rf_l22, rf_l23, rf_l24, rf_l25, rf_l39, rf_l40, rf_l80, rf_l101, rf_neg, rf_add, rf_sub, rf_mul]; done) | (simp only [rf_l0, rf_l1, rf_l2, rf_l3, rf_l4, rf_l6, rf_l7, rf_l11, rf_l12, rf_l13, rf_l14, rf_l15, rf_l16, rf_l17, rf_l18, rf_l19, rf_l20, rf_l21, rf_l22, rf_l23, rf_l24, rf_l25, rf_l39, rf_l40, rf_l80, rf_l101, rf_neg, rf_add, rf_sub, rf_mul]; exact congrArg rf_i (by omega)) | exact congrArg rf_i (by omega)) (hz : z = rf_i (b : Int) := by first | with_reducible rfl | (simp only [rf_l0, rf_l1, rf_l2, rf_l3, rf_l4, rf_l6, rf_l7, rf_l11, rf_l12, rf_l13, rf_l14, rf_l15, rf_l16, rf_l17, rf_l18, rf_l19, rf_l20, rf_l21, rf_l22, rf_l23, rf_l24, rf_l25, rf_l39, rf_l40, rf_l80, rf_l101, rf_neg, rf_add, rf_sub, rf_mul]; done) | (simp only [rf_l0, rf_l1, rf_l2, rf_l3, rf_l4, rf_l6, rf_l7, rf_l11, rf_l12, rf_l13, rf_l14, rf_l15, rf_l16, rf_l17, rf_l18, rf_l19, rf_l20, rf_l21, rf_l22, rf_l23, rf_l24, rf_l25, rf_l39, rf_l40, rf_l80, rf_l101, rf_neg, rf_add, rf_sub, rf_mul]; exact congrArg rf_i (by omega)) | exact congrArg rf_i (by omega)) : wpX_multiplyFractions post (n, rf_fl C, rf_ar D, a3) x y z := by
  subst hx hy hz
  unfold wpX_multiplyFractions
  refine rf_multiply (2 * f) a 16 Pp Pa h1 (fun C1 D1 f1 P1 => ?_)
  refine rf_multiply (2 * f + 1) b 17 (rf_Pt (f1 _ (by omega)) Pq) (rf_Pt (f1 _ (by omega)) Pb) h2 (fun C2 D2 f2 P2 => ?_)
  refine rf_copyP 16 (2 * f) (rf_Pt (f2 _ (by omega)) P1) (fun C3 D3 f3 P3 => ?_)
  refine rf_copyP 17 (2 * f + 1) (rf_Pt (f3 _ (by omega)) P2) (fun C4 D4 f4 P4 => ?_)
  refine h C4 D4 (fun r g1 g2 g3 g4 => ?_) (rf_Pt (f4 _ (by omega)) P3) P4
  exact rf_Et (rf_Et (rf_Et (f1 r g3) (f2 r g4)) (f3 r g1)) (f4 r g2)
theorem rf_addF {post : St1 → Prop} {n x y z : Int32} {C : Nat → Nat → Int} {D : Nat → Int} {a3 : Nat → Int32} (f g : Nat) (s : Int) (hs : s = 1 ∨ s = -1) {cp cq ca cb : Nat → Int} (Pp : rf_P C D (2 * f) cp) (Pq : rf_P C D (2 * f + 1) cq) (Pa : rf_P C D (2 * g) ca) (Pb : rf_P C D (2 * g + 1) cb)
    (h1 : rf_dg cp + rf_dg cb < 40) (h2 : rf_dg ca + rf_dg cq < 40) (h3 : rf_dg cq + rf_dg cb < 40)
    (h : ∀ C' D', (∀ r, r ≠ 2 * f → r ≠ 2 * f + 1 → r ≠ 16 → r ≠ 17 → r ≠ 18 → rf_E C D C' D' r) → rf_P C' D' (2 * f) (rf_ad s (rf_ml cp cb) (rf_ml ca cq)) → rf_P C' D' (2 * f + 1) (rf_ml cq cb) → post (n, rf_fl C', rf_ar D', a3))
    (hf : f < 6 := by omega) (hg : g < 6 := by omega)
    (hx : x = rf_i (f : Int) := by first | with_reducible rfl | (simp only [rf_l0, rf_l1, rf_l2, rf_l3, rf_l4, rf_l6, rf_l7, rf_l11, rf_l12, rf_l13, rf_l14, rf_l15, rf_l16, rf_l17, rf_l18, rf_l19, rf_l20, rf_l21, rf_l22, rf_l23, rf_l24, rf_l25, rf_l39, rf_l40, rf_l80, rf_l101, rf_neg, rf_add, rf_sub, rf_mul]; done) | (simp only [rf_l0, rf_l1, rf_l2, rf_l3, rf_l4, rf_l6, rf_l7, rf_l11, rf_l12, rf_l13, rf_l14, rf_l15, rf_l16, rf_l17, rf_l18, rf_l19, rf_l20, rf_l21, rf_l22, rf_l23, rf_l24, rf_l25, rf_l39, rf_l40, rf_l80, rf_l101, rf_neg, rf_add, rf_sub, rf_mul]; exact congrArg rf_i (by omega)) | exact congrArg rf_i (by omega)) (hy : y = rf_i (g : Int) := by first | with_reducible rfl | (simp only [rf_l0, rf_l1, rf_l2, rf_l3, rf_l4, rf_l6, rf_l7, rf_l11, rf_l12, rf_l13, rf_l14, rf_l15, rf_l16, rf_l17, rf_l18, rf_l19, rf_l20, rf_l21, rf_l22, rf_l23, rf_l24, rf_l25, rf_l39, rf_l40, rf_l80, rf_l101, rf_neg, rf_add, rf_sub, rf_mul]; done) | (simp only [rf_l0, rf_l1, rf_l2, rf_l3, rf_l4, rf_l6, rf_l7, rf_l11, rf_l12, rf_l13, rf_l14, rf_l15, rf_l16, rf_l17, rf_l18, rf_l19, rf_l20, rf_l21, rf_l22, rf_l23, rf_l24, rf_l25, rf_l39, rf_l40, rf_l80, rf_l101, rf_neg, rf_add, rf_sub, rf_mul]; exact congrArg rf_i (by omega)) | exact congrArg rf_i (by omega)) (hz : z = rf_i s := by first | with_reducible rfl | (simp only [rf_l0, rf_l1, rf_l2, rf_l3, rf_l4, rf_l6, rf_l7, rf_l11, rf_l12, rf_l13, rf_l14, rf_l15, rf_l16, rf_l17, rf_l18, rf_l19, rf_l20, rf_l21, rf_l22, rf_l23, rf_l24, rf_l25, rf_l39, rf_l40, rf_l80, rf_l101, rf_neg, rf_add, rf_sub, rf_mul]; done) | (simp only [rf_l0, rf_l1, rf_l2, rf_l3, rf_l4, rf_l6, rf_l7, rf_l11, rf_l12, rf_l13, rf_l14, rf_l15, rf_l16, rf_l17, rf_l18, rf_l19, rf_l20, rf_l21, rf_l22, rf_l23, rf_l24, rf_l25, rf_l39, rf_l40, rf_l80, rf_l101, rf_neg, rf_add, rf_sub, rf_mul]; exact congrArg rf_i (by omega)) | exact congrArg rf_i (by omega)) : wpX_addFractions post (n, rf_fl C, rf_ar D, a3) x y z := by
  subst hx hy hz
  unfold wpX_addFractions
  refine rf_multiply (2 * f) (2 * g + 1) 16 Pp Pb h1 (fun C1 D1 f1 P1 => ?_)
  refine rf_multiply (2 * g) (2 * f + 1) 17 (rf_Pt (f1 _ (by omega)) Pa) (rf_Pt (f1 _ (by omega)) Pq) h2 (fun C2 D2 f2 P2 => ?_)
  refine rf_multiply (2 * f + 1) (2 * g + 1) 18 (rf_Pt (f2 _ (by omega)) (rf_Pt (f1 _ (by omega)) Pq)) (rf_Pt (f2 _ (by omega)) (rf_Pt (f1 _ (by omega)) Pb)) h3 (fun C3 D3 f3 P3 => ?_)
  refine rf_addp 16 17 (2 * f) s hs (rf_Pt (f3 _ (by omega)) (rf_Pt (f2 _ (by omega)) P1)) (rf_Pt (f3 _ (by omega)) P2) (fun C4 D4 f4 P4 => ?_)
  refine rf_copyP 18 (2 * f + 1) (rf_Pt (f4 _ (by omega)) P3) (fun C5 D5 f5 P5 => ?_)
  refine h C5 D5 (fun r g1 g2 g3 g4 g5 => ?_) (rf_Pt (f5 _ (by omega)) P4) P5
  exact rf_Et (rf_Et (rf_Et (rf_Et (f1 r g3) (f2 r g4)) (f3 r g5)) (f4 r g1)) (f5 r g2)
/-- numerator and denominator of the derivative, before they are lowered -/
def rf_nu (cp cq : Nat → Int) : Nat → Int := rf_ad (-1) (rf_ml (rf_dr cp) cq) (rf_ml cp (rf_dr cq))
theorem rf_drvF {post : St1 → Prop} {n x : Int32} {C : Nat → Nat → Int} {D : Nat → Int} {a3 : Nat → Int32} (f : Nat) {cp cq : Nat → Int} (Pp : rf_P C D (2 * f) cp) (Pq : rf_P C D (2 * f + 1) cq) (h0 : 0 ≤ rf_dg cq)
    (h1 : rf_dg cp + rf_dg cq < 40) (h2 : rf_dg cq + rf_dg cq < 40)
    (h : ∀ C' D', (∀ r, r < 12 → rf_E C D C' D' r) → rf_P C' D' 22 (rf_lp (rf_nu cp cq) (rf_ml cq cq)) → rf_P C' D' 23 (rf_lw (rf_nu cp cq) (rf_ml cq cq)) → post (n, rf_fl C', rf_ar D', a3))
    (hf : f < 6 := by omega) (hx : x = rf_i (f : Int) := by first | with_reducible rfl | (simp only [rf_l0, rf_l1, rf_l2, rf_l3, rf_l4, rf_l6, rf_l7, rf_l11, rf_l12, rf_l13, rf_l14, rf_l15, rf_l16, rf_l17, rf_l18, rf_l19, rf_l20, rf_l21, rf_l22, rf_l23, rf_l24, rf_l25, rf_l39, rf_l40, rf_l80, rf_l101, rf_neg, rf_add, rf_sub, rf_mul]; done) | (simp only [rf_l0, rf_l1, rf_l2, rf_l3, rf_l4, rf_l6, rf_l7, rf_l11, rf_l12, rf_l13, rf_l14, rf_l15, rf_l16, rf_l17, rf_l18, rf_l19, rf_l20, rf_l21, rf_l22, rf_l23, rf_l24, rf_l25, rf_l39, rf_l40, rf_l80, rf_l101, rf_neg, rf_add, rf_sub, rf_mul]; exact congrArg rf_i (by omega)) | exact congrArg rf_i (by omega)) : wpX_deriveFraction post (n, rf_fl C, rf_ar D, a3) x := by
  subst hx
  have d1 := rf_dr_le cp
  have d2 := rf_dr_le cq
  unfold wpX_deriveFraction
  refine rf_deriveTo (2 * f) 16 Pp (fun C1 D1 f1 P1 => ?_)
  refine rf_deriveTo (2 * f + 1) 17 (rf_Pt (f1 _ (by omega)) Pq) (fun C2 D2 f2 P2 => ?_)
  have p2 := rf_Pt (f2 (2 * f) (by omega)) (rf_Pt (f1 _ (by omega)) Pp)
  have q2 := rf_Pt (f2 (2 * f + 1) (by omega)) (rf_Pt (f1 _ (by omega)) Pq)
  refine rf_multiply 16 (2 * f + 1) 18 (rf_Pt (f2 _ (by omega)) P1) q2 (by omega) (fun C3 D3 f3 P3 => ?_)
  refine rf_multiply (2 * f) 17 19 (rf_Pt (f3 _ (by omega)) p2) (rf_Pt (f3 _ (by omega)) P2) (by omega) (fun C4 D4 f4 P4 => ?_)
  refine rf_addp 18 19 22 (-1) (Or.inr rfl) (rf_Pt (f4 _ (by omega)) P3) P4 (fun C5 D5 f5 P5 => ?_)
  have q5 := rf_Pt (f5 (2 * f + 1) (by omega)) (rf_Pt (f4 _ (by omega)) (rf_Pt (f3 _ (by omega)) q2))
  refine rf_multiply (2 * f + 1) (2 * f + 1) 23 q5 q5 h2 (fun C6 D6 f6 P6 => ?_)
  have m := rf_ml_dg Pq.2.2 Pq.2.2 h0 h0 h2
  refine rf_lower 22 23 (rf_Pt (f6 _ (by omega)) P5) P6 (by omega) (fun C7 D7 f7 P7 P7' => h C7 D7 (fun r hr => ?_) P7 P7')
  exact rf_Et (rf_Et (rf_Et (rf_Et (rf_Et (rf_Et (f1 r (by omega)) (f2 r (by omega))) (f3 r (by omega))) (f4 r (by omega))) (f5 r (by omega))) (f6 r (by omega))) (f7 r (by omega) (by omega) (by omega))
end
section
theorem rf_atW {post : Int32 → Prop} {n x y : Int32} {C : Nat → Nat → Int} {D : Nat → Int} {a3 : Nat → Int32} (p : Nat) {c : Nat → Int} (Pp : rf_P C D p c) (a : Int) (ha : 0 ≤ a ∧ a < 101) (h : post (rf_i (rf_at c a)))
    (hp : p < 24 := by omega) (hx : x = rf_i (p : Int) := by first | with_reducible rfl | (simp only [rf_l0, rf_l1, rf_l2, rf_l3, rf_l4, rf_l6, rf_l7, rf_l11, rf_l12, rf_l13, rf_l14, rf_l15, rf_l16, rf_l17, rf_l18, rf_l19, rf_l20, rf_l21, rf_l22, rf_l23, rf_l24, rf_l25, rf_l39, rf_l40, rf_l80, rf_l101, rf_neg, rf_add, rf_sub, rf_mul]; done) | (simp only [rf_l0, rf_l1, rf_l2, rf_l3, rf_l4, rf_l6, rf_l7, rf_l11, rf_l12, rf_l13, rf_l14, rf_l15, rf_l16, rf_l17, rf_l18, rf_l19, rf_l20, rf_l21, rf_l22, rf_l23, rf_l24, rf_l25, rf_l39, rf_l40, rf_l80, rf_l101, rf_neg, rf_add, rf_sub, rf_mul]; exact congrArg rf_i (by omega)) | exact congrArg rf_i (by omega)) (hy : y = rf_i a := by first | with_reducible rfl | (simp only [rf_l0, rf_l1, rf_l2, rf_l3, rf_l4, rf_l6, rf_l7, rf_l11, rf_l12, rf_l13, rf_l14, rf_l15, rf_l16, rf_l17, rf_l18, rf_l19, rf_l20, rf_l21, rf_l22, rf_l23, rf_l24, rf_l25, rf_l39, rf_l40, rf_l80, rf_l101, rf_neg, rf_add, rf_sub, rf_mul]; done) | (simp only [rf_l0, rf_l1, rf_l2, rf_l3, rf_l4, rf_l6, rf_l7, rf_l11, rf_l12, rf_l13, rf_l14, rf_l15, rf_l16, rf_l17, rf_l18, rf_l19, rf_l20, rf_l21, rf_l22, rf_l23, rf_l24, rf_l25, rf_l39, rf_l40, rf_l80, rf_l101, rf_neg, rf_add, rf_sub, rf_mul]; exact congrArg rf_i (by omega)) | exact congrArg rf_i (by omega)) : wpX_at post (n, rf_fl C, rf_ar D, a3) x y := by
  subst hx hy
  obtain ⟨p1, p2, p3⟩ := Pp
  have l := rf_dg_lt c
  have key : ∀ k m : Nat, k + m = (rf_dg c + 1).toNat → wX_at_10 post (rf_i (p : Int)) (rf_i a) n (rf_fl C) (rf_ar D) a3 (k + 1) (rf_i (rf_ev (rf_ls c m k) a % 101)) (rf_i ((k : Int) - 1)) := by
    intro k
    induction k with
    | zero =>
      intro m hm
      refine rf_blt (-1) 0 (fun _ => ?_) (fun g => absurd g (by omega))
      rw [show m = (rf_dg c + 1).toNat by omega]
      exact h
    | succ k ih =>
      intro m hm
      have b := p3 k (by omega)
      have b2 := rf_pb (rf_mr (rf_ev (rf_ls c m (k + 1)) a)) ha
      have e : rf_fl C (rf_i (p : Int) * 40 + rf_i (((k + 1 : Nat) : Int) - 1)).toNatClampNeg = rf_i (c k) := by
        rw [rf_rdx _ p k hp (by omega), p1]
      refine rf_blt k 0 (fun g => absurd g (by omega)) (fun _ => ⟨rf_inx p k hp (by omega), by decide, ?_⟩)
      rw [e, rf_mul, rf_add, rf_em (by omega) (by omega), rf_hm]
      exact nm_e (nm_r (e' := rf_i ((k : Int) - 1)) (by first | with_reducible rfl | (simp only [rf_l0, rf_l1, rf_l2, rf_l3, rf_l4, rf_l6, rf_l7, rf_l11, rf_l12, rf_l13, rf_l14, rf_l15, rf_l16, rf_l17, rf_l18, rf_l19, rf_l20, rf_l21, rf_l22, rf_l23, rf_l24, rf_l25, rf_l39, rf_l40, rf_l80, rf_l101, rf_neg, rf_add, rf_sub, rf_mul]; done) | (simp only [rf_l0, rf_l1, rf_l2, rf_l3, rf_l4, rf_l6, rf_l7, rf_l11, rf_l12, rf_l13, rf_l14, rf_l15, rf_l16, rf_l17, rf_l18, rf_l19, rf_l20, rf_l21, rf_l22, rf_l23, rf_l24, rf_l25, rf_l39, rf_l40, rf_l80, rf_l101, rf_neg, rf_add, rf_sub, rf_mul]; exact congrArg rf_i (by omega)) | exact congrArg rf_i (by omega)) (ih (m + 1) (by omega)))
  have r := key (rf_dg c + 1).toNat 0 (by omega)
  have e0 : rf_i (rf_ev (rf_ls c 0 (rf_dg c + 1).toNat) a % 101) = 0 := by
    show rf_i (0 % 101) = 0
    decide
  rw [e0] at r
  refine ⟨rf_ind p hp, nm_r (e' := rf_i (((rf_dg c + 1).toNat : Int) - 1)) ?_ ⟨_, r⟩⟩
  rw [rf_rdd _ p hp, p2]
  exact congrArg rf_i (by omega)
theorem rf_frW {post : Int32 → Prop} {n x y z : Int32} {C : Nat → Nat → Int} {D : Nat → Int} {a3 : Nat → Int32} (p q : Nat) {cp cq : Nat → Int} (Pp : rf_P C D p cp) (Pq : rf_P C D q cq) (a : Int) (ha : 0 ≤ a ∧ a < 101) (h : post (rf_i (rf_fr cp cq a)))
    (hp : p < 24 := by omega) (hq : q < 24 := by omega) (hx : x = rf_i (p : Int) := by first | with_reducible rfl | (simp only [rf_l0, rf_l1, rf_l2, rf_l3, rf_l4, rf_l6, rf_l7, rf_l11, rf_l12, rf_l13, rf_l14, rf_l15, rf_l16, rf_l17, rf_l18, rf_l19, rf_l20, rf_l21, rf_l22, rf_l23, rf_l24, rf_l25, rf_l39, rf_l40, rf_l80, rf_l101, rf_neg, rf_add, rf_sub, rf_mul]; done) | (simp only [rf_l0, rf_l1, rf_l2, rf_l3, rf_l4, rf_l6, rf_l7, rf_l11, rf_l12, rf_l13, rf_l14, rf_l15, rf_l16, rf_l17, rf_l18, rf_l19, rf_l20, rf_l21, rf_l22, rf_l23, rf_l24, rf_l25, rf_l39, rf_l40, rf_l80, rf_l101, rf_neg, rf_add, rf_sub, rf_mul]; exact congrArg rf_i (by omega)) | exact congrArg rf_i (by omega)) (hy : y = rf_i (q : Int) := by first | with_reducible rfl | (simp only [rf_l0, rf_l1, rf_l2, rf_l3, rf_l4, rf_l6, rf_l7, rf_l11, rf_l12, rf_l13, rf_l14, rf_l15, rf_l16, rf_l17, rf_l18, rf_l19, rf_l20, rf_l21, rf_l22, rf_l23, rf_l24, rf_l25, rf_l39, rf_l40, rf_l80, rf_l101, rf_neg, rf_add, rf_sub, rf_mul]; done) | (simp only [rf_l0, rf_l1, rf_l2, rf_l3, rf_l4, rf_l6, rf_l7, rf_l11, rf_l12, rf_l13, rf_l14, rf_l15, rf_l16, rf_l17, rf_l18, rf_l19, rf_l20, rf_l21, rf_l22, rf_l23, rf_l24, rf_l25, rf_l39, rf_l40, rf_l80, rf_l101, rf_neg, rf_add, rf_sub, rf_mul]; exact congrArg rf_i (by omega)) | exact congrArg rf_i (by omega)) (hz : z = rf_i a := by first | with_reducible rfl | (simp only [rf_l0, rf_l1, rf_l2, rf_l3, rf_l4, rf_l6, rf_l7, rf_l11, rf_l12, rf_l13, rf_l14, rf_l15, rf_l16, rf_l17, rf_l18, rf_l19, rf_l20, rf_l21, rf_l22, rf_l23, rf_l24, rf_l25, rf_l39, rf_l40, rf_l80, rf_l101, rf_neg, rf_add, rf_sub, rf_mul]; done) | (simp only [rf_l0, rf_l1, rf_l2, rf_l3, rf_l4, rf_l6, rf_l7, rf_l11, rf_l12, rf_l13, rf_l14, rf_l15, rf_l16, rf_l17, rf_l18, rf_l19, rf_l20, rf_l21, rf_l22, rf_l23, rf_l24, rf_l25, rf_l39, rf_l40, rf_l80, rf_l101, rf_neg, rf_add, rf_sub, rf_mul]; exact congrArg rf_i (by omega)) | exact congrArg rf_i (by omega)) : wpX_fractionAt post (n, rf_fl C, rf_ar D, a3) x y z := by
  subst hx hy hz
  have r := rf_at_r cq a
  have b2 := rf_pb (rf_at_r cp a) (rf_iv_r (rf_at cq a))
  refine rf_atW q Pq a ha ?_
  refine rf_beq (rf_at cq a) 0 (fun g => ?_) (fun g => ?_)
  · rw [rf_fr_t g] at h
    rw [show (-4 : Int32) = rf_i (-4) by decide]
    exact h
  · refine rf_atW p Pp a ha (rf_inverse (rf_at cq a) r ⟨by decide, ?_⟩)
    rw [rf_mul, rf_em (by omega) (by omega), ← rf_fr_f g]
    exact h
theorem rf_zerosW {post : Int32 → Prop} {n : Int32} {C : Nat → Nat → Int} {D : Nat → Int} {a3 : Nat → Int32} (f : Nat) {cp cq : Nat → Int} (Pp : rf_P C D (2 * f) cp) (Pq : rf_P C D (2 * f + 1) cq)
    (h : post (rf_i ((rf_ct (fun a => rf_fr cp cq (a : Int)) 101 : Nat) : Int))) (hf : f < 6 := by omega) (hn : n = rf_i ((f + 1 : Nat) : Int) := by first | with_reducible rfl | (simp only [rf_l0, rf_l1, rf_l2, rf_l3, rf_l4, rf_l6, rf_l7, rf_l11, rf_l12, rf_l13, rf_l14, rf_l15, rf_l16, rf_l17, rf_l18, rf_l19, rf_l20, rf_l21, rf_l22, rf_l23, rf_l24, rf_l25, rf_l39, rf_l40, rf_l80, rf_l101, rf_neg, rf_add, rf_sub, rf_mul]; done) | (simp only [rf_l0, rf_l1, rf_l2, rf_l3, rf_l4, rf_l6, rf_l7, rf_l11, rf_l12, rf_l13, rf_l14, rf_l15, rf_l16, rf_l17, rf_l18, rf_l19, rf_l20, rf_l21, rf_l22, rf_l23, rf_l24, rf_l25, rf_l39, rf_l40, rf_l80, rf_l101, rf_neg, rf_add, rf_sub, rf_mul]; exact congrArg rf_i (by omega)) | exact congrArg rf_i (by omega)) : wpX_zeros post (n, rf_fl C, rf_ar D, a3) := by
  subst hn
  refine rf_beq ((f + 1 : Nat) : Int) 0 (fun g => absurd g (by omega)) (fun _ => ?_)
  refine rf_loop (fun m x2 s => wX_zeros_14 post (rf_i ((f + 1 : Nat) : Int)) (rf_fl C) (rf_ar D) a3 m s x2) (fun i s => s = rf_i ((rf_ct (fun a => rf_fr cp cq (a : Int)) i : Nat) : Int)) 101 0 (show (0 : Int32) = rf_i ((0 : Nat) : Int) by decide) ?_ ?_
  · intro m s hs
    subst hs
    exact rf_ble 101 101 (fun _ => h) (fun g => absurd g (by omega))
  · intro m i s hi hs hw
    subst hs
    have r := rf_fr_r cp cq (i : Int)
    have l := rf_ct_l (fun a => rf_fr cp cq (a : Int)) i
    refine rf_ble 101 i (fun g => absurd g (by omega)) (fun _ => rf_frW (2 * f) (2 * f + 1) Pp Pq (i : Int) (by omega) ?_)
    refine rf_beq (rf_fr cp cq (i : Int)) 0 (fun g => ?_) (fun g => ?_)
    · refine nm_r (rf_nx _) (nm_r (rf_nx i) (hw _ ?_))
      rw [rf_ct_t (g := fun a : Nat => rf_fr cp cq (a : Int)) g]
    · refine nm_r (rf_nx i) (hw _ ?_)
      rw [rf_ct_f (g := fun a : Nat => rf_fr cp cq (a : Int)) g]
theorem rf_polesW {post : Int32 → Prop} {n : Int32} {C : Nat → Nat → Int} {D : Nat → Int} {a3 : Nat → Int32} (f : Nat) {cq : Nat → Int} (Pq : rf_P C D (2 * f + 1) cq)
    (h : post (rf_i ((rf_ct (fun a => rf_at cq (a : Int)) 101 : Nat) : Int))) (hf : f < 6 := by omega) (hn : n = rf_i ((f + 1 : Nat) : Int) := by first | with_reducible rfl | (simp only [rf_l0, rf_l1, rf_l2, rf_l3, rf_l4, rf_l6, rf_l7, rf_l11, rf_l12, rf_l13, rf_l14, rf_l15, rf_l16, rf_l17, rf_l18, rf_l19, rf_l20, rf_l21, rf_l22, rf_l23, rf_l24, rf_l25, rf_l39, rf_l40, rf_l80, rf_l101, rf_neg, rf_add, rf_sub, rf_mul]; done) | (simp only [rf_l0, rf_l1, rf_l2, rf_l3, rf_l4, rf_l6, rf_l7, rf_l11, rf_l12, rf_l13, rf_l14, rf_l15, rf_l16, rf_l17, rf_l18, rf_l19, rf_l20, rf_l21, rf_l22, rf_l23, rf_l24, rf_l25, rf_l39, rf_l40, rf_l80, rf_l101, rf_neg, rf_add, rf_sub, rf_mul]; exact congrArg rf_i (by omega)) | exact congrArg rf_i (by omega)) : wpX_poles post (n, rf_fl C, rf_ar D, a3) := by
  subst hn
  refine rf_beq ((f + 1 : Nat) : Int) 0 (fun g => absurd g (by omega)) (fun _ => ?_)
  refine rf_loop (fun m x2 s => wX_poles_14 post (rf_i ((f + 1 : Nat) : Int)) (rf_fl C) (rf_ar D) a3 m s x2) (fun i s => s = rf_i ((rf_ct (fun a => rf_at cq (a : Int)) i : Nat) : Int)) 101 0 (show (0 : Int32) = rf_i ((0 : Nat) : Int) by decide) ?_ ?_
  · intro m s hs
    subst hs
    exact rf_ble 101 101 (fun _ => h) (fun g => absurd g (by omega))
  · intro m i s hi hs hw
    subst hs
    have r := rf_at_r cq (i : Int)
    refine rf_ble 101 i (fun g => absurd g (by omega)) (fun _ => rf_atW (2 * f + 1) Pq (i : Int) (by omega) ?_)
    refine rf_beq (rf_at cq (i : Int)) 0 (fun g => ?_) (fun g => ?_)
    · refine nm_r (rf_nx _) (nm_r (rf_nx i) (hw _ ?_))
      rw [rf_ct_t (g := fun a : Nat => rf_at cq (a : Int)) g]
    · refine nm_r (rf_nx i) (hw _ ?_)
      rw [rf_ct_f (g := fun a : Nat => rf_at cq (a : Int)) g]
theorem rf_coefA {post : Int32 → Prop} {n x y : Int32} {C : Nat → Nat → Int} {D : Nat → Int} {a3 : Nat → Int32} (f k : Nat) {cp : Nat → Int} (Pp : rf_P C D (2 * f) cp) (h : post (rf_i (cp k)))
    (hk : k ≤ 24 := by omega) (hf : f < 6 := by omega) (hn : n = rf_i ((f + 1 : Nat) : Int) := by first | with_reducible rfl | (simp only [rf_l0, rf_l1, rf_l2, rf_l3, rf_l4, rf_l6, rf_l7, rf_l11, rf_l12, rf_l13, rf_l14, rf_l15, rf_l16, rf_l17, rf_l18, rf_l19, rf_l20, rf_l21, rf_l22, rf_l23, rf_l24, rf_l25, rf_l39, rf_l40, rf_l80, rf_l101, rf_neg, rf_add, rf_sub, rf_mul]; done) | (simp only [rf_l0, rf_l1, rf_l2, rf_l3, rf_l4, rf_l6, rf_l7, rf_l11, rf_l12, rf_l13, rf_l14, rf_l15, rf_l16, rf_l17, rf_l18, rf_l19, rf_l20, rf_l21, rf_l22, rf_l23, rf_l24, rf_l25, rf_l39, rf_l40, rf_l80, rf_l101, rf_neg, rf_add, rf_sub, rf_mul]; exact congrArg rf_i (by omega)) | exact congrArg rf_i (by omega)) (hx : x = rf_i (k : Int) := by first | with_reducible rfl | (simp only [rf_l0, rf_l1, rf_l2, rf_l3, rf_l4, rf_l6, rf_l7, rf_l11, rf_l12, rf_l13, rf_l14, rf_l15, rf_l16, rf_l17, rf_l18, rf_l19, rf_l20, rf_l21, rf_l22, rf_l23, rf_l24, rf_l25, rf_l39, rf_l40, rf_l80, rf_l101, rf_neg, rf_add, rf_sub, rf_mul]; done) | (simp only [rf_l0, rf_l1, rf_l2, rf_l3, rf_l4, rf_l6, rf_l7, rf_l11, rf_l12, rf_l13, rf_l14, rf_l15, rf_l16, rf_l17, rf_l18, rf_l19, rf_l20, rf_l21, rf_l22, rf_l23, rf_l24, rf_l25, rf_l39, rf_l40, rf_l80, rf_l101, rf_neg, rf_add, rf_sub, rf_mul]; exact congrArg rf_i (by omega)) | exact congrArg rf_i (by omega)) (hy : y = rf_i 0 := by first | with_reducible rfl | (simp only [rf_l0, rf_l1, rf_l2, rf_l3, rf_l4, rf_l6, rf_l7, rf_l11, rf_l12, rf_l13, rf_l14, rf_l15, rf_l16, rf_l17, rf_l18, rf_l19, rf_l20, rf_l21, rf_l22, rf_l23, rf_l24, rf_l25, rf_l39, rf_l40, rf_l80, rf_l101, rf_neg, rf_add, rf_sub, rf_mul]; done) | (simp only [rf_l0, rf_l1, rf_l2, rf_l3, rf_l4, rf_l6, rf_l7, rf_l11, rf_l12, rf_l13, rf_l14, rf_l15, rf_l16, rf_l17, rf_l18, rf_l19, rf_l20, rf_l21, rf_l22, rf_l23, rf_l24, rf_l25, rf_l39, rf_l40, rf_l80, rf_l101, rf_neg, rf_add, rf_sub, rf_mul]; exact congrArg rf_i (by omega)) | exact congrArg rf_i (by omega)) : wpX_coefficient post (n, rf_fl C, rf_ar D, a3) x y := by
  subst hn hx hy
  refine rf_blt k 0 (fun g => absurd g (by omega)) (fun _ => rf_ble k 24 (fun _ => rf_beq ((f + 1 : Nat) : Int) 0 (fun g => absurd g (by omega)) (fun _ => rf_beq 0 0 (fun _ => ⟨rf_inx (2 * f) k (by omega) (by omega), ?_⟩) (fun g => absurd rfl g))) (fun g => absurd g (by omega)))
  rw [rf_rdx _ (2 * f) k (by omega) (by omega), Pp.1]
  exact h
theorem rf_coefB {post : Int32 → Prop} {n x y : Int32} {C : Nat → Nat → Int} {D : Nat → Int} {a3 : Nat → Int32} (f k : Nat) {cq : Nat → Int} (Pq : rf_P C D (2 * f + 1) cq) (h : post (rf_i (cq k)))
    (hk : k ≤ 24 := by omega) (hf : f < 6 := by omega) (hn : n = rf_i ((f + 1 : Nat) : Int) := by first | with_reducible rfl | (simp only [rf_l0, rf_l1, rf_l2, rf_l3, rf_l4, rf_l6, rf_l7, rf_l11, rf_l12, rf_l13, rf_l14, rf_l15, rf_l16, rf_l17, rf_l18, rf_l19, rf_l20, rf_l21, rf_l22, rf_l23, rf_l24, rf_l25, rf_l39, rf_l40, rf_l80, rf_l101, rf_neg, rf_add, rf_sub, rf_mul]; done) | (simp only [rf_l0, rf_l1, rf_l2, rf_l3, rf_l4, rf_l6, rf_l7, rf_l11, rf_l12, rf_l13, rf_l14, rf_l15, rf_l16, rf_l17, rf_l18, rf_l19, rf_l20, rf_l21, rf_l22, rf_l23, rf_l24, rf_l25, rf_l39, rf_l40, rf_l80, rf_l101, rf_neg, rf_add, rf_sub, rf_mul]; exact congrArg rf_i (by omega)) | exact congrArg rf_i (by omega)) (hx : x = rf_i (k : Int) := by first | with_reducible rfl | (simp only [rf_l0, rf_l1, rf_l2, rf_l3, rf_l4, rf_l6, rf_l7, rf_l11, rf_l12, rf_l13, rf_l14, rf_l15, rf_l16, rf_l17, rf_l18, rf_l19, rf_l20, rf_l21, rf_l22, rf_l23, rf_l24, rf_l25, rf_l39, rf_l40, rf_l80, rf_l101, rf_neg, rf_add, rf_sub, rf_mul]; done) | (simp only [rf_l0, rf_l1, rf_l2, rf_l3, rf_l4, rf_l6, rf_l7, rf_l11, rf_l12, rf_l13, rf_l14, rf_l15, rf_l16, rf_l17, rf_l18, rf_l19, rf_l20, rf_l21, rf_l22, rf_l23, rf_l24, rf_l25, rf_l39, rf_l40, rf_l80, rf_l101, rf_neg, rf_add, rf_sub, rf_mul]; exact congrArg rf_i (by omega)) | exact congrArg rf_i (by omega)) (hy : y = rf_i 1 := by first | with_reducible rfl | (simp only [rf_l0, rf_l1, rf_l2, rf_l3, rf_l4, rf_l6, rf_l7, rf_l11, rf_l12, rf_l13, rf_l14, rf_l15, rf_l16, rf_l17, rf_l18, rf_l19, rf_l20, rf_l21, rf_l22, rf_l23, rf_l24, rf_l25, rf_l39, rf_l40, rf_l80, rf_l101, rf_neg, rf_add, rf_sub, rf_mul]; done) | (simp only [rf_l0, rf_l1, rf_l2, rf_l3, rf_l4, rf_l6, rf_l7, rf_l11, rf_l12, rf_l13, rf_l14, rf_l15, rf_l16, rf_l17, rf_l18, rf_l19, rf_l20, rf_l21, rf_l22, rf_l23, rf_l24, rf_l25, rf_l39, rf_l40, rf_l80, rf_l101, rf_neg, rf_add, rf_sub, rf_mul]; exact congrArg rf_i (by omega)) | exact congrArg rf_i (by omega)) : wpX_coefficient post (n, rf_fl C, rf_ar D, a3) x y := by
  subst hn hx hy
  refine rf_blt k 0 (fun g => absurd g (by omega)) (fun _ => rf_ble k 24 (fun _ => rf_beq ((f + 1 : Nat) : Int) 0 (fun g => absurd g (by omega)) (fun _ => rf_beq 1 0 (fun g => absurd g (by omega)) (fun _ => ⟨rf_inx (2 * f + 1) k (by omega) (by omega), ?_⟩))) (fun g => absurd g (by omega)))
  rw [rf_rdx _ (2 * f + 1) k (by omega) (by omega), Pq.1]
  exact h
/-- the degree, 0 of the polynomial 0 -/
def rf_dz (c : Nat → Int) : Int := if 0 ≤ rf_dg c then rf_dg c else 0
theorem rf_degW {post : Int32 → Prop} {n x : Int32} {C : Nat → Nat → Int} {D : Nat → Int} {a3 : Nat → Int32} (p : Nat) {c : Nat → Int} (Pp : rf_P C D p c) (h : post (rf_i (rf_dz c))) (hp : p < 24 := by omega) (hx : x = rf_i (p : Int) := by first | with_reducible rfl | (simp only [rf_l0, rf_l1, rf_l2, rf_l3, rf_l4, rf_l6, rf_l7, rf_l11, rf_l12, rf_l13, rf_l14, rf_l15, rf_l16, rf_l17, rf_l18, rf_l19, rf_l20, rf_l21, rf_l22, rf_l23, rf_l24, rf_l25, rf_l39, rf_l40, rf_l80, rf_l101, rf_neg, rf_add, rf_sub, rf_mul]; done) | (simp only [rf_l0, rf_l1, rf_l2, rf_l3, rf_l4, rf_l6, rf_l7, rf_l11, rf_l12, rf_l13, rf_l14, rf_l15, rf_l16, rf_l17, rf_l18, rf_l19, rf_l20, rf_l21, rf_l22, rf_l23, rf_l24, rf_l25, rf_l39, rf_l40, rf_l80, rf_l101, rf_neg, rf_add, rf_sub, rf_mul]; exact congrArg rf_i (by omega)) | exact congrArg rf_i (by omega)) : wpX_degreeOf post (n, rf_fl C, rf_ar D, a3) x := by
  subst hx
  have l := rf_dg_lt c
  have e : rf_ar D (rf_i (p : Int)).toNatClampNeg = rf_i (rf_dg c) := by
    rw [rf_rdd _ p hp, Pp.2.1]
  refine ⟨rf_ind p hp, rf_ble 0 (rf_dg c) (fun g => ⟨rf_ind p hp, ?_⟩) (fun g => ?_) rf_l0 e⟩
  · rw [e]
    rw [show rf_dz c = rf_dg c from if_pos g] at h
    exact h
  · rw [show rf_dz c = 0 from if_neg (by omega), ← rf_l0] at h
    exact h
theorem rf_aboveW {post : Int32 → Prop} {n : Int32} {C : Nat → Nat → Int} {D : Nat → Int} {a3 : Nat → Int32} (f : Nat) {cp : Nat → Int} (Pp : rf_P C D (2 * f) cp) (h : post (rf_i (rf_dz cp))) (hf : f < 6 := by omega) (hn : n = rf_i ((f + 1 : Nat) : Int) := by first | with_reducible rfl | (simp only [rf_l0, rf_l1, rf_l2, rf_l3, rf_l4, rf_l6, rf_l7, rf_l11, rf_l12, rf_l13, rf_l14, rf_l15, rf_l16, rf_l17, rf_l18, rf_l19, rf_l20, rf_l21, rf_l22, rf_l23, rf_l24, rf_l25, rf_l39, rf_l40, rf_l80, rf_l101, rf_neg, rf_add, rf_sub, rf_mul]; done) | (simp only [rf_l0, rf_l1, rf_l2, rf_l3, rf_l4, rf_l6, rf_l7, rf_l11, rf_l12, rf_l13, rf_l14, rf_l15, rf_l16, rf_l17, rf_l18, rf_l19, rf_l20, rf_l21, rf_l22, rf_l23, rf_l24, rf_l25, rf_l39, rf_l40, rf_l80, rf_l101, rf_neg, rf_add, rf_sub, rf_mul]; exact congrArg rf_i (by omega)) | exact congrArg rf_i (by omega)) : wpX_degreeAbove post (n, rf_fl C, rf_ar D, a3) := by
  subst hn
  exact rf_beq ((f + 1 : Nat) : Int) 0 (fun g => absurd g (by omega)) (fun _ => rf_degW (2 * f) Pp h)
theorem rf_belowW {post : Int32 → Prop} {n : Int32} {C : Nat → Nat → Int} {D : Nat → Int} {a3 : Nat → Int32} (f : Nat) {cq : Nat → Int} (Pq : rf_P C D (2 * f + 1) cq) (h : post (rf_i (rf_dz cq))) (hf : f < 6 := by omega) (hn : n = rf_i ((f + 1 : Nat) : Int) := by first | with_reducible rfl | (simp only [rf_l0, rf_l1, rf_l2, rf_l3, rf_l4, rf_l6, rf_l7, rf_l11, rf_l12, rf_l13, rf_l14, rf_l15, rf_l16, rf_l17, rf_l18, rf_l19, rf_l20, rf_l21, rf_l22, rf_l23, rf_l24, rf_l25, rf_l39, rf_l40, rf_l80, rf_l101, rf_neg, rf_add, rf_sub, rf_mul]; done) | (simp only [rf_l0, rf_l1, rf_l2, rf_l3, rf_l4, rf_l6, rf_l7, rf_l11, rf_l12, rf_l13, rf_l14, rf_l15, rf_l16, rf_l17, rf_l18, rf_l19, rf_l20, rf_l21, rf_l22, rf_l23, rf_l24, rf_l25, rf_l39, rf_l40, rf_l80, rf_l101, rf_neg, rf_add, rf_sub, rf_mul]; exact congrArg rf_i (by omega)) | exact congrArg rf_i (by omega)) : wpX_degreeBelow post (n, rf_fl C, rf_ar D, a3) := by
  subst hn
  exact rf_beq ((f + 1 : Nat) : Int) 0 (fun g => absurd g (by omega)) (fun _ => rf_degW (2 * f + 1) Pq h)
theorem rf_heightW {post : Int32 → Prop} {n : Int32} {a1 a2 : Nat → Int32} {H : Nat → Int} (f : Nat) (h : post (rf_i (H f))) (hf : f < 6 := by omega) (hn : n = rf_i ((f + 1 : Nat) : Int) := by first | with_reducible rfl | (simp only [rf_l0, rf_l1, rf_l2, rf_l3, rf_l4, rf_l6, rf_l7, rf_l11, rf_l12, rf_l13, rf_l14, rf_l15, rf_l16, rf_l17, rf_l18, rf_l19, rf_l20, rf_l21, rf_l22, rf_l23, rf_l24, rf_l25, rf_l39, rf_l40, rf_l80, rf_l101, rf_neg, rf_add, rf_sub, rf_mul]; done) | (simp only [rf_l0, rf_l1, rf_l2, rf_l3, rf_l4, rf_l6, rf_l7, rf_l11, rf_l12, rf_l13, rf_l14, rf_l15, rf_l16, rf_l17, rf_l18, rf_l19, rf_l20, rf_l21, rf_l22, rf_l23, rf_l24, rf_l25, rf_l39, rf_l40, rf_l80, rf_l101, rf_neg, rf_add, rf_sub, rf_mul]; exact congrArg rf_i (by omega)) | exact congrArg rf_i (by omega)) : wpX_height post (n, a1, a2, rf_ar H) := by
  subst hn
  refine rf_beq ((f + 1 : Nat) : Int) 0 (fun g => absurd g (by omega)) (fun _ => ⟨rf_ind f (by omega), ?_⟩)
  rw [rf_rdd H f (by omega)]
  exact h
theorem rf_alikeW {post : Int32 → Prop} {n x y : Int32} {C : Nat → Nat → Int} {D : Nat → Int} {a3 : Nat → Int32} (p q : Nat) {c : Nat → Int} (Pp : rf_P C D p c) (Pq : rf_P C D q c) (h : post 1) (hp : p < 24 := by omega) (hq : q < 24 := by omega) (hx : x = rf_i (p : Int) := by first | with_reducible rfl | (simp only [rf_l0, rf_l1, rf_l2, rf_l3, rf_l4, rf_l6, rf_l7, rf_l11, rf_l12, rf_l13, rf_l14, rf_l15, rf_l16, rf_l17, rf_l18, rf_l19, rf_l20, rf_l21, rf_l22, rf_l23, rf_l24, rf_l25, rf_l39, rf_l40, rf_l80, rf_l101, rf_neg, rf_add, rf_sub, rf_mul]; done) | (simp only [rf_l0, rf_l1, rf_l2, rf_l3, rf_l4, rf_l6, rf_l7, rf_l11, rf_l12, rf_l13, rf_l14, rf_l15, rf_l16, rf_l17, rf_l18, rf_l19, rf_l20, rf_l21, rf_l22, rf_l23, rf_l24, rf_l25, rf_l39, rf_l40, rf_l80, rf_l101, rf_neg, rf_add, rf_sub, rf_mul]; exact congrArg rf_i (by omega)) | exact congrArg rf_i (by omega)) (hy : y = rf_i (q : Int) := by first | with_reducible rfl | (simp only [rf_l0, rf_l1, rf_l2, rf_l3, rf_l4, rf_l6, rf_l7, rf_l11, rf_l12, rf_l13, rf_l14, rf_l15, rf_l16, rf_l17, rf_l18, rf_l19, rf_l20, rf_l21, rf_l22, rf_l23, rf_l24, rf_l25, rf_l39, rf_l40, rf_l80, rf_l101, rf_neg, rf_add, rf_sub, rf_mul]; done) | (simp only [rf_l0, rf_l1, rf_l2, rf_l3, rf_l4, rf_l6, rf_l7, rf_l11, rf_l12, rf_l13, rf_l14, rf_l15, rf_l16, rf_l17, rf_l18, rf_l19, rf_l20, rf_l21, rf_l22, rf_l23, rf_l24, rf_l25, rf_l39, rf_l40, rf_l80, rf_l101, rf_neg, rf_add, rf_sub, rf_mul]; exact congrArg rf_i (by omega)) | exact congrArg rf_i (by omega)) : wpX_alike post (n, rf_fl C, rf_ar D, a3) x y := by
  subst hx hy
  have e : rf_ar D (rf_i (p : Int)).toNatClampNeg = rf_ar D (rf_i (q : Int)).toNatClampNeg := by
    rw [rf_rdd _ p hp, rf_rdd _ q hq, Pp.2.1, Pq.2.1]
  refine ⟨rf_ind p hp, rf_ind q hq, br_t e ?_⟩
  refine rf_loop (σ := Unit) (fun m x4 _ => wX_alike_24 post (rf_i (p : Int)) (rf_i (q : Int)) n (rf_fl C) (rf_ar D) a3 m 1 x4) (fun _ _ => True) 40 () trivial ?_ ?_
  · intro m _ _
    exact rf_ble 40 40 (fun _ => ⟨narrow_b1, h⟩) (fun g => absurd g (by omega))
  · intro m i _ hi _ hw
    have e2 : rf_fl C (rf_i (p : Int) * 40 + rf_i (i : Int)).toNatClampNeg = rf_fl C (rf_i (q : Int) * 40 + rf_i (i : Int)).toNatClampNeg := by
      rw [rf_rdx _ p i hp hi, rf_rdx _ q i hq hi, Pp.1, Pq.1]
    exact rf_ble 40 i (fun g => absurd g (by omega)) (fun _ => br_f (by decide) ⟨rf_inx p i hp hi, rf_inx q i hq hi, br_t e2 (nm_r (rf_nx i) (hw () trivial))⟩)
theorem rf_sameW {post : Int32 → Prop} {n : Int32} {C : Nat → Nat → Int} {D : Nat → Int} {a3 : Nat → Int32} (f : Nat) {cp cq : Nat → Int} (Pp : rf_P C D (2 * f) cp) (Pq : rf_P C D (2 * f + 1) cq) (Pp' : rf_P C D (2 * f + 2) cp) (Pq' : rf_P C D (2 * f + 3) cq) (h : post 1)
    (hf : f < 5 := by omega) (hn : n = rf_i ((f + 2 : Nat) : Int) := by first | with_reducible rfl | (simp only [rf_l0, rf_l1, rf_l2, rf_l3, rf_l4, rf_l6, rf_l7, rf_l11, rf_l12, rf_l13, rf_l14, rf_l15, rf_l16, rf_l17, rf_l18, rf_l19, rf_l20, rf_l21, rf_l22, rf_l23, rf_l24, rf_l25, rf_l39, rf_l40, rf_l80, rf_l101, rf_neg, rf_add, rf_sub, rf_mul]; done) | (simp only [rf_l0, rf_l1, rf_l2, rf_l3, rf_l4, rf_l6, rf_l7, rf_l11, rf_l12, rf_l13, rf_l14, rf_l15, rf_l16, rf_l17, rf_l18, rf_l19, rf_l20, rf_l21, rf_l22, rf_l23, rf_l24, rf_l25, rf_l39, rf_l40, rf_l80, rf_l101, rf_neg, rf_add, rf_sub, rf_mul]; exact congrArg rf_i (by omega)) | exact congrArg rf_i (by omega)) : wpX_same post (n, rf_fl C, rf_ar D, a3) := by
  subst hn
  refine rf_ble 2 ((f + 2 : Nat) : Int) (fun _ => nm_r (e' := rf_i ((2 * f : Nat) : Int)) (by first | with_reducible rfl | (simp only [rf_l0, rf_l1, rf_l2, rf_l3, rf_l4, rf_l6, rf_l7, rf_l11, rf_l12, rf_l13, rf_l14, rf_l15, rf_l16, rf_l17, rf_l18, rf_l19, rf_l20, rf_l21, rf_l22, rf_l23, rf_l24, rf_l25, rf_l39, rf_l40, rf_l80, rf_l101, rf_neg, rf_add, rf_sub, rf_mul]; done) | (simp only [rf_l0, rf_l1, rf_l2, rf_l3, rf_l4, rf_l6, rf_l7, rf_l11, rf_l12, rf_l13, rf_l14, rf_l15, rf_l16, rf_l17, rf_l18, rf_l19, rf_l20, rf_l21, rf_l22, rf_l23, rf_l24, rf_l25, rf_l39, rf_l40, rf_l80, rf_l101, rf_neg, rf_add, rf_sub, rf_mul]; exact congrArg rf_i (by omega)) | exact congrArg rf_i (by omega)) ?_) (fun g => absurd g (by omega))
  exact rf_alikeW (2 * f) (2 * f + 2) Pp Pp' (br_f (by decide) (rf_alikeW (2 * f + 1) (2 * f + 3) Pq Pq' (br_f (by decide) h)))
theorem rf_valueW {post : Int32 → Prop} {n x : Int32} {C : Nat → Nat → Int} {D : Nat → Int} {a3 : Nat → Int32} (f : Nat) {cp cq : Nat → Int} (Pp : rf_P C D (2 * f) cp) (Pq : rf_P C D (2 * f + 1) cq) (a : Int) (ha : 0 ≤ a ∧ a < 101) (h : post (rf_i (rf_fr cp cq a)))
    (hf : f < 6 := by omega) (hn : n = rf_i ((f + 1 : Nat) : Int) := by first | with_reducible rfl | (simp only [rf_l0, rf_l1, rf_l2, rf_l3, rf_l4, rf_l6, rf_l7, rf_l11, rf_l12, rf_l13, rf_l14, rf_l15, rf_l16, rf_l17, rf_l18, rf_l19, rf_l20, rf_l21, rf_l22, rf_l23, rf_l24, rf_l25, rf_l39, rf_l40, rf_l80, rf_l101, rf_neg, rf_add, rf_sub, rf_mul]; done) | (simp only [rf_l0, rf_l1, rf_l2, rf_l3, rf_l4, rf_l6, rf_l7, rf_l11, rf_l12, rf_l13, rf_l14, rf_l15, rf_l16, rf_l17, rf_l18, rf_l19, rf_l20, rf_l21, rf_l22, rf_l23, rf_l24, rf_l25, rf_l39, rf_l40, rf_l80, rf_l101, rf_neg, rf_add, rf_sub, rf_mul]; exact congrArg rf_i (by omega)) | exact congrArg rf_i (by omega)) (hx : x = rf_i a := by first | with_reducible rfl | (simp only [rf_l0, rf_l1, rf_l2, rf_l3, rf_l4, rf_l6, rf_l7, rf_l11, rf_l12, rf_l13, rf_l14, rf_l15, rf_l16, rf_l17, rf_l18, rf_l19, rf_l20, rf_l21, rf_l22, rf_l23, rf_l24, rf_l25, rf_l39, rf_l40, rf_l80, rf_l101, rf_neg, rf_add, rf_sub, rf_mul]; done) | (simp only [rf_l0, rf_l1, rf_l2, rf_l3, rf_l4, rf_l6, rf_l7, rf_l11, rf_l12, rf_l13, rf_l14, rf_l15, rf_l16, rf_l17, rf_l18, rf_l19, rf_l20, rf_l21, rf_l22, rf_l23, rf_l24, rf_l25, rf_l39, rf_l40, rf_l80, rf_l101, rf_neg, rf_add, rf_sub, rf_mul]; exact congrArg rf_i (by omega)) | exact congrArg rf_i (by omega)) : wpX_value post (n, rf_fl C, rf_ar D, a3) x := by
  subst hn hx
  exact rf_blt a 0 (fun g => absurd g (by omega)) (fun _ => rf_blt a 101 (fun _ => rf_beq ((f + 1 : Nat) : Int) 0 (fun g => absurd g (by omega)) (fun _ => rf_frW (2 * f) (2 * f + 1) Pp Pq a ha h)) (fun g => absurd g (by omega)))
theorem rf_slopeW {post : Int32 → St1 → Prop} {n x : Int32} {C : Nat → Nat → Int} {D : Nat → Int} {a3 : Nat → Int32} (f : Nat) {cp cq : Nat → Int} (Pp : rf_P C D (2 * f) cp) (Pq : rf_P C D (2 * f + 1) cq) (h0 : 0 ≤ rf_dg cq) (h1 : rf_dg cp + rf_dg cq < 40) (h2 : rf_dg cq + rf_dg cq < 40) (a : Int) (ha : 0 ≤ a ∧ a < 101)
    (h : ∀ C' D', (∀ r, r < 12 → rf_E C D C' D' r) → post (rf_i (rf_fr (rf_lp (rf_nu cp cq) (rf_ml cq cq)) (rf_lw (rf_nu cp cq) (rf_ml cq cq)) a)) (n, rf_fl C', rf_ar D', a3))
    (hf : f < 6 := by omega) (hn : n = rf_i ((f + 1 : Nat) : Int) := by first | with_reducible rfl | (simp only [rf_l0, rf_l1, rf_l2, rf_l3, rf_l4, rf_l6, rf_l7, rf_l11, rf_l12, rf_l13, rf_l14, rf_l15, rf_l16, rf_l17, rf_l18, rf_l19, rf_l20, rf_l21, rf_l22, rf_l23, rf_l24, rf_l25, rf_l39, rf_l40, rf_l80, rf_l101, rf_neg, rf_add, rf_sub, rf_mul]; done) | (simp only [rf_l0, rf_l1, rf_l2, rf_l3, rf_l4, rf_l6, rf_l7, rf_l11, rf_l12, rf_l13, rf_l14, rf_l15, rf_l16, rf_l17, rf_l18, rf_l19, rf_l20, rf_l21, rf_l22, rf_l23, rf_l24, rf_l25, rf_l39, rf_l40, rf_l80, rf_l101, rf_neg, rf_add, rf_sub, rf_mul]; exact congrArg rf_i (by omega)) | exact congrArg rf_i (by omega)) (hx : x = rf_i a := by first | with_reducible rfl | (simp only [rf_l0, rf_l1, rf_l2, rf_l3, rf_l4, rf_l6, rf_l7, rf_l11, rf_l12, rf_l13, rf_l14, rf_l15, rf_l16, rf_l17, rf_l18, rf_l19, rf_l20, rf_l21, rf_l22, rf_l23, rf_l24, rf_l25, rf_l39, rf_l40, rf_l80, rf_l101, rf_neg, rf_add, rf_sub, rf_mul]; done) | (simp only [rf_l0, rf_l1, rf_l2, rf_l3, rf_l4, rf_l6, rf_l7, rf_l11, rf_l12, rf_l13, rf_l14, rf_l15, rf_l16, rf_l17, rf_l18, rf_l19, rf_l20, rf_l21, rf_l22, rf_l23, rf_l24, rf_l25, rf_l39, rf_l40, rf_l80, rf_l101, rf_neg, rf_add, rf_sub, rf_mul]; exact congrArg rf_i (by omega)) | exact congrArg rf_i (by omega)) : wpX_slope post (n, rf_fl C, rf_ar D, a3) x := by
  subst hn hx
  exact rf_blt a 0 (fun g => absurd g (by omega)) (fun _ => rf_blt a 101 (fun _ => rf_beq ((f + 1 : Nat) : Int) 0 (fun g => absurd g (by omega)) (fun _ => rf_drvF f Pp Pq h0 h1 h2 (fun C' D' e P1 P2 => rf_frW 22 23 P1 P2 a ha (h C' D' e)))) (fun g => absurd g (by omega)))
end
section
/-- a formula of the stack: lowest terms are not asked for, degrees and the leading 1 are -/
def rf_gd (cp cq : Nat → Int) (h : Int) : Prop := rf_bd cp ∧ rf_bd cq ∧ rf_dg cp ≤ 2 * h ∧ 0 ≤ rf_dg cq ∧ rf_dg cq ≤ 2 * h ∧ cq (rf_dg cq).toNat = 1 ∧ (rf_dg cp < 0 → rf_dg cq = 0) ∧ 0 ≤ h ∧ h ≤ 12
/-- the picture of a stack of n formulas: numerators, denominators, heights -/
def rf_G (n : Nat) (A B : Nat → Nat → Int) (H : Nat → Int) : Prop := n ≤ 6 ∧ ∀ k, k < n → rf_gd (A k) (B k) (H k)
/-- the arrays hold the picture -/
def rf_M (n : Nat) (A B : Nat → Nat → Int) (C : Nat → Nat → Int) (D : Nat → Int) : Prop := ∀ k, k < n → rf_P C D (2 * k) (A k) ∧ rf_P C D (2 * k + 1) (B k)
/-- a call leads from the picture to another, the same for all arrays that hold it -/
def rf_tr (n : Nat) (A B : Nat → Nat → Int) (H : Nat → Int) (W : (Int32 → St1 → Prop) → St1 → Prop) : Prop :=
  ∃ (n' : Nat) (A' B' : Nat → Nat → Int) (H' : Nat → Int), rf_G n' A' B' H' ∧ ∀ C D, rf_M n A B C D → ∀ post : Int32 → St1 → Prop,
    (∀ r C' D', rf_M n' A' B' C' D' → post r (rf_i (n' : Int), rf_fl C', rf_ar D', rf_ar H')) → W post (rf_i (n : Int), rf_fl C, rf_ar D, rf_ar H)
theorem rf_tr_id {n : Nat} {A B : Nat → Nat → Int} {H : Nat → Int} {W : (Int32 → St1 → Prop) → St1 → Prop} (hG : rf_G n A B H)
    (h : ∀ C D, rf_M n A B C D → ∀ post : Int32 → St1 → Prop, (∀ r, post r (rf_i (n : Int), rf_fl C, rf_ar D, rf_ar H)) → W post (rf_i (n : Int), rf_fl C, rf_ar D, rf_ar H)) : rf_tr n A B H W :=
  ⟨n, A, B, H, hG, fun C D hM post hp => h C D hM post (fun r => hp r C D hM)⟩
theorem rf_gdlow {N M : Nat → Int} {h : Int} (bN : rf_bd N) (bM : rf_bd M) (h1 : rf_dg N ≤ 2 * h) (h2 : 0 ≤ rf_dg M) (h3 : rf_dg M ≤ 2 * h) (h4 : 0 ≤ h ∧ h ≤ 12) : rf_gd (rf_lp N M) (rf_lw N M) h := by
  obtain ⟨r1, r2, r3, r4, r5, r6, r7⟩ := rf_low bN bM h2
  exact ⟨r1, r2, by omega, r4, by omega, r6, r7, h4.1, h4.2⟩
theorem rf_gdk {c : Int} (hc : 0 ≤ c ∧ c < 101) : rf_gd (rf_k c) (rf_k 1) 0 := by
  have e : rf_dg (rf_k 1) = 0 := rf_k_dg (by decide)
  have e2 : rf_dg (rf_k c) ≤ 0 := by
    by_cases h : c = 0
    · rw [h, rf_k_0]
      omega
    · rw [rf_k_dg h]
      omega
  refine ⟨rf_k_bd hc, rf_k_bd (by omega), by omega, by omega, by omega, ?_, fun _ => e, by omega, by omega⟩
  rw [e]
  exact rf_k_1
theorem rf_gdx : rf_gd rf_x (rf_k 1) 1 := by
  have e : rf_dg (rf_k 1) = 0 := rf_k_dg (by decide)
  have e2 := rf_x_dg
  refine ⟨rf_x_bd, rf_k_bd (by omega), by omega, by omega, by omega, ?_, fun _ => e, by omega, by omega⟩
  rw [e]
  exact rf_k_1
theorem rf_Gput {n f : Nat} {A B : Nat → Nat → Int} {H : Nat → Int} {a b : Nat → Int} {h : Int} (hn : n ≤ 6) (hG : ∀ k, k < n → k ≠ f → rf_gd (A k) (B k) (H k)) (g : rf_gd a b h) : rf_G n (rf_u A f a) (rf_u B f b) (rf_u H f h) := by
  refine ⟨hn, fun k hk => ?_⟩
  by_cases e : k = f
  · rw [e, rf_us, rf_us, rf_us]
    exact g
  · rw [rf_un e, rf_un e, rf_un e]
    exact hG k hk e
theorem rf_Mput {n f : Nat} {A B C C' : Nat → Nat → Int} {D D' : Nat → Int} {a b : Nat → Int} (hM : ∀ k, k < n → k ≠ f → rf_P C D (2 * k) (A k) ∧ rf_P C D (2 * k + 1) (B k)) (hn : n ≤ 6) (e : ∀ r, r < 12 → r ≠ 2 * f → r ≠ 2 * f + 1 → rf_E C D C' D' r)
    (Pa : rf_P C' D' (2 * f) a) (Pb : rf_P C' D' (2 * f + 1) b) : rf_M n (rf_u A f a) (rf_u B f b) C' D' := by
  intro k hk
  by_cases g : k = f
  · rw [g, rf_us, rf_us]
    exact ⟨Pa, Pb⟩
  · rw [rf_un g, rf_un g]
    have m := hM k hk g
    exact ⟨rf_Pt (e _ (by omega) (by omega) (by omega)) m.1, rf_Pt (e _ (by omega) (by omega) (by omega)) m.2⟩
theorem rf_push {post : Int32 → St1 → Prop} {x y : Int32} {a1 a2 : Nat → Int32} {H : Nat → Int} (n : Nat) (v : Int) (h : post (rf_i ((n + 1 : Nat) : Int)) (rf_i ((n + 1 : Nat) : Int), a1, a2, rf_ar (rf_u H n v))) (hn : n < 6 := by omega) (hx : x = rf_i (n : Int) := by first | with_reducible rfl | (simp only [rf_l0, rf_l1, rf_l2, rf_l3, rf_l4, rf_l6, rf_l7, rf_l11, rf_l12, rf_l13, rf_l14, rf_l15, rf_l16, rf_l17, rf_l18, rf_l19, rf_l20, rf_l21, rf_l22, rf_l23, rf_l24, rf_l25, rf_l39, rf_l40, rf_l80, rf_l101, rf_neg, rf_add, rf_sub, rf_mul]; done) | (simp only [rf_l0, rf_l1, rf_l2, rf_l3, rf_l4, rf_l6, rf_l7, rf_l11, rf_l12, rf_l13, rf_l14, rf_l15, rf_l16, rf_l17, rf_l18, rf_l19, rf_l20, rf_l21, rf_l22, rf_l23, rf_l24, rf_l25, rf_l39, rf_l40, rf_l80, rf_l101, rf_neg, rf_add, rf_sub, rf_mul]; exact congrArg rf_i (by omega)) | exact congrArg rf_i (by omega)) (hy : y = rf_i v := by first | with_reducible rfl | (simp only [rf_l0, rf_l1, rf_l2, rf_l3, rf_l4, rf_l6, rf_l7, rf_l11, rf_l12, rf_l13, rf_l14, rf_l15, rf_l16, rf_l17, rf_l18, rf_l19, rf_l20, rf_l21, rf_l22, rf_l23, rf_l24, rf_l25, rf_l39, rf_l40, rf_l80, rf_l101, rf_neg, rf_add, rf_sub, rf_mul]; done) | (simp only [rf_l0, rf_l1, rf_l2, rf_l3, rf_l4, rf_l6, rf_l7, rf_l11, rf_l12, rf_l13, rf_l14, rf_l15, rf_l16, rf_l17, rf_l18, rf_l19, rf_l20, rf_l21, rf_l22, rf_l23, rf_l24, rf_l25, rf_l39, rf_l40, rf_l80, rf_l101, rf_neg, rf_add, rf_sub, rf_mul]; exact congrArg rf_i (by omega)) | exact congrArg rf_i (by omega)) : wpX_push post (x, a1, a2, rf_ar H) y := by
  subst hx hy
  exact ⟨rf_ind n hn, nm_r (rf_wrd H n v (by omega)) (nm_r (rf_nx n) h)⟩
theorem rf_dropT {n : Nat} {A B : Nat → Nat → Int} {H : Nat → Int} (hG : rf_G n A B H) : rf_tr n A B H wpX_drop := by
  by_cases h : n = 0
  · exact rf_tr_id hG (fun C D hM post hp => rf_beq n 0 (fun _ => hp _) (fun g => absurd g (by omega)) (ha := by omega))
  · obtain ⟨f, rfl⟩ : ∃ f, n = f + 1 := ⟨n - 1, by omega⟩
    have h6 := hG.1
    refine ⟨f, A, B, H, ⟨by omega, fun k hk => hG.2 k (by omega)⟩, fun C D hM post hp => ?_⟩
    exact rf_beq ((f + 1 : Nat) : Int) 0 (fun g => absurd g (by omega)) (fun _ => nm_r (e' := rf_i (f : Int)) (by first | with_reducible rfl | (simp only [rf_l0, rf_l1, rf_l2, rf_l3, rf_l4, rf_l6, rf_l7, rf_l11, rf_l12, rf_l13, rf_l14, rf_l15, rf_l16, rf_l17, rf_l18, rf_l19, rf_l20, rf_l21, rf_l22, rf_l23, rf_l24, rf_l25, rf_l39, rf_l40, rf_l80, rf_l101, rf_neg, rf_add, rf_sub, rf_mul]; done) | (simp only [rf_l0, rf_l1, rf_l2, rf_l3, rf_l4, rf_l6, rf_l7, rf_l11, rf_l12, rf_l13, rf_l14, rf_l15, rf_l16, rf_l17, rf_l18, rf_l19, rf_l20, rf_l21, rf_l22, rf_l23, rf_l24, rf_l25, rf_l39, rf_l40, rf_l80, rf_l101, rf_neg, rf_add, rf_sub, rf_mul]; exact congrArg rf_i (by omega)) | exact congrArg rf_i (by omega)) (hp _ C D (fun k hk => hM k (by omega))))
theorem rf_varT {n : Nat} {A B : Nat → Nat → Int} {H : Nat → Int} (hG : rf_G n A B H) : rf_tr n A B H wpX_variable := by
  have h6 := hG.1
  by_cases h : n = 6
  · exact rf_tr_id hG (fun C D hM post hp => rf_beq n 6 (fun _ => hp _) (fun g => absurd g (by omega)))
  · refine ⟨n + 1, rf_u A n rf_x, rf_u B n (rf_k 1), rf_u H n 1, rf_Gput (by omega) (fun k hk e => hG.2 k (by omega)) rf_gdx, fun C D hM post hp => ?_⟩
    refine rf_beq n 6 (fun g => absurd g (by omega)) (fun _ => rf_clear (2 * n) (by omega) ?_)
    have e1 : upd (rf_fl (rf_u C (2 * n) (fun _ => 0))) (2 * rf_i (n : Int) * 40 + 1).toNatClampNeg 1 = rf_fl (rf_u C (2 * n) rf_x) := by
      rw [rf_wrx _ (2 * n) 1 1 (by omega) (by omega) rf_l1, rf_uu, rf_us]
      rfl
    have e2 : upd (rf_ar (rf_u D (2 * n) (-1))) (2 * rf_i (n : Int)).toNatClampNeg 1 = rf_ar (rf_u D (2 * n) (rf_dg rf_x)) := by
      rw [rf_wrd _ (2 * n) 1 (by omega), rf_uu, rf_x_dg]
    refine ⟨rf_inx (2 * n) 1 (by omega) (by omega), nm_r e1 ⟨rf_ind (2 * n) (by omega), nm_r e2 ?_⟩⟩
    refine rf_const (2 * n + 1) 1 (by omega) (fun C1 D1 f1 P1 => ?_)
    refine rf_push n 1 (hp _ C1 D1 (rf_Mput (fun k hk g => hM k (by omega)) (by omega) (fun r _ h1 h2 => rf_Et (rf_Eu h1) (f1 r h2)) (rf_Pt (f1 _ (by omega)) (rf_Pu rf_x_bd)) P1))
theorem rf_conT {n : Nat} {A B : Nat → Nat → Int} {H : Nat → Int} (hG : rf_G n A B H) (v : Int) (hv : 0 ≤ v ∧ v < 101) : rf_tr n A B H (fun post u => wpX_constant post u (rf_i v)) := by
  have h6 := hG.1
  by_cases h : n = 6
  · exact rf_tr_id hG (fun C D hM post hp => rf_blt v 0 (fun g => absurd g (by omega)) (fun _ => rf_blt v 101 (fun _ => rf_beq n 6 (fun _ => hp _) (fun g => absurd g (by omega))) (fun g => absurd g (by omega))))
  · refine ⟨n + 1, rf_u A n (rf_k v), rf_u B n (rf_k 1), rf_u H n 0, rf_Gput (by omega) (fun k hk e => hG.2 k (by omega)) (rf_gdk hv), fun C D hM post hp => ?_⟩
    refine rf_blt v 0 (fun g => absurd g (by omega)) (fun _ => rf_blt v 101 (fun _ => rf_beq n 6 (fun g => absurd g (by omega)) (fun _ => ?_)) (fun g => absurd g (by omega)))
    refine rf_const (2 * n) v hv (fun C1 D1 f1 P1 => ?_)
    refine rf_const (2 * n + 1) 1 (by omega) (fun C2 D2 f2 P2 => ?_)
    exact rf_push n 0 (hp _ C2 D2 (rf_Mput (fun k hk g => hM k (by omega)) (by omega) (fun r _ h1 h2 => rf_Et (f1 r h1) (f2 r h2)) (rf_Pt (f2 _ (by omega)) P1) P2))
/-- dup, with what it answers -/
theorem rf_dupW {post : Int32 → St1 → Prop} {C : Nat → Nat → Int} {D H : Nat → Int} (f : Nat) (hf : f < 5) {a b : Nat → Int} (Pa : rf_P C D (2 * f) a) (Pb : rf_P C D (2 * f + 1) b)
    (h : ∀ C' D', (∀ r, r ≠ 2 * f + 2 → r ≠ 2 * f + 3 → rf_E C D C' D' r) → rf_P C' D' (2 * f + 2) a → rf_P C' D' (2 * f + 3) b → post (rf_i ((f + 2 : Nat) : Int)) (rf_i ((f + 2 : Nat) : Int), rf_fl C', rf_ar D', rf_ar (rf_u H (f + 1) (H f)))) :
    wpX_dup post (rf_i ((f + 1 : Nat) : Int), rf_fl C, rf_ar D, rf_ar H) := by
  refine rf_beq ((f + 1 : Nat) : Int) 0 (fun g => absurd g (by omega)) (fun _ => rf_beq ((f + 1 : Nat) : Int) 6 (fun g => absurd g (by omega)) (fun _ => ?_))
  refine rf_copyP (2 * f) (2 * f + 2) Pa (fun C1 D1 f1 P1 => ?_)
  refine rf_copyP (2 * f + 1) (2 * f + 3) (rf_Pt (f1 _ (by omega)) Pb) (fun C2 D2 f2 P2 => ?_)
  refine ⟨rf_ind f (by omega), rf_push (f + 1) (H f) (h C2 D2 (fun r h1 h2 => rf_Et (f1 r h1) (f2 r h2)) (rf_Pt (f2 _ (by omega)) P1) P2) (hy := rf_rdd H f (by omega))⟩
theorem rf_dupT {n : Nat} {A B : Nat → Nat → Int} {H : Nat → Int} (hG : rf_G n A B H) : rf_tr n A B H wpX_dup := by
  have h6 := hG.1
  by_cases h : n = 0
  · exact rf_tr_id hG (fun C D hM post hp => rf_beq n 0 (fun _ => hp _) (fun g => absurd g (by omega)))
  by_cases h2 : n = 6
  · exact rf_tr_id hG (fun C D hM post hp => rf_beq n 0 (fun g => absurd g (by omega)) (fun _ => rf_beq n 6 (fun _ => hp _) (fun g => absurd g (by omega))))
  obtain ⟨f, rfl⟩ : ∃ f, n = f + 1 := ⟨n - 1, by omega⟩
  refine ⟨f + 2, rf_u A (f + 1) (A f), rf_u B (f + 1) (B f), rf_u H (f + 1) (H f), rf_Gput (by omega) (fun k hk e => hG.2 k (by omega)) (hG.2 f (by omega)), fun C D hM post hp => ?_⟩
  have m := hM f (by omega)
  exact rf_dupW f (by omega) m.1 m.2 (fun C' D' e Pa Pb => hp _ C' D' (rf_Mput (fun k hk g => hM k (by omega)) (by omega) (fun r _ h1 h2 => e r (by omega) (by omega)) Pa Pb))
theorem rf_exch {post : St1 → Prop} {n x y : Int32} {C : Nat → Nat → Int} {D : Nat → Int} {a3 : Nat → Int32} (p q : Nat) {a b : Nat → Int} (Pa : rf_P C D p a) (Pb : rf_P C D q b)
    (h : ∀ C' D', (∀ r, r ≠ p → r ≠ q → r ≠ 12 → rf_E C D C' D' r) → rf_P C' D' p b → rf_P C' D' q a → post (n, rf_fl C', rf_ar D', a3)) (hp : p < 12 := by omega) (hq : q < 12 := by omega) (hpq : p ≠ q := by omega)
    (hx : x = rf_i (p : Int) := by first | with_reducible rfl | (simp only [rf_l0, rf_l1, rf_l2, rf_l3, rf_l4, rf_l6, rf_l7, rf_l11, rf_l12, rf_l13, rf_l14, rf_l15, rf_l16, rf_l17, rf_l18, rf_l19, rf_l20, rf_l21, rf_l22, rf_l23, rf_l24, rf_l25, rf_l39, rf_l40, rf_l80, rf_l101, rf_neg, rf_add, rf_sub, rf_mul]; done) | (simp only [rf_l0, rf_l1, rf_l2, rf_l3, rf_l4, rf_l6, rf_l7, rf_l11, rf_l12, rf_l13, rf_l14, rf_l15, rf_l16, rf_l17, rf_l18, rf_l19, rf_l20, rf_l21, rf_l22, rf_l23, rf_l24, rf_l25, rf_l39, rf_l40, rf_l80, rf_l101, rf_neg, rf_add, rf_sub, rf_mul]; exact congrArg rf_i (by omega)) | exact congrArg rf_i (by omega)) (hy : y = rf_i (q : Int) := by first | with_reducible rfl | (simp only [rf_l0, rf_l1, rf_l2, rf_l3, rf_l4, rf_l6, rf_l7, rf_l11, rf_l12, rf_l13, rf_l14, rf_l15, rf_l16, rf_l17, rf_l18, rf_l19, rf_l20, rf_l21, rf_l22, rf_l23, rf_l24, rf_l25, rf_l39, rf_l40, rf_l80, rf_l101, rf_neg, rf_add, rf_sub, rf_mul]; done) | (simp only [rf_l0, rf_l1, rf_l2, rf_l3, rf_l4, rf_l6, rf_l7, rf_l11, rf_l12, rf_l13, rf_l14, rf_l15, rf_l16, rf_l17, rf_l18, rf_l19, rf_l20, rf_l21, rf_l22, rf_l23, rf_l24, rf_l25, rf_l39, rf_l40, rf_l80, rf_l101, rf_neg, rf_add, rf_sub, rf_mul]; exact congrArg rf_i (by omega)) | exact congrArg rf_i (by omega)) : wpX_exchange post (n, rf_fl C, rf_ar D, a3) x y := by
  subst hx hy
  unfold wpX_exchange
  refine rf_copyP p 12 Pa (fun C1 D1 f1 P1 => ?_)
  refine rf_copyP q p (rf_Pt (f1 _ (by omega)) Pb) (fun C2 D2 f2 P2 => ?_)
  refine rf_copyP 12 q (rf_Pt (f2 _ (by omega)) P1) (fun C3 D3 f3 P3 => ?_)
  exact h C3 D3 (fun r h1 h2 h3 => rf_Et (rf_Et (f1 r h3) (f2 r h1)) (f3 r h2)) (rf_Pt (f3 _ (by omega)) P2) P3
theorem rf_swapT {n : Nat} {A B : Nat → Nat → Int} {H : Nat → Int} (hG : rf_G n A B H) : rf_tr n A B H wpX_swap := by
  have h6 := hG.1
  by_cases h : n < 2
  · exact rf_tr_id hG (fun C D hM post hp => rf_ble 2 n (fun g => absurd g (by omega)) (fun _ => hp _))
  obtain ⟨f, rfl⟩ : ∃ f, n = f + 2 := ⟨n - 2, by omega⟩
  have g0 := hG.2 f (by omega)
  have g1 := hG.2 (f + 1) (by omega)
  refine ⟨f + 2, rf_u (rf_u A f (A (f + 1))) (f + 1) (A f), rf_u (rf_u B f (B (f + 1))) (f + 1) (B f), rf_u (rf_u H f (H (f + 1))) (f + 1) (H f), rf_Gput h6 (fun k hk _ => (rf_Gput h6 (fun k hk _ => hG.2 k hk) g1).2 k hk) g0, fun C D hM post hp => ?_⟩
  have m0 := hM f (by omega)
  have m1 := hM (f + 1) (by omega)
  refine rf_ble 2 ((f + 2 : Nat) : Int) (fun _ => nm_r (e' := rf_i (f : Int)) (by first | with_reducible rfl | (simp only [rf_l0, rf_l1, rf_l2, rf_l3, rf_l4, rf_l6, rf_l7, rf_l11, rf_l12, rf_l13, rf_l14, rf_l15, rf_l16, rf_l17, rf_l18, rf_l19, rf_l20, rf_l21, rf_l22, rf_l23, rf_l24, rf_l25, rf_l39, rf_l40, rf_l80, rf_l101, rf_neg, rf_add, rf_sub, rf_mul]; done) | (simp only [rf_l0, rf_l1, rf_l2, rf_l3, rf_l4, rf_l6, rf_l7, rf_l11, rf_l12, rf_l13, rf_l14, rf_l15, rf_l16, rf_l17, rf_l18, rf_l19, rf_l20, rf_l21, rf_l22, rf_l23, rf_l24, rf_l25, rf_l39, rf_l40, rf_l80, rf_l101, rf_neg, rf_add, rf_sub, rf_mul]; exact congrArg rf_i (by omega)) | exact congrArg rf_i (by omega)) ?_) (fun g => absurd g (by omega))
  refine rf_exch (2 * f) (2 * f + 2) m0.1 m1.1 (fun C1 D1 f1 P1 P1' => ?_)
  refine rf_exch (2 * f + 1) (2 * f + 3) (rf_Pt (f1 _ (by omega) (by omega) (by omega)) m0.2) (rf_Pt (f1 _ (by omega) (by omega) (by omega)) m1.2) (fun C2 D2 f2 P2 P2' => ?_)
  refine ⟨rf_ind f (by omega), nm_r (rf_rdd H f (by omega)) ⟨rf_ind (f + 1) (by omega), rf_ind f (by omega), nm_r (rf_wrd H f (H (f + 1)) (by omega) (rf_rdd H (f + 1) (by omega))) ⟨rf_ind (f + 1) (by omega), nm_r (rf_wrd _ (f + 1) (H f) (by omega)) (hp _ C2 D2 ?_)⟩⟩⟩
  intro k hk
  by_cases e1 : k = f + 1
  · rw [e1, rf_us, rf_us]
    exact ⟨rf_Pt (f2 _ (by omega) (by omega) (by omega)) P1', P2'⟩
  · rw [rf_un e1, rf_un e1]
    by_cases e0 : k = f
    · rw [e0, rf_us, rf_us]
      exact ⟨rf_Pt (f2 _ (by omega) (by omega) (by omega)) P1, P2⟩
    · rw [rf_un e0, rf_un e0]
      have m := hM k hk
      exact ⟨rf_Pt (rf_Et (f1 _ (by omega) (by omega) (by omega)) (f2 _ (by omega) (by omega) (by omega))) m.1, rf_Pt (rf_Et (f1 _ (by omega) (by omega) (by omega)) (f2 _ (by omega) (by omega) (by omega))) m.2⟩
end
section
theorem rf_derG {a b : Nat → Int} {h : Int} (g : rf_gd a b h) (hh : 2 * h ≤ 12) : rf_gd (rf_lp (rf_nu a b) (rf_ml b b)) (rf_lw (rf_nu a b) (rf_ml b b)) (2 * h) := by
  obtain ⟨g1, g2, g3, g4, g5, g6, g7, g8, g9⟩ := g
  have d1 := rf_dr_le a
  have d2 := rf_dr_le b
  have m := rf_ml_dg g2 g2 g4 g4 (by omega)
  exact rf_gdlow (rf_ad_b _ _ _) (rf_ml_b _ _) (rf_ad_le (by omega) (rf_ml_le (by omega) (by omega)) (rf_ml_le (by omega) (by omega))) (by omega) (by omega) (by omega)
theorem rf_derW {post : Int32 → St1 → Prop} {C : Nat → Nat → Int} {D H : Nat → Int} (f : Nat) (hf : f < 6) {a b : Nat → Int} (Pa : rf_P C D (2 * f) a) (Pb : rf_P C D (2 * f + 1) b) (g : rf_gd a b (H f)) (hh : 2 * H f ≤ 12)
    (h : ∀ C' D', (∀ r, r < 12 → r ≠ 2 * f → r ≠ 2 * f + 1 → rf_E C D C' D' r) → rf_P C' D' (2 * f) (rf_lp (rf_nu a b) (rf_ml b b)) → rf_P C' D' (2 * f + 1) (rf_lw (rf_nu a b) (rf_ml b b)) → post (rf_i ((f + 1 : Nat) : Int)) (rf_i ((f + 1 : Nat) : Int), rf_fl C', rf_ar D', rf_ar (rf_u H f (2 * H f)))) :
    wpX_derive post (rf_i ((f + 1 : Nat) : Int), rf_fl C, rf_ar D, rf_ar H) := by
  obtain ⟨g1, g2, g3, g4, g5, g6, g7, g8, g9⟩ := g
  have e : 2 * rf_ar H (rf_i (f : Int)).toNatClampNeg = rf_i (2 * H f) := by
    rw [rf_rdd H f (by omega), rf_l2, rf_mul]
  refine rf_beq ((f + 1 : Nat) : Int) 0 (fun g => absurd g (by omega)) (fun _ => nm_r (e' := rf_i (f : Int)) (by first | with_reducible rfl | (simp only [rf_l0, rf_l1, rf_l2, rf_l3, rf_l4, rf_l6, rf_l7, rf_l11, rf_l12, rf_l13, rf_l14, rf_l15, rf_l16, rf_l17, rf_l18, rf_l19, rf_l20, rf_l21, rf_l22, rf_l23, rf_l24, rf_l25, rf_l39, rf_l40, rf_l80, rf_l101, rf_neg, rf_add, rf_sub, rf_mul]; done) | (simp only [rf_l0, rf_l1, rf_l2, rf_l3, rf_l4, rf_l6, rf_l7, rf_l11, rf_l12, rf_l13, rf_l14, rf_l15, rf_l16, rf_l17, rf_l18, rf_l19, rf_l20, rf_l21, rf_l22, rf_l23, rf_l24, rf_l25, rf_l39, rf_l40, rf_l80, rf_l101, rf_neg, rf_add, rf_sub, rf_mul]; exact congrArg rf_i (by omega)) | exact congrArg rf_i (by omega)) ⟨rf_ind f hf, rf_ble (2 * H f) 12 (fun _ => ?_) (fun g => absurd g (by omega)) e⟩)
  refine rf_drvF f Pa Pb g4 (by omega) (by omega) (fun C1 D1 f1 P1 P1' => ?_)
  refine rf_copyP 22 (2 * f) P1 (fun C2 D2 f2 P2 => ?_)
  refine rf_copyP 23 (2 * f + 1) (rf_Pt (f2 _ (by omega)) P1') (fun C3 D3 f3 P3 => ?_)
  exact ⟨rf_ind f hf, rf_ind f hf, nm_r (rf_wrd H f (2 * H f) (by omega) e) (h C3 D3 (fun r h1 h2 h3 => rf_Et (rf_Et (f1 r h1) (f2 r h2)) (f3 r h3)) (rf_Pt (f3 _ (by omega)) P2) P3)⟩
theorem rf_derF {post : Int32 → St1 → Prop} {a1 a2 : Nat → Int32} {H : Nat → Int} (f : Nat) (hf : f < 6) (hh : 12 < 2 * H f) (h2 : H f ≤ 12) (h : post (-2) (rf_i ((f + 1 : Nat) : Int), a1, a2, rf_ar H)) : wpX_derive post (rf_i ((f + 1 : Nat) : Int), a1, a2, rf_ar H) := by
  have e : 2 * rf_ar H (rf_i (f : Int)).toNatClampNeg = rf_i (2 * H f) := by
    rw [rf_rdd H f (by omega), rf_l2, rf_mul]
  exact rf_beq ((f + 1 : Nat) : Int) 0 (fun g => absurd g (by omega)) (fun _ => nm_r (e' := rf_i (f : Int)) (by first | with_reducible rfl | (simp only [rf_l0, rf_l1, rf_l2, rf_l3, rf_l4, rf_l6, rf_l7, rf_l11, rf_l12, rf_l13, rf_l14, rf_l15, rf_l16, rf_l17, rf_l18, rf_l19, rf_l20, rf_l21, rf_l22, rf_l23, rf_l24, rf_l25, rf_l39, rf_l40, rf_l80, rf_l101, rf_neg, rf_add, rf_sub, rf_mul]; done) | (simp only [rf_l0, rf_l1, rf_l2, rf_l3, rf_l4, rf_l6, rf_l7, rf_l11, rf_l12, rf_l13, rf_l14, rf_l15, rf_l16, rf_l17, rf_l18, rf_l19, rf_l20, rf_l21, rf_l22, rf_l23, rf_l24, rf_l25, rf_l39, rf_l40, rf_l80, rf_l101, rf_neg, rf_add, rf_sub, rf_mul]; exact congrArg rf_i (by omega)) | exact congrArg rf_i (by omega)) ⟨rf_ind f hf, rf_ble (2 * H f) 12 (fun g => absurd g (by omega)) (fun _ => h) e⟩)
theorem rf_derT {n : Nat} {A B : Nat → Nat → Int} {H : Nat → Int} (hG : rf_G n A B H) : rf_tr n A B H wpX_derive := by
  have h6 := hG.1
  by_cases h : n = 0
  · exact rf_tr_id hG (fun C D hM post hp => rf_beq n 0 (fun _ => hp _) (fun g => absurd g (by omega)))
  obtain ⟨f, rfl⟩ : ∃ f, n = f + 1 := ⟨n - 1, by omega⟩
  have g := hG.2 f (by omega)
  by_cases hh : 2 * H f ≤ 12
  · refine ⟨f + 1, rf_u A f (rf_lp (rf_nu (A f) (B f)) (rf_ml (B f) (B f))), rf_u B f (rf_lw (rf_nu (A f) (B f)) (rf_ml (B f) (B f))), rf_u H f (2 * H f), rf_Gput h6 (fun k hk _ => hG.2 k hk) (rf_derG g hh), fun C D hM post hp => ?_⟩
    have m := hM f (by omega)
    exact rf_derW f (by omega) m.1 m.2 g hh (fun C' D' e Pa Pb => hp _ C' D' (rf_Mput (fun k hk _ => hM k hk) h6 e Pa Pb))
  · exact rf_tr_id hG (fun C D hM post hp => rf_derF f (by omega) (by omega) g.2.2.2.2.2.2.2.2 (hp _))
theorem rf_app133 {post : Int32 → St1 → Prop} {C : Nat → Nat → Int} {D H : Nat → Int} (f : Nat) (hf : f < 5) {N M : Nat → Int} (PN : rf_P C D (2 * f) N) (PM : rf_P C D (2 * f + 1) M) (h0 : 0 ≤ rf_dg M)
    (h : ∀ C' D', (∀ r, r < 12 → r ≠ 2 * f → r ≠ 2 * f + 1 → rf_E C D C' D' r) → rf_P C' D' (2 * f) (rf_lp N M) → rf_P C' D' (2 * f + 1) (rf_lw N M) → post (rf_i ((f + 1 : Nat) : Int)) (rf_i ((f + 1 : Nat) : Int), rf_fl C', rf_ar D', rf_ar (rf_u H f (H f + H (f + 1))))) :
    wX_apply_133 post (rf_i (f : Int)) (rf_i ((f + 1 : Nat) : Int)) (rf_i ((f + 2 : Nat) : Int)) (rf_fl C) (rf_ar D) (rf_ar H) := by
  have e : rf_ar H (rf_i (f : Int)).toNatClampNeg + rf_ar H (rf_i ((f + 1 : Nat) : Int)).toNatClampNeg = rf_i (H f + H (f + 1)) := by
    rw [rf_rdd H f (by omega), rf_rdd H (f + 1) (by omega), rf_add]
  unfold wX_apply_133
  refine rf_lower (2 * f) (2 * f + 1) PN PM h0 (fun C1 D1 f1 P1 P1' => ?_)
  exact ⟨rf_ind f (by omega), rf_ind (f + 1) (by omega), rf_ind f (by omega), nm_r (rf_wrd H f _ (by omega) e) (nm_r (e' := rf_i ((f + 1 : Nat) : Int)) (by first | with_reducible rfl | (simp only [rf_l0, rf_l1, rf_l2, rf_l3, rf_l4, rf_l6, rf_l7, rf_l11, rf_l12, rf_l13, rf_l14, rf_l15, rf_l16, rf_l17, rf_l18, rf_l19, rf_l20, rf_l21, rf_l22, rf_l23, rf_l24, rf_l25, rf_l39, rf_l40, rf_l80, rf_l101, rf_neg, rf_add, rf_sub, rf_mul]; done) | (simp only [rf_l0, rf_l1, rf_l2, rf_l3, rf_l4, rf_l6, rf_l7, rf_l11, rf_l12, rf_l13, rf_l14, rf_l15, rf_l16, rf_l17, rf_l18, rf_l19, rf_l20, rf_l21, rf_l22, rf_l23, rf_l24, rf_l25, rf_l39, rf_l40, rf_l80, rf_l101, rf_neg, rf_add, rf_sub, rf_mul]; exact congrArg rf_i (by omega)) | exact congrArg rf_i (by omega)) (h C1 D1 (fun r h1 h2 h3 => f1 r h2 h3 (by omega)) P1 P1'))⟩
theorem rf_appC {f op : Nat} {A B : Nat → Nat → Int} {H : Nat → Int} (hG : rf_G (f + 2) A B H) (hop : op ≤ 3) (hh : H f + H (f + 1) ≤ 12) (h3 : op = 3 → 0 ≤ rf_dg (A (f + 1))) {N M : Nat → Int} (bN : rf_bd N) (bM : rf_bd M) (h1 : rf_dg N ≤ 2 * (H f + H (f + 1))) (h2 : 0 ≤ rf_dg M) (h2' : rf_dg M ≤ 2 * (H f + H (f + 1)))
    (hw : ∀ C D, rf_M (f + 2) A B C D → ∀ post : Int32 → St1 → Prop, (∀ C' D', (∀ r, r < 12 → r ≠ 2 * f → r ≠ 2 * f + 1 → rf_E C D C' D' r) → rf_P C' D' (2 * f) N → rf_P C' D' (2 * f + 1) M → wX_apply_133 post (rf_i (f : Int)) (rf_i ((f + 1 : Nat) : Int)) (rf_i ((f + 2 : Nat) : Int)) (rf_fl C') (rf_ar D') (rf_ar H)) →
      wX_apply_76 post (rf_i (op : Int)) (rf_i (f : Int)) (rf_i ((f + 1 : Nat) : Int)) (rf_i ((f + 2 : Nat) : Int)) (rf_fl C) (rf_ar D) (rf_ar H)) :
    rf_tr (f + 2) A B H (fun post u => wpX_apply post u (rf_i (op : Int))) := by
  have h6 := hG.1
  have g0 := hG.2 f (by omega)
  have g1 := hG.2 (f + 1) (by omega)
  have p0 := g0.2.2.2.2.2.2.2.1
  have p1 := g1.2.2.2.2.2.2.2.1
  have l := rf_dg_lt (A (f + 1))
  refine ⟨f + 1, rf_u A f (rf_lp N M), rf_u B f (rf_lw N M), rf_u H f (H f + H (f + 1)), rf_Gput (by omega) (fun k hk _ => hG.2 k (by omega)) (rf_gdlow bN bM h1 h2 h2' (by omega)), fun C D hM post hp => ?_⟩
  have w : wX_apply_76 post (rf_i (op : Int)) (rf_i (f : Int)) (rf_i ((f + 1 : Nat) : Int)) (rf_i ((f + 2 : Nat) : Int)) (rf_fl C) (rf_ar D) (rf_ar H) :=
    hw C D hM post (fun C1 D1 f1 P1 P1' => rf_app133 f (by omega) P1 P1' h2 (fun C2 D2 f2 P2 P2' => hp _ C2 D2 (rf_Mput (fun k hk _ => hM k (by omega)) (by omega) (fun r q1 q2 q3 => rf_Et (f1 r q1 q2 q3) (f2 r q1 q2 q3)) P2 P2')))
  have e : rf_ar H (rf_i (f : Int)).toNatClampNeg + rf_ar H (rf_i ((f + 1 : Nat) : Int)).toNatClampNeg = rf_i (H f + H (f + 1)) := by
    rw [rf_rdd H f (by omega), rf_rdd H (f + 1) (by omega), rf_add]
  have e2 : rf_ar D (2 * rf_i ((f + 1 : Nat) : Int)).toNatClampNeg = rf_i (rf_dg (A (f + 1))) := by
    rw [rf_rdd D (2 * (f + 1)) (by omega), (hM (f + 1) (by omega)).1.2.1]
  refine rf_blt op 0 (fun g => absurd g (by omega)) (fun _ => rf_ble op 3 (fun _ => rf_ble 2 ((f + 2 : Nat) : Int) (fun _ => ?_) (fun g => absurd g (by omega))) (fun g => absurd g (by omega)))
  refine nm_r (e' := rf_i (f : Int)) (by first | with_reducible rfl | (simp only [rf_l0, rf_l1, rf_l2, rf_l3, rf_l4, rf_l6, rf_l7, rf_l11, rf_l12, rf_l13, rf_l14, rf_l15, rf_l16, rf_l17, rf_l18, rf_l19, rf_l20, rf_l21, rf_l22, rf_l23, rf_l24, rf_l25, rf_l39, rf_l40, rf_l80, rf_l101, rf_neg, rf_add, rf_sub, rf_mul]; done) | (simp only [rf_l0, rf_l1, rf_l2, rf_l3, rf_l4, rf_l6, rf_l7, rf_l11, rf_l12, rf_l13, rf_l14, rf_l15, rf_l16, rf_l17, rf_l18, rf_l19, rf_l20, rf_l21, rf_l22, rf_l23, rf_l24, rf_l25, rf_l39, rf_l40, rf_l80, rf_l101, rf_neg, rf_add, rf_sub, rf_mul]; exact congrArg rf_i (by omega)) | exact congrArg rf_i (by omega)) (nm_r (e' := rf_i ((f + 1 : Nat) : Int)) (by first | with_reducible rfl | (simp only [rf_l0, rf_l1, rf_l2, rf_l3, rf_l4, rf_l6, rf_l7, rf_l11, rf_l12, rf_l13, rf_l14, rf_l15, rf_l16, rf_l17, rf_l18, rf_l19, rf_l20, rf_l21, rf_l22, rf_l23, rf_l24, rf_l25, rf_l39, rf_l40, rf_l80, rf_l101, rf_neg, rf_add, rf_sub, rf_mul]; done) | (simp only [rf_l0, rf_l1, rf_l2, rf_l3, rf_l4, rf_l6, rf_l7, rf_l11, rf_l12, rf_l13, rf_l14, rf_l15, rf_l16, rf_l17, rf_l18, rf_l19, rf_l20, rf_l21, rf_l22, rf_l23, rf_l24, rf_l25, rf_l39, rf_l40, rf_l80, rf_l101, rf_neg, rf_add, rf_sub, rf_mul]; exact congrArg rf_i (by omega)) | exact congrArg rf_i (by omega)) ⟨rf_ind f (by omega), rf_ind (f + 1) (by omega), rf_ble (H f + H (f + 1)) 12 (fun _ => ?_) (fun g => absurd g (by omega)) e⟩)
  refine rf_beq op 3 (fun g => ⟨rf_ind (2 * (f + 1)) (by omega), rf_ble 0 (rf_dg (A (f + 1))) (fun _ => w) (fun q => absurd (h3 (by omega)) (by omega)) rf_l0 e2⟩) (fun _ => w)
theorem rf_appT {n : Nat} {A B : Nat → Nat → Int} {H : Nat → Int} (hG : rf_G n A B H) (op : Nat) (hop : op ≤ 3) : rf_tr n A B H (fun post u => wpX_apply post u (rf_i (op : Int))) := by
  have h6 := hG.1
  by_cases h : n < 2
  · exact rf_tr_id hG (fun C D hM post hp => rf_blt op 0 (fun g => absurd g (by omega)) (fun _ => rf_ble op 3 (fun _ => rf_ble 2 n (fun g => absurd g (by omega)) (fun _ => hp _)) (fun g => absurd g (by omega))))
  obtain ⟨f, rfl⟩ : ∃ f, n = f + 2 := ⟨n - 2, by omega⟩
  have g0 := hG.2 f (by omega)
  have g1 := hG.2 (f + 1) (by omega)
  obtain ⟨a1, a2, a3, a4, a5, a6, a7, a8, a9⟩ := g0
  obtain ⟨b1, b2, b3, b4, b5, b6, b7, b8, b9⟩ := g1
  have e : rf_ar H (rf_i (f : Int)).toNatClampNeg + rf_ar H (rf_i ((f + 1 : Nat) : Int)).toNatClampNeg = rf_i (H f + H (f + 1)) := by
    rw [rf_rdd H f (by omega), rf_rdd H (f + 1) (by omega), rf_add]
  by_cases hh : H f + H (f + 1) ≤ 12
  · by_cases h3 : op = 3 ∧ rf_dg (A (f + 1)) < 0
    · refine rf_tr_id hG (fun C D hM post hp => ?_)
      have l := rf_dg_lt (A (f + 1))
      have e2 : rf_ar D (2 * rf_i ((f + 1 : Nat) : Int)).toNatClampNeg = rf_i (rf_dg (A (f + 1))) := by
        rw [rf_rdd D (2 * (f + 1)) (by omega), (hM (f + 1) (by omega)).1.2.1]
      refine rf_blt op 0 (fun g => absurd g (by omega)) (fun _ => rf_ble op 3 (fun _ => rf_ble 2 ((f + 2 : Nat) : Int) (fun _ => ?_) (fun g => absurd g (by omega))) (fun g => absurd g (by omega)))
      refine nm_r (e' := rf_i (f : Int)) (by first | with_reducible rfl | (simp only [rf_l0, rf_l1, rf_l2, rf_l3, rf_l4, rf_l6, rf_l7, rf_l11, rf_l12, rf_l13, rf_l14, rf_l15, rf_l16, rf_l17, rf_l18, rf_l19, rf_l20, rf_l21, rf_l22, rf_l23, rf_l24, rf_l25, rf_l39, rf_l40, rf_l80, rf_l101, rf_neg, rf_add, rf_sub, rf_mul]; done) | (simp only [rf_l0, rf_l1, rf_l2, rf_l3, rf_l4, rf_l6, rf_l7, rf_l11, rf_l12, rf_l13, rf_l14, rf_l15, rf_l16, rf_l17, rf_l18, rf_l19, rf_l20, rf_l21, rf_l22, rf_l23, rf_l24, rf_l25, rf_l39, rf_l40, rf_l80, rf_l101, rf_neg, rf_add, rf_sub, rf_mul]; exact congrArg rf_i (by omega)) | exact congrArg rf_i (by omega)) (nm_r (e' := rf_i ((f + 1 : Nat) : Int)) (by first | with_reducible rfl | (simp only [rf_l0, rf_l1, rf_l2, rf_l3, rf_l4, rf_l6, rf_l7, rf_l11, rf_l12, rf_l13, rf_l14, rf_l15, rf_l16, rf_l17, rf_l18, rf_l19, rf_l20, rf_l21, rf_l22, rf_l23, rf_l24, rf_l25, rf_l39, rf_l40, rf_l80, rf_l101, rf_neg, rf_add, rf_sub, rf_mul]; done) | (simp only [rf_l0, rf_l1, rf_l2, rf_l3, rf_l4, rf_l6, rf_l7, rf_l11, rf_l12, rf_l13, rf_l14, rf_l15, rf_l16, rf_l17, rf_l18, rf_l19, rf_l20, rf_l21, rf_l22, rf_l23, rf_l24, rf_l25, rf_l39, rf_l40, rf_l80, rf_l101, rf_neg, rf_add, rf_sub, rf_mul]; exact congrArg rf_i (by omega)) | exact congrArg rf_i (by omega)) ⟨rf_ind f (by omega), rf_ind (f + 1) (by omega), rf_ble (H f + H (f + 1)) 12 (fun _ => ?_) (fun g => absurd g (by omega)) e⟩)
      exact rf_beq op 3 (fun g => ⟨rf_ind (2 * (f + 1)) (by omega), rf_ble 0 (rf_dg (A (f + 1))) (fun q => absurd q (by omega)) (fun _ => hp _) rf_l0 e2⟩) (fun g => absurd g (by omega))
    · have h3' : op = 3 → 0 ≤ rf_dg (A (f + 1)) := fun q => by omega
      have mbb := rf_ml_dg a2 b2 a4 b4 (by omega)
      by_cases o2 : op < 2
      · obtain ⟨s, hs, hs2, hs3⟩ : ∃ s : Int, (s = 1 ∨ s = -1) ∧ (op = 0 → s = 1) ∧ (op ≠ 0 → s = -1) := by
          by_cases q : op = 0
          · exact ⟨1, Or.inl rfl, fun _ => rfl, fun z => absurd q z⟩
          · exact ⟨-1, Or.inr rfl, fun z => absurd z q, fun _ => rfl⟩
        refine rf_appC hG hop hh h3' (N := rf_ad s (rf_ml (A f) (B (f + 1))) (rf_ml (A (f + 1)) (B f))) (M := rf_ml (B f) (B (f + 1))) (rf_ad_b _ _ _) (rf_ml_b _ _) (rf_ad_le (by omega) (rf_ml_le (by omega) (by omega)) (rf_ml_le (by omega) (by omega))) (by omega) (by omega) (fun C D hM post h => ?_)
        have m0 := hM f (by omega)
        have m1 := hM (f + 1) (by omega)
        have w : ∀ z : Int32, z = rf_i s → wX_apply_93 post (rf_i (f : Int)) (rf_i ((f + 1 : Nat) : Int)) z (rf_i ((f + 1 : Nat) : Int)) (rf_i (f : Int)) (rf_i ((f + 2 : Nat) : Int)) (rf_fl C) (rf_ar D) (rf_ar H) := fun z hz =>
          rf_addF f (f + 1) s hs m0.1 m0.2 m1.1 m1.2 (by omega) (by omega) (by omega) (fun C1 D1 f1 P1 P1' => h C1 D1 (fun r q1 q2 q3 => f1 r q2 q3 (by omega) (by omega) (by omega)) P1 P1') (hz := hz)
        exact rf_ble 2 op (fun g => absurd g (by omega)) (fun _ => rf_beq op 0 (fun g => w 1 (by rw [hs2 (by omega)]; decide)) (fun g => w (-1) (by rw [hs3 (by omega)]; decide)))
      · by_cases o3 : op = 2
        · refine rf_appC hG hop hh h3' (N := rf_ml (A f) (A (f + 1))) (M := rf_ml (B f) (B (f + 1))) (rf_ml_b _ _) (rf_ml_b _ _) (rf_ml_le (by omega) (by omega)) (by omega) (by omega) (fun C D hM post h => ?_)
          have m0 := hM f (by omega)
          have m1 := hM (f + 1) (by omega)
          refine rf_ble 2 op (fun _ => rf_beq op 2 (fun _ => ?_) (fun g => absurd g (by omega))) (fun g => absurd g (by omega))
          exact rf_mulF f (2 * (f + 1)) (2 * (f + 1) + 1) m0.1 m0.2 m1.1 m1.2 (by omega) (by omega) (fun C1 D1 f1 P1 P1' => h C1 D1 (fun r q1 q2 q3 => f1 r q2 q3 (by omega) (by omega)) P1 P1')
        · have o4 : op = 3 := by omega
          have h4 := h3' o4
          have mba := rf_ml_dg a2 b1 a4 h4 (by omega)
          refine rf_appC hG hop hh h3' (N := rf_ml (A f) (B (f + 1))) (M := rf_ml (B f) (A (f + 1))) (rf_ml_b _ _) (rf_ml_b _ _) (rf_ml_le (by omega) (by omega)) (by omega) (by omega) (fun C D hM post h => ?_)
          have m0 := hM f (by omega)
          have m1 := hM (f + 1) (by omega)
          refine rf_ble 2 op (fun _ => rf_beq op 2 (fun g => absurd g (by omega)) (fun _ => ?_)) (fun g => absurd g (by omega))
          exact rf_mulF f (2 * (f + 1) + 1) (2 * (f + 1)) m0.1 m0.2 m1.2 m1.1 (by omega) (by omega) (fun C1 D1 f1 P1 P1' => h C1 D1 (fun r q1 q2 q3 => f1 r q2 q3 (by omega) (by omega)) P1 P1')
  · refine rf_tr_id hG (fun C D hM post hp => ?_)
    refine rf_blt op 0 (fun g => absurd g (by omega)) (fun _ => rf_ble op 3 (fun _ => rf_ble 2 ((f + 2 : Nat) : Int) (fun _ => ?_) (fun g => absurd g (by omega))) (fun g => absurd g (by omega)))
    exact nm_r (e' := rf_i (f : Int)) (by first | with_reducible rfl | (simp only [rf_l0, rf_l1, rf_l2, rf_l3, rf_l4, rf_l6, rf_l7, rf_l11, rf_l12, rf_l13, rf_l14, rf_l15, rf_l16, rf_l17, rf_l18, rf_l19, rf_l20, rf_l21, rf_l22, rf_l23, rf_l24, rf_l25, rf_l39, rf_l40, rf_l80, rf_l101, rf_neg, rf_add, rf_sub, rf_mul]; done) | (simp only [rf_l0, rf_l1, rf_l2, rf_l3, rf_l4, rf_l6, rf_l7, rf_l11, rf_l12, rf_l13, rf_l14, rf_l15, rf_l16, rf_l17, rf_l18, rf_l19, rf_l20, rf_l21, rf_l22, rf_l23, rf_l24, rf_l25, rf_l39, rf_l40, rf_l80, rf_l101, rf_neg, rf_add, rf_sub, rf_mul]; exact congrArg rf_i (by omega)) | exact congrArg rf_i (by omega)) (nm_r (e' := rf_i ((f + 1 : Nat) : Int)) (by first | with_reducible rfl | (simp only [rf_l0, rf_l1, rf_l2, rf_l3, rf_l4, rf_l6, rf_l7, rf_l11, rf_l12, rf_l13, rf_l14, rf_l15, rf_l16, rf_l17, rf_l18, rf_l19, rf_l20, rf_l21, rf_l22, rf_l23, rf_l24, rf_l25, rf_l39, rf_l40, rf_l80, rf_l101, rf_neg, rf_add, rf_sub, rf_mul]; done) | (simp only [rf_l0, rf_l1, rf_l2, rf_l3, rf_l4, rf_l6, rf_l7, rf_l11, rf_l12, rf_l13, rf_l14, rf_l15, rf_l16, rf_l17, rf_l18, rf_l19, rf_l20, rf_l21, rf_l22, rf_l23, rf_l24, rf_l25, rf_l39, rf_l40, rf_l80, rf_l101, rf_neg, rf_add, rf_sub, rf_mul]; exact congrArg rf_i (by omega)) | exact congrArg rf_i (by omega)) ⟨rf_ind f (by omega), rf_ind (f + 1) (by omega), rf_ble (H f + H (f + 1)) 12 (fun g => absurd g (by omega)) (fun _ => hp _) e⟩)
end
section
/-- powers -/
def rf_pw (c : Nat → Int) : Nat → Nat → Int
  | 0 => rf_k 1
  | i + 1 => rf_ml (rf_pw c i) c
theorem rf_pw_b (c : Nat → Int) : ∀ i, rf_bd (rf_pw c i)
  | 0 => rf_k_bd (by omega)
  | _ + 1 => rf_ml_b _ _
theorem rf_sm (i : Nat) (e : Int) : ((i + 1 : Nat) : Int) * e = (i : Int) * e + e := by
  rw [show ((i + 1 : Nat) : Int) = (i : Int) + 1 by omega, Int.add_mul, Int.one_mul]
theorem rf_nn (i : Nat) {e : Int} (he : 0 ≤ e) : 0 ≤ (i : Int) * e := Int.mul_nonneg (by omega) he
theorem rf_pw_le {c : Nat → Int} {e : Int} (he : 0 ≤ e) (h : rf_dg c ≤ e) : ∀ i : Nat, rf_dg (rf_pw c i) ≤ (i : Int) * e
  | 0 => by
    have k : rf_dg (rf_pw c 0) = 0 := rf_k_dg (by decide)
    have z := rf_nn 0 he
    omega
  | i + 1 => by
    have ih := rf_pw_le he h i
    have z := rf_nn i he
    rw [rf_sm]
    exact rf_ml_le (by omega) (by omega)
theorem rf_pw_ge {c : Nat → Int} {e : Int} (b : rf_bd c) (h0 : 0 ≤ rf_dg c) (h : rf_dg c ≤ e) : ∀ i : Nat, (i : Int) * e < 40 → 0 ≤ rf_dg (rf_pw c i)
  | 0, _ => by
    have k : rf_dg (rf_pw c 0) = 0 := rf_k_dg (by decide)
    omega
  | i + 1, hi => by
    rw [rf_sm] at hi
    have ih := rf_pw_ge b h0 h i (by omega)
    have le := rf_pw_le (by omega) h i
    have m : rf_dg (rf_pw c (i + 1)) = _ := rf_ml_dg (rf_pw_b c i) b ih h0 (by omega)
    omega
theorem rf_pow84 {post : Int32 → St1 → Prop} {H : Nat → Int} {n : Int32} {f m : Nat} {a b : Nat → Int} {e : Int} (hf : f < 6) (hm : m ≤ 3) (he : 0 ≤ e) (ha : rf_dg a ≤ e) (hb0 : 0 ≤ rf_dg b) (hb : rf_dg b ≤ e) (hme : (m : Int) * e < 40) :
    ∀ (k i : Nat) (C : Nat → Nat → Int) (D : Nat → Int), i + k = m → rf_P C D (2 * f) (rf_pw a i) → rf_P C D (2 * f + 1) (rf_pw b i) → rf_P C D 20 a → rf_P C D 21 b →
      (∀ C' D', (∀ r, r < 12 → r ≠ 2 * f → r ≠ 2 * f + 1 → rf_E C D C' D' r) → rf_P C' D' (2 * f) (rf_lp (rf_pw a m) (rf_pw b m)) → rf_P C' D' (2 * f + 1) (rf_lw (rf_pw a m) (rf_pw b m)) → post n (n, rf_fl C', rf_ar D', rf_ar (rf_u H f ((m : Int) * H f)))) →
      wX_power_84 post (rf_i (m : Int)) (rf_i (f : Int)) (k + 1) (rf_i (i : Int)) n (rf_fl C) (rf_ar D) (rf_ar H)
  | 0, i, C, D, hk, Pa, Pb, Qa, Qb, h => by
    have him : i = m := by omega
    subst him
    have e1 : rf_i (i : Int) * rf_ar H (rf_i (f : Int)).toNatClampNeg = rf_i ((i : Int) * H f) := by
      rw [rf_rdd H f (by omega), rf_mul]
    have g := rf_pw_ge Qb.2.2 hb0 hb i hme
    refine rf_ble i i (fun _ => ?_) (fun q => absurd q (by omega))
    refine rf_lower (2 * f) (2 * f + 1) Pa Pb g (fun C1 D1 f1 P1 P1' => ?_)
    exact ⟨rf_ind f hf, rf_ind f hf, nm_r (rf_wrd H f _ (by omega) e1) (h C1 D1 (fun r q1 q2 q3 => f1 r q2 q3 (by omega)) P1 P1')⟩
  | k + 1, i, C, D, hk, Pa, Pb, Qa, Qb, h => by
    have l1 := rf_pw_le he ha i
    have l2 := rf_pw_le he hb i
    have l3 : ((i + 1 : Nat) : Int) * e ≤ (m : Int) * e := Int.mul_le_mul_of_nonneg_right (by omega) he
    rw [rf_sm] at l3
    refine rf_ble m i (fun q => absurd q (by omega)) (fun _ => ?_)
    refine rf_mulF f 20 21 Pa Pb Qa Qb (by omega) (by omega) (fun C1 D1 f1 P1 P1' => ?_)
    refine nm_r (rf_nx i) (rf_pow84 hf hm he ha hb0 hb hme k (i + 1) C1 D1 (by omega) P1 P1' (rf_Pt (f1 _ (by omega) (by omega) (by omega) (by omega)) Qa) (rf_Pt (f1 _ (by omega) (by omega) (by omega) (by omega)) Qb) (fun C2 D2 f2 P2 P2' => h C2 D2 (fun r q1 q2 q3 => ?_) P2 P2'))
    exact rf_Et (f1 r q2 q3 (by omega) (by omega)) (f2 r q1 q2 q3)
theorem rf_powT {n : Nat} {A B : Nat → Nat → Int} {H : Nat → Int} (hG : rf_G n A B H) (m : Nat) (hm : m ≤ 3) : rf_tr n A B H (fun post u => wpX_power post u (rf_i (m : Int))) := by
  have h6 := hG.1
  by_cases h : n = 0
  · exact rf_tr_id hG (fun C D hM post hp => rf_blt m 0 (fun g => absurd g (by omega)) (fun _ => rf_ble m 3 (fun _ => rf_beq n 0 (fun _ => hp _) (fun g => absurd g (by omega))) (fun g => absurd g (by omega))))
  obtain ⟨f, rfl⟩ : ∃ f, n = f + 1 := ⟨n - 1, by omega⟩
  obtain ⟨a1, a2, a3, a4, a5, a6, a7, a8, a9⟩ := hG.2 f (by omega)
  have b0 := rf_nn m a8
  have b1 : (m : Int) * H f ≤ 3 * 12 := Int.mul_le_mul (by omega) a9 a8 (by omega)
  have e : rf_i (m : Int) * rf_ar H (rf_i (f : Int)).toNatClampNeg = rf_i ((m : Int) * H f) := by
    rw [rf_rdd H f (by omega), rf_mul]
  by_cases hh : (m : Int) * H f ≤ 12
  · have e2 : (m : Int) * (2 * H f) = 2 * ((m : Int) * H f) := Int.mul_left_comm _ _ _
    have l1 := rf_pw_le (c := A f) (e := 2 * H f) (by omega) a3 m
    have l2 := rf_pw_le (c := B f) (e := 2 * H f) (by omega) a5 m
    have l3 := rf_pw_ge a2 a4 a5 m (by omega)
    refine ⟨f + 1, rf_u A f (rf_lp (rf_pw (A f) m) (rf_pw (B f) m)), rf_u B f (rf_lw (rf_pw (A f) m) (rf_pw (B f) m)), rf_u H f ((m : Int) * H f), rf_Gput h6 (fun k hk _ => hG.2 k hk) (rf_gdlow (rf_pw_b _ _) (rf_pw_b _ _) (by omega) l3 (by omega) (by omega)), fun C D hM post hp => ?_⟩
    have m0 := hM f (by omega)
    refine rf_blt m 0 (fun g => absurd g (by omega)) (fun _ => rf_ble m 3 (fun _ => rf_beq ((f + 1 : Nat) : Int) 0 (fun g => absurd g (by omega)) (fun _ => ?_)) (fun g => absurd g (by omega)))
    refine nm_r (e' := rf_i (f : Int)) (by first | with_reducible rfl | (simp only [rf_l0, rf_l1, rf_l2, rf_l3, rf_l4, rf_l6, rf_l7, rf_l11, rf_l12, rf_l13, rf_l14, rf_l15, rf_l16, rf_l17, rf_l18, rf_l19, rf_l20, rf_l21, rf_l22, rf_l23, rf_l24, rf_l25, rf_l39, rf_l40, rf_l80, rf_l101, rf_neg, rf_add, rf_sub, rf_mul]; done) | (simp only [rf_l0, rf_l1, rf_l2, rf_l3, rf_l4, rf_l6, rf_l7, rf_l11, rf_l12, rf_l13, rf_l14, rf_l15, rf_l16, rf_l17, rf_l18, rf_l19, rf_l20, rf_l21, rf_l22, rf_l23, rf_l24, rf_l25, rf_l39, rf_l40, rf_l80, rf_l101, rf_neg, rf_add, rf_sub, rf_mul]; exact congrArg rf_i (by omega)) | exact congrArg rf_i (by omega)) ⟨rf_ind f (by omega), rf_ble ((m : Int) * H f) 12 (fun _ => ?_) (fun g => absurd g (by omega)) e⟩
    refine rf_copyP (2 * f) 20 m0.1 (fun C1 D1 f1 P1 => ?_)
    refine rf_copyP (2 * f + 1) 21 (rf_Pt (f1 _ (by omega)) m0.2) (fun C2 D2 f2 P2 => ?_)
    refine rf_const (2 * f) 1 (by omega) (fun C3 D3 f3 P3 => ?_)
    refine rf_const (2 * f + 1) 1 (by omega) (fun C4 D4 f4 P4 => ?_)
    have r := rf_pow84 (post := post) (H := H) (n := rf_i ((f + 1 : Nat) : Int)) (by omega) hm (by omega) a3 a4 a5 (by omega) m 0 C4 D4 (by omega) (rf_Pt (f4 _ (by omega)) P3) P4 (rf_Pt (f4 _ (by omega)) (rf_Pt (f3 _ (by omega)) (rf_Pt (f2 _ (by omega)) P1))) (rf_Pt (f4 _ (by omega)) (rf_Pt (f3 _ (by omega)) P2))
      (fun C5 D5 f5 P5 P5' => hp _ C5 D5 (rf_Mput (fun k hk _ => hM k hk) h6 (fun r q1 q2 q3 => rf_Et (rf_Et (rf_Et (rf_Et (f1 r (by omega)) (f2 r (by omega))) (f3 r q2)) (f4 r q3)) (f5 r q1 q2 q3)) P5 P5'))
    rw [show rf_i ((0 : Nat) : Int) = 0 by decide] at r
    exact ⟨m + 1, r⟩
  · refine rf_tr_id hG (fun C D hM post hp => ?_)
    refine rf_blt m 0 (fun g => absurd g (by omega)) (fun _ => rf_ble m 3 (fun _ => rf_beq ((f + 1 : Nat) : Int) 0 (fun g => absurd g (by omega)) (fun _ => ?_)) (fun g => absurd g (by omega)))
    exact nm_r (e' := rf_i (f : Int)) (by first | with_reducible rfl | (simp only [rf_l0, rf_l1, rf_l2, rf_l3, rf_l4, rf_l6, rf_l7, rf_l11, rf_l12, rf_l13, rf_l14, rf_l15, rf_l16, rf_l17, rf_l18, rf_l19, rf_l20, rf_l21, rf_l22, rf_l23, rf_l24, rf_l25, rf_l39, rf_l40, rf_l80, rf_l101, rf_neg, rf_add, rf_sub, rf_mul]; done) | (simp only [rf_l0, rf_l1, rf_l2, rf_l3, rf_l4, rf_l6, rf_l7, rf_l11, rf_l12, rf_l13, rf_l14, rf_l15, rf_l16, rf_l17, rf_l18, rf_l19, rf_l20, rf_l21, rf_l22, rf_l23, rf_l24, rf_l25, rf_l39, rf_l40, rf_l80, rf_l101, rf_neg, rf_add, rf_sub, rf_mul]; exact congrArg rf_i (by omega)) | exact congrArg rf_i (by omega)) ⟨rf_ind f (by omega), rf_ble ((m : Int) * H f) 12 (fun g => absurd g (by omega)) (fun _ => hp _) e⟩
theorem rf_turnT {n : Nat} {A B : Nat → Nat → Int} {H : Nat → Int} (hG : rf_G n A B H) (x y : Int32) : rf_tr n A B H (fun post u => wpL_turn post u x y) := by
  obtain ⟨j, hj, ej⟩ := pk_andE x (m := 15) 4 (by decide)
  rw [rf_nat] at ej
  obtain ⟨v, hv, ev⟩ := pk_andE y (m := 15) 4 (by decide)
  rw [rf_nat] at ev
  obtain ⟨w, hw, ew⟩ := pk_andE y (m := 127) 7 (by decide)
  rw [rf_nat] at ew
  obtain ⟨t, ht, et⟩ := pk_andE y (m := 3) 2 (by decide)
  rw [rf_nat] at et
  rcases (show j < 4 ∨ (4 ≤ j ∧ j < 6) ∨ j = 6 ∨ (7 ≤ j ∧ j < 11) ∨ j = 11 ∨ j = 12 ∨ j = 13 ∨ (j = 14 ∧ t = 0) ∨ (j = 14 ∧ t ≠ 0) ∨ j = 15 by omega) with c | c | c | c | c | c | c | c | c | c
  · obtain ⟨n', A', B', H', g, k⟩ := rf_varT hG
    exact ⟨n', A', B', H', g, fun C D hM post hp => nm_r ej (rf_ble 4 j (fun q => absurd q (by omega)) (fun _ => k C D hM _ hp))⟩
  · obtain ⟨n', A', B', H', g, k⟩ := rf_conT hG (v : Int) (by omega)
    refine ⟨n', A', B', H', g, fun C D hM post hp => nm_r ej (rf_ble 4 j (fun _ => rf_ble 6 j (fun q => absurd q (by omega)) (fun _ => ?_)) (fun q => absurd q (by omega)))⟩
    rw [ev]
    exact k C D hM _ hp
  · obtain ⟨n', A', B', H', g, k⟩ := rf_conT hG ((w : Int) % 101) (rf_mr _)
    refine ⟨n', A', B', H', g, fun C D hM post hp => nm_r ej (rf_ble 4 j (fun _ => rf_ble 6 j (fun _ => rf_beq j 6 (fun _ => ⟨by decide, ?_⟩) (fun q => absurd q (by omega))) (fun q => absurd q (by omega))) (fun q => absurd q (by omega)))⟩
    rw [ew, rf_em (by omega) (by omega)]
    exact k C D hM _ hp
  · obtain ⟨n', A', B', H', g, k⟩ := rf_appT hG t (by omega)
    refine ⟨n', A', B', H', g, fun C D hM post hp => nm_r ej (rf_ble 4 j (fun _ => rf_ble 6 j (fun _ => rf_beq j 6 (fun q => absurd q (by omega)) (fun _ => rf_ble 11 j (fun q => absurd q (by omega)) (fun _ => ?_))) (fun q => absurd q (by omega))) (fun q => absurd q (by omega)))⟩
    rw [et]
    exact k C D hM _ hp
  · obtain ⟨n', A', B', H', g, k⟩ := rf_powT hG t (by omega)
    refine ⟨n', A', B', H', g, fun C D hM post hp => nm_r ej (rf_ble 4 j (fun _ => rf_ble 6 j (fun _ => rf_beq j 6 (fun q => absurd q (by omega)) (fun _ => rf_ble 11 j (fun _ => rf_beq j 11 (fun _ => ?_) (fun q => absurd q (by omega))) (fun q => absurd q (by omega)))) (fun q => absurd q (by omega))) (fun q => absurd q (by omega)))⟩
    rw [et]
    exact k C D hM _ hp
  · obtain ⟨n', A', B', H', g, k⟩ := rf_derT hG
    exact ⟨n', A', B', H', g, fun C D hM post hp => nm_r ej (rf_ble 4 j (fun _ => rf_ble 6 j (fun _ => rf_beq j 6 (fun q => absurd q (by omega)) (fun _ => rf_ble 11 j (fun _ => rf_beq j 11 (fun q => absurd q (by omega)) (fun _ => rf_beq j 12 (fun _ => k C D hM _ hp) (fun q => absurd q (by omega)))) (fun q => absurd q (by omega)))) (fun q => absurd q (by omega))) (fun q => absurd q (by omega)))⟩
  · obtain ⟨n', A', B', H', g, k⟩ := rf_dupT hG
    exact ⟨n', A', B', H', g, fun C D hM post hp => nm_r ej (rf_ble 4 j (fun _ => rf_ble 6 j (fun _ => rf_beq j 6 (fun q => absurd q (by omega)) (fun _ => rf_ble 11 j (fun _ => rf_beq j 11 (fun q => absurd q (by omega)) (fun _ => rf_beq j 12 (fun q => absurd q (by omega)) (fun _ => rf_beq j 13 (fun _ => k C D hM _ hp) (fun q => absurd q (by omega))))) (fun q => absurd q (by omega)))) (fun q => absurd q (by omega))) (fun q => absurd q (by omega)))⟩
  · obtain ⟨n', A', B', H', g, k⟩ := rf_dropT hG
    exact ⟨n', A', B', H', g, fun C D hM post hp => nm_r ej (rf_ble 4 j (fun _ => rf_ble 6 j (fun _ => rf_beq j 6 (fun q => absurd q (by omega)) (fun _ => rf_ble 11 j (fun _ => rf_beq j 11 (fun q => absurd q (by omega)) (fun _ => rf_beq j 12 (fun q => absurd q (by omega)) (fun _ => rf_beq j 13 (fun q => absurd q (by omega)) (fun _ => rf_beq j 14 (fun _ => rf_beq t 0 (fun _ => k C D hM _ hp) (fun q => absurd q (by omega)) et) (fun q => absurd q (by omega)))))) (fun q => absurd q (by omega)))) (fun q => absurd q (by omega))) (fun q => absurd q (by omega)))⟩
  · obtain ⟨n', A', B', H', g, k⟩ := rf_swapT hG
    exact ⟨n', A', B', H', g, fun C D hM post hp => nm_r ej (rf_ble 4 j (fun _ => rf_ble 6 j (fun _ => rf_beq j 6 (fun q => absurd q (by omega)) (fun _ => rf_ble 11 j (fun _ => rf_beq j 11 (fun q => absurd q (by omega)) (fun _ => rf_beq j 12 (fun q => absurd q (by omega)) (fun _ => rf_beq j 13 (fun q => absurd q (by omega)) (fun _ => rf_beq j 14 (fun _ => rf_beq t 0 (fun q => absurd q (by omega)) (fun _ => k C D hM _ hp) et) (fun q => absurd q (by omega)))))) (fun q => absurd q (by omega)))) (fun q => absurd q (by omega))) (fun q => absurd q (by omega)))⟩
  · obtain ⟨n', A', B', H', g, k⟩ := rf_swapT hG
    exact ⟨n', A', B', H', g, fun C D hM post hp => nm_r ej (rf_ble 4 j (fun _ => rf_ble 6 j (fun _ => rf_beq j 6 (fun q => absurd q (by omega)) (fun _ => rf_ble 11 j (fun _ => rf_beq j 11 (fun q => absurd q (by omega)) (fun _ => rf_beq j 12 (fun q => absurd q (by omega)) (fun _ => rf_beq j 13 (fun q => absurd q (by omega)) (fun _ => rf_beq j 14 (fun q => absurd q (by omega)) (fun _ => k C D hM _ hp))))) (fun q => absurd q (by omega)))) (fun q => absurd q (by omega))) (fun q => absurd q (by omega)))⟩
end
section
/-- the last loop: the slope of the one is the value of the other's derivative -/
theorem rf_295 {L : Nat} {xs : Nat → Int32} {kc ks : Nat} {f : Nat} {a b : Nat → Int} {H : Nat → Int} {C2 : Nat → Nat → Int} {D2 : Nat → Int} (hf : f < 6) (g : rf_gd a b (H f)) (hh : 2 * H f ≤ 12)
    (Qa : rf_P C2 D2 (2 * f) (rf_lp (rf_nu a b) (rf_ml b b))) (Qb : rf_P C2 D2 (2 * f + 1) (rf_lw (rf_nu a b) (rf_ml b b))) :
    ∀ (m i : Nat) (C : Nat → Nat → Int) (D : Nat → Int), i + m = 101 → rf_P C D (2 * f) a → rf_P C D (2 * f + 1) b →
      wL_law_295 (fun r => r = 1) L xs (rf_i (H f)) (rf_i ((f + 1 : Nat) : Int)) kc ks (m + 1) (rf_i (i : Int)) (rf_i ((f + 1 : Nat) : Int)) (rf_fl C) (rf_ar D) (rf_ar H) (rf_i ((f + 1 : Nat) : Int)) (rf_fl C2) (rf_ar D2) (rf_ar (rf_u H f (2 * H f)))
  | 0, i, C, D, hi, Pa, Pb => by
    have g8 := g.2.2.2.2.2.2.2.1
    have g9 := g.2.2.2.2.2.2.2.2
    refine rf_ble 101 i (fun _ => ?_) (fun q => absurd q (by omega))
    have hs : rf_u H f (2 * H f) f = 2 * H f := rf_us _ _ _
    by_cases h5 : f < 5
    · refine rf_dupW f h5 Pa Pb (fun C' D' e Pa' Pb' => ?_)
      refine rf_heightW f ?_
      rw [hs]
      refine rf_beq (2 * H f) (2 * H f) (fun _ => br_t rfl ?_) (fun q => absurd rfl q)
      refine rf_ble 0 ((f + 2 : Nat) : Int) (fun _ => ?_) (fun q => absurd q (by omega))
      refine rf_sameW f (rf_Pt (e _ (by omega) (by omega)) Pa) (rf_Pt (e _ (by omega) (by omega)) Pb) Pa' Pb' (br_f (by decide) ?_)
      refine rf_heightW (f + 1) ?_
      rw [rf_us]
      exact br_t rfl rfl
    · have h5' : f = 5 := by omega
      subst h5'
      refine rf_beq ((5 + 1 : Nat) : Int) 0 (fun q => absurd q (by omega)) (fun _ => rf_beq ((5 + 1 : Nat) : Int) 6 (fun _ => ?_) (fun q => absurd q (by omega)))
      refine rf_heightW 5 ?_
      rw [hs]
      refine rf_beq (2 * H 5) (2 * H 5) (fun _ => br_t rfl ?_) (fun q => absurd rfl q)
      exact br_f (by decide) (br_t rfl (rf_beq ((5 + 1 : Nat) : Int) 6 (fun _ => rfl) (fun q => absurd q (by omega))))
  | m + 1, i, C, D, hi, Pa, Pb => by
    obtain ⟨g1, g2, g3, g4, g5, g6, g7, g8, g9⟩ := g
    refine rf_ble 101 i (fun q => absurd q (by omega)) (fun _ => ?_)
    refine rf_valueW f Qa Qb (i : Int) (by omega) ?_
    refine rf_slopeW f Pa Pb g4 (by omega) (by omega) (i : Int) (by omega) (fun C' D' e => ?_)
    exact br_t rfl (nm_r (rf_nx i) (rf_295 hf ⟨g1, g2, g3, g4, g5, g6, g7, g8, g9⟩ hh Qa Qb m (i + 1) C' D' (by omega) (rf_Pt (e _ (by omega)) Pa) (rf_Pt (e _ (by omega)) Pb)))
theorem rf_243 {L : Nat} {xs : Nat → Int32} {x5 x7 : Int32} {kc ks : Nat} {f : Nat} {a b : Nat → Int} {H : Nat → Int} {C C2 : Nat → Nat → Int} {D D2 : Nat → Int} (hf : f < 6) (g : rf_gd a b (H f)) (hx : x7 ≤ x5)
    (Pa : rf_P C D (2 * f) a) (Pb : rf_P C D (2 * f + 1) b) (Qa : rf_P C2 D2 (2 * f) a) (Qb : rf_P C2 D2 (2 * f + 1) b) :
    wL_law_243 (fun r => r = 1) L xs (rf_i (H f)) x5 x7 kc ks (rf_i ((f + 1 : Nat) : Int)) (rf_fl C) (rf_ar D) (rf_ar H) (rf_i ((f + 1 : Nat) : Int)) (rf_fl C2) (rf_ar D2) (rf_ar H) := by
  have g8 := g.2.2.2.2.2.2.2.1
  have g9 := g.2.2.2.2.2.2.2.2
  refine br_t hx ?_
  by_cases hh : 2 * H f ≤ 12
  · refine rf_derW f hf Qa Qb g hh (fun C' D' e Qa' Qb' => ?_)
    refine rf_ble 0 ((f + 1 : Nat) : Int) (fun _ => ?_) (fun q => absurd q (by omega))
    have r := rf_295 (L := L) (xs := xs) (kc := kc) (ks := ks) hf g hh Qa' Qb' 101 0 C D (by omega) Pa Pb
    rw [show rf_i ((0 : Nat) : Int) = 0 by decide] at r
    exact ⟨102, r⟩
  · refine rf_derF f hf (by omega) g9 ?_
    refine br_f (by decide) (br_t rfl (rf_ble (2 * H f) 12 (fun q => absurd q (by omega)) (fun _ => ?_)))
    exact rf_heightW f (br_t rfl rfl)
theorem rf_142 {L : Nat} {xs : Nat → Int32} {kc ks : Nat} {f : Nat} {a b : Nat → Int} {H : Nat → Int} {C C2 : Nat → Nat → Int} {D D2 : Nat → Int} (hf : f < 6) (g : rf_gd a b (H f))
    (Pa : rf_P C D (2 * f) a) (Pb : rf_P C D (2 * f + 1) b) (Qa : rf_P C2 D2 (2 * f) a) (Qb : rf_P C2 D2 (2 * f + 1) b) :
    ∃ m, wL_law_142 (fun r => r = 1) L xs (rf_i (H f)) (rf_i (rf_dz a)) (rf_i (rf_dz b)) (rf_i ((rf_ct (fun k => rf_fr a b (k : Int)) 101 : Nat) : Int)) (rf_i ((rf_ct (fun k => rf_at b (k : Int)) 101 : Nat) : Int)) kc ks
      (rf_i ((f + 1 : Nat) : Int)) (rf_fl C) (rf_ar D) (rf_ar H) (rf_i ((f + 1 : Nat) : Int)) (rf_fl C2) (rf_ar D2) (rf_ar H) m 1 0 := by
  have G := g
  obtain ⟨g1, g2, g3, g4, g5, g6, g7, g8, g9⟩ := g
  have l1 := rf_dg_lt a
  have eb : rf_dz b = rf_dg b := if_pos g4
  have pol := rf_at_c g2 g4
  have zl := rf_ct_l (fun k => rf_fr a b (k : Int)) 101
  have dza : 0 ≤ rf_dz a ∧ rf_dz a ≤ 2 * H f := by
    unfold rf_dz
    by_cases q : 0 ≤ rf_dg a
    · rw [if_pos q]
      omega
    · rw [if_neg q]
      omega
  rw [eb]
  have w := rf_243 (L := L) (xs := xs) (kc := kc) (ks := ks) (x5 := rf_i (rf_dg b)) (x7 := rf_i ((rf_ct (fun k => rf_at b (k : Int)) 101 : Nat) : Int)) hf G ((rf_le (by omega) (by omega)).2 pol) Pa Pb Qa Qb
  refine rf_loop (fun m x9 s => wL_law_142 (fun r => r = 1) L xs (rf_i (H f)) (rf_i (rf_dz a)) (rf_i (rf_dg b)) (rf_i ((rf_ct (fun k => rf_fr a b (k : Int)) 101 : Nat) : Int)) (rf_i ((rf_ct (fun k => rf_at b (k : Int)) 101 : Nat) : Int)) kc ks
      (rf_i ((f + 1 : Nat) : Int)) (rf_fl C) (rf_ar D) (rf_ar H) (rf_i ((f + 1 : Nat) : Int)) (rf_fl C2) (rf_ar D2) (rf_ar H) m s x9) (fun i s => (s = 1 ∧ ∀ j, j < i → a j = 0) ∨ (s = 0 ∧ ∃ j, j < i ∧ ¬ a j = 0)) 25 1 (Or.inl ⟨rfl, fun j hj => absurd hj (by omega)⟩) ?_ ?_
  · intro m s hs
    refine rf_ble 25 25 (fun _ => ?_) (fun q => absurd q (by omega))
    refine rf_blt (2 * H f) (rf_dz a) (fun q => absurd q (by omega)) (fun _ => ?_)
    refine rf_blt (2 * H f) (rf_dg b) (fun q => absurd q (by omega)) (fun _ => ?_)
    refine rf_blt (rf_dz a) 0 (fun q => absurd q (by omega)) (fun _ => ?_)
    refine rf_blt (rf_dg b) 0 (fun q => absurd q (by omega)) (fun _ => ?_)
    refine rf_coefB f (rf_dg b).toNat Pb ?_ (by omega)
    rw [g6]
    refine br_t (by decide) ?_
    rcases hs with ⟨hs, hz⟩ | ⟨hs, j, hj, hz⟩
    · rw [hs]
      have da : rf_dg a < 0 := by
        rcases Int.lt_or_le (rf_dg a) 0 with q | q
        · exact q
        · exact absurd (hz (rf_dg a).toNat (by omega)) (rf_dg_n q)
      have b0 := g7 da
      have b1 : b 0 = 1 := by
        rw [b0] at g6
        exact g6
      obtain ⟨z1, z2⟩ := rf_zeros0 da b0 b1
      rw [z2] at w
      rw [z1, z2]
      exact br_f (by decide) (br_t (by decide) (br_t (by decide) w))
    · rw [hs]
      have da : 0 ≤ rf_dg a := by
        rcases Int.lt_or_le (rf_dg a) 0 with q | q
        · exact absurd (rf_dg_z (c := a) (j := j) (by omega) (by omega)) hz
        · exact q
      have z := rf_zeros (cq := b) g1 da
      have ea : rf_dz a = rf_dg a := if_pos da
      exact br_t rfl (rf_blt (rf_dz a) ((rf_ct (fun k => rf_fr a b (k : Int)) 101 : Nat) : Int) (fun q => absurd q (by omega)) (fun _ => w))
  · intro m i s hi hs hw
    refine rf_ble 25 i (fun q => absurd q (by omega)) (fun _ => ?_)
    rcases hs with ⟨hs, hz⟩ | ⟨hs, j, hj, hz⟩
    · rw [hs]
      have bi := g1 i (by omega)
      refine br_f (by decide) (rf_coefA f i Pa ?_)
      refine rf_beq (a i) 0 (fun q => nm_r (rf_nx i) (hw 1 (Or.inl ⟨rfl, fun j hj => ?_⟩))) (fun q => nm_r (rf_nx i) (hw 0 (Or.inr ⟨rfl, i, by omega, q⟩)))
      by_cases e : j = i
      · rw [e, q]
      · exact hz j (by omega)
    · rw [hs]
      exact br_t rfl (nm_r (rf_nx i) (hw 0 (Or.inr ⟨rfl, j, by omega, hz⟩)))
theorem rf_exit {L : Nat} {xs : Nat → Int32} {kc ks : Nat} {n m k : Nat} {A B : Nat → Nat → Int} {H : Nat → Int} {C C2 : Nat → Nat → Int} {D D2 : Nat → Int} (hL : L ≤ 260) (hk : k ≤ 300) (hG : rf_G n A B H) (hM : rf_M n A B C D) (hN : rf_M n A B C2 D2) (h : L ≤ k + 1) :
    wL_law_18 (fun r => r = 1) L xs kc ks (m + 1) (rf_i (k : Int)) (rf_i (n : Int)) (rf_fl C) (rf_ar D) (rf_ar H) (rf_i (n : Int)) (rf_fl C2) (rf_ar D2) (rf_ar H) := by
  have h6 := hG.1
  refine rf_ble (L : Int) ((k : Int) + 1) (fun _ => ?_) (fun q => absurd q (by omega)) (rf_nat L)
  by_cases h0 : n = 0
  · subst h0
    refine rf_beq ((0 : Nat) : Int) 0 (fun _ => ?_) (fun q => absurd q (by omega))
    refine rf_beq ((0 : Nat) : Int) 0 (fun _ => br_t rfl ?_) (fun q => absurd q (by omega))
    refine rf_beq ((0 : Nat) : Int) 0 (fun _ => br_t rfl ?_) (fun q => absurd q (by omega))
    refine rf_beq ((0 : Nat) : Int) 0 (fun _ => br_t rfl ?_) (fun q => absurd q (by omega))
    exact rf_beq ((0 : Nat) : Int) 0 (fun _ => br_t rfl rfl) (fun q => absurd q (by omega))
  · obtain ⟨f, rfl⟩ : ∃ f, n = f + 1 := ⟨n - 1, by omega⟩
    have m0 := hM f (by omega)
    have n0 := hN f (by omega)
    refine rf_beq ((f + 1 : Nat) : Int) 0 (fun q => absurd q (by omega)) (fun _ => ?_)
    refine rf_heightW f (rf_aboveW f m0.1 (rf_belowW f m0.2 (rf_zerosW f m0.1 m0.2 (rf_polesW f m0.2 ?_))))
    exact rf_142 (by omega) (hG.2 f (by omega)) m0.1 m0.2 n0.1 n0.2
theorem rf_18 {L : Nat} {xs : Nat → Int32} {kc ks : Nat} (hL : L ≤ 260) : ∀ (m k n : Nat) (A B : Nat → Nat → Int) (H : Nat → Int) (C C2 : Nat → Nat → Int) (D D2 : Nat → Int), k ≤ 262 → L ≤ k + 1 + 2 * m → rf_G n A B H → rf_M n A B C D → rf_M n A B C2 D2 →
    wL_law_18 (fun r => r = 1) L xs kc ks (m + 1) (rf_i (k : Int)) (rf_i (n : Int)) (rf_fl C) (rf_ar D) (rf_ar H) (rf_i (n : Int)) (rf_fl C2) (rf_ar D2) (rf_ar H)
  | 0, k, n, A, B, H, C, C2, D, D2, hk, h, hG, hM, hN => rf_exit hL (by omega) hG hM hN (by omega)
  | m + 1, k, n, A, B, H, C, C2, D, D2, hk, h, hG, hM, hN => by
    by_cases he : L ≤ k + 1
    · exact rf_exit hL (by omega) hG hM hN he
    · refine rf_ble (L : Int) ((k : Int) + 1) (fun q => absurd q (by omega)) (fun _ => ⟨rf_ind k (by omega), rf_ind (k + 1) (by omega), ?_⟩) (rf_nat L)
      obtain ⟨n', A', B', H', hG', hw⟩ := rf_turnT hG (xs (rf_i (k : Int)).toNatClampNeg) (xs (rf_i (k : Int) + 1).toNatClampNeg)
      refine hw C D hM _ (fun r C' D' hM' => ⟨rf_ind k (by omega), rf_ind (k + 1) (by omega), ?_⟩)
      refine hw C2 D2 hN _ (fun r' C2' D2' hN' => ?_)
      exact nm_r (e' := rf_i ((k + 2 : Nat) : Int)) (by first | with_reducible rfl | (simp only [rf_l0, rf_l1, rf_l2, rf_l3, rf_l4, rf_l6, rf_l7, rf_l11, rf_l12, rf_l13, rf_l14, rf_l15, rf_l16, rf_l17, rf_l18, rf_l19, rf_l20, rf_l21, rf_l22, rf_l23, rf_l24, rf_l25, rf_l39, rf_l40, rf_l80, rf_l101, rf_neg, rf_add, rf_sub, rf_mul]; done) | (simp only [rf_l0, rf_l1, rf_l2, rf_l3, rf_l4, rf_l6, rf_l7, rf_l11, rf_l12, rf_l13, rf_l14, rf_l15, rf_l16, rf_l17, rf_l18, rf_l19, rf_l20, rf_l21, rf_l22, rf_l23, rf_l24, rf_l25, rf_l39, rf_l40, rf_l80, rf_l101, rf_neg, rf_add, rf_sub, rf_mul]; exact congrArg rf_i (by omega)) | exact congrArg rf_i (by omega)) (rf_18 hL m (k + 2) n' A' B' H' C' C2' D' D2' (by omega) (by omega) hG' hM' hN')
theorem i_vc (xs : Nat → Int32) (L : Nat) (hL : L ≤ 260) : wpL_law (fun r => r = 1) L xs := by
  have r := rf_18 (L := L) (xs := xs) (kc := 1 + 3 + 1 + 3) (ks := 4 + 990 + 4 + 990) hL 130 0 0 (fun _ _ => 0) (fun _ _ => 0) (fun _ => 0) (fun _ _ => 0) (fun _ _ => 0) (fun _ => 0) (fun _ => 0) (by omega) (by omega)
    ⟨by omega, fun k hk => absurd hk (by omega)⟩ (fun k hk => absurd hk (by omega)) (fun k hk => absurd hk (by omega))
  have e0 : rf_i ((0 : Nat) : Int) = 0 := by decide
  have e1 : rf_fl (fun _ _ => 0) = fun _ => 0 := by
    funext k
    exact rf_l0.symm
  have e2 : rf_ar (fun _ => 0) = fun _ => 0 := by
    funext k
    exact rf_l0.symm
  rw [e0, e1, e2] at r
  exact ⟨3, 990, by omega, by omega, by omega, by omega, by omega, by omega, by omega, by omega, by omega, by omega, 3, 990, by omega, by omega, by omega, by omega, by omega, by omega, by omega, by omega, 131, r⟩
end
