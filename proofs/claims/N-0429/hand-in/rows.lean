section
/-! Part 01: integers behind ints, floors, fractions, counts of cells -/
/-- the int of an integer -/
def zz_I (a : Int) : Int32 := Int32.ofInt a
/-- within an int -/
abbrev zz_R (a : Int) : Prop := -2147483648 ≤ a ∧ a ≤ 2147483647
theorem zz_T {a : Int} (h : zz_R a) : (zz_I a).toInt = a :=
  Int32.toInt_ofInt_of_le (by have := h.1; omega) (by have := h.2; omega)
theorem zz_add (a b : Int) : zz_I a + zz_I b = zz_I (a + b) := (Int32.ofInt_add a b).symm
theorem zz_sub (a b : Int) : zz_I a - zz_I b = zz_I (a - b) := (Int32.ofInt_sub a b).symm
theorem zz_mul (a b : Int) : zz_I a * zz_I b = zz_I (a * b) := (Int32.ofInt_mul a b).symm
theorem zz_neg (a : Int) : -zz_I a = zz_I (-a) := (Int32.ofInt_neg a).symm
theorem zz_of (x : Int32) : x = zz_I x.toInt := (Int32.ofInt_toInt x).symm
theorem zz_le {a b : Int} (ha : zz_R a) (hb : zz_R b) : zz_I a ≤ zz_I b ↔ a ≤ b := by
  rw [Int32.le_iff_toInt_le, zz_T ha, zz_T hb]
theorem zz_lt {a b : Int} (ha : zz_R a) (hb : zz_R b) : zz_I a < zz_I b ↔ a < b := by
  rw [Int32.lt_iff_toInt_lt, zz_T ha, zz_T hb]
theorem zz_eq {a b : Int} (ha : zz_R a) (hb : zz_R b) : zz_I a = zz_I b ↔ a = b := by
  rw [← Int32.toInt_inj, zz_T ha, zz_T hb]
theorem zz_c0 : (0 : Int32) = zz_I 0 := by decide
theorem zz_c1 : (1 : Int32) = zz_I 1 := by decide
theorem zz_c2 : (2 : Int32) = zz_I 2 := by decide
theorem zz_c3 : (3 : Int32) = zz_I 3 := by decide
theorem zz_c4 : (4 : Int32) = zz_I 4 := by decide
theorem zz_c32 : (32 : Int32) = zz_I 32 := by decide
theorem zz_c4096 : (4096 : Int32) = zz_I 4096 := by decide
theorem zz_cm : (-4096 : Int32) = zz_I (-4096) := by decide
theorem zz_range (x : Int32) : zz_R x.toInt := by
  have h1 := x.le_toInt
  have h2 := x.toInt_lt
  exact ⟨by omega, by omega⟩
/-- every int is the int of an integer within -/
theorem zz_ex (x : Int32) : ∃ a : Int, zz_R a ∧ x = zz_I a := ⟨x.toInt, zz_range x, zz_of x⟩
/-- branches over integers -/
theorem zz_bl {x y : Int32} {A B : Prop} (a b : Int) (f : a ≤ b → A) (g : b < a → B)
    (hx : x = zz_I a := by first | rfl | simp only [zz_c0, zz_c1, zz_c2, zz_c32, zz_add, zz_sub, zz_mul, zz_neg])
    (hy : y = zz_I b := by first | rfl | simp only [zz_c0, zz_c1, zz_c2, zz_c32, zz_add, zz_sub, zz_mul, zz_neg])
    (ha : zz_R a := by unfold zz_R; omega) (hb : zz_R b := by unfold zz_R; omega) :
    (x ≤ y → A) ∧ (¬ x ≤ y → B) := by
  subst hx; subst hy
  exact ⟨fun h => f ((zz_le ha hb).mp h), fun h => g (Int.not_le.mp fun z => h ((zz_le ha hb).mpr z))⟩
theorem zz_bt {x y : Int32} {A B : Prop} (a b : Int) (f : a < b → A) (g : b ≤ a → B)
    (hx : x = zz_I a := by first | rfl | simp only [zz_c0, zz_c1, zz_c2, zz_c32, zz_add, zz_sub, zz_mul, zz_neg])
    (hy : y = zz_I b := by first | rfl | simp only [zz_c0, zz_c1, zz_c2, zz_c32, zz_add, zz_sub, zz_mul, zz_neg])
    (ha : zz_R a := by unfold zz_R; omega) (hb : zz_R b := by unfold zz_R; omega) :
    (x < y → A) ∧ (¬ x < y → B) := by
  subst hx; subst hy
  exact ⟨fun h => f ((zz_lt ha hb).mp h), fun h => g (Int.not_lt.mp fun z => h ((zz_lt ha hb).mpr z))⟩
theorem zz_be {x y : Int32} {A B : Prop} (a b : Int) (f : a = b → A) (g : a ≠ b → B)
    (hx : x = zz_I a := by first | rfl | simp only [zz_c0, zz_c1, zz_c2, zz_c32, zz_add, zz_sub, zz_mul, zz_neg])
    (hy : y = zz_I b := by first | rfl | simp only [zz_c0, zz_c1, zz_c2, zz_c32, zz_add, zz_sub, zz_mul, zz_neg])
    (ha : zz_R a := by unfold zz_R; omega) (hb : zz_R b := by unfold zz_R; omega) :
    (x = y → A) ∧ (¬ x = y → B) := by
  subst hx; subst hy
  exact ⟨fun h => f ((zz_eq ha hb).mp h), fun h => g (fun z => h ((zz_eq ha hb).mpr z))⟩
theorem zz_clamp {a : Int} (h : zz_R a) : (zz_I a).toNatClampNeg = a.toNat := by
  rw [← Int32.toNat_toInt, zz_T h]
theorem zz_in {a : Int} {n : Nat} (h0 : 0 ≤ a) (h1 : a < n) (hr : zz_R a) : vp_in (zz_I a) n := by
  rw [vp_in_iff, zz_T hr]; exact ⟨h0, h1⟩
theorem zz_nat (n : Nat) : nI n = zz_I (n : Int) := (Int32.ofInt_eq_ofNat (n := n)).symm
/-- a floor is what it must be -/
theorem fl_uni {a d q : Int} (hd : 0 < d) (h1 : q * d ≤ a) (h2 : a < q * d + d) : a / d = q := by
  have l1 : q ≤ a / d := (Int.le_ediv_iff_mul_le hd).mpr h1
  have l2 : a / d < q + 1 := (Int.ediv_lt_iff_lt_mul hd).mpr (by rw [Int.add_mul, Int.one_mul]; exact h2)
  omega
theorem fl_le {a d : Int} (hd : 0 < d) : a / d * d ≤ a := (Int.le_ediv_iff_mul_le hd).mp (Int.le_refl _)
theorem fl_gt {a d : Int} (hd : 0 < d) : a < a / d * d + d := by
  have := (Int.ediv_lt_iff_lt_mul (a := a) (b := a / d + 1) hd).mp (by omega)
  rw [Int.add_mul, Int.one_mul] at this
  exact this
theorem fl_iff {a d q : Int} (hd : 0 < d) : a / d = q ↔ q * d ≤ a ∧ a < q * d + d := by
  constructor
  · intro h; subst h; exact ⟨fl_le hd, fl_gt hd⟩
  · intro h; exact fl_uni hd h.1 h.2
/-- a floor by a positive divisor stays within the dividend's bound -/
theorem fl_bd {a d B : Int} (hd : 0 < d) (hB : 0 ≤ B) (h1 : -B ≤ a) (h2 : a ≤ B) : -B ≤ a / d ∧ a / d ≤ B := by
  have e : B ≤ B * d := by
    have := Int.mul_le_mul_of_nonneg_left (a := 1) (b := d) (c := B) (by omega) hB
    rw [Int.mul_one] at this; exact this
  constructor
  · refine (Int.le_ediv_iff_mul_le hd).mpr ?_
    rw [Int.neg_mul]; omega
  · have := (Int.ediv_lt_iff_lt_mul (a := a) (b := B + 1) hd).mpr (by rw [Int.add_mul, Int.one_mul]; omega)
    omega
theorem fl_tdiv {a d : Int} (hd : 0 < d) :
    (0 ≤ a - a.tdiv d * d → a.tdiv d = a / d) ∧ (¬ 0 ≤ a - a.tdiv d * d → a.tdiv d - 1 = a / d) := by
  have h1 := Int.mul_tdiv_add_tmod a d
  have h2 := Int.tmod_lt_of_pos a hd
  have h3 := Int.lt_tmod_of_pos a hd
  rw [Int.mul_comm] at h1
  constructor
  · intro h; symm; refine fl_uni hd ?_ ?_ <;> omega
  · intro h; symm; refine fl_uni hd ?_ ?_
    · rw [Int.sub_mul, Int.one_mul]; omega
    · rw [Int.sub_mul, Int.one_mul]; omega
theorem zz_div {a b : Int} (ha : zz_R a) (hb : zz_R b) : zz_I a / zz_I b = zz_I (a.tdiv b) := by
  have e1 : Int32.minValue.toInt = -2147483648 := by decide
  have e2 : Int32.maxValue.toInt = 2147483647 := by decide
  exact (Int32.ofInt_tdiv (by rw [e1]; exact ha.1) (by rw [e2]; exact ha.2) (by rw [e1]; exact hb.1) (by rw [e2]; exact hb.2)).symm
theorem fd_core {a d : Int} {post : Int32 → Prop} (hd : 0 < d) (Ra : zz_R a) (Rd : zz_R d) (K : post (zz_I (a / d))) :
    ¬ zz_I d = 0 ∧ (∀ x : Int32, x = zz_I a / zz_I d → (¬ zz_I d = 0 ∧ ((0 ≤ (zz_I a - zz_I a / zz_I d * zz_I d) → post x) ∧ (¬ 0 ≤ (zz_I a - zz_I a / zz_I d * zz_I d) → (∀ y : Int32, y = x - 1 → post y))))) := by
  have hz : ¬ zz_I d = 0 := by
    rw [zz_c0, zz_eq Rd (by unfold zz_R; omega)]; omega
  have h1 := Int.mul_tdiv_add_tmod a d
  have h2 := Int.tmod_lt_of_pos a hd
  have h3 := Int.lt_tmod_of_pos a hd
  rw [Int.mul_comm] at h1
  have hr : zz_R (a - a.tdiv d * d) := by unfold zz_R at *; omega
  have L := fl_tdiv (a := a) hd
  refine ⟨hz, nm_r (zz_div Ra Rd) ⟨hz, ?_⟩⟩
  rw [zz_div Ra Rd, zz_mul, zz_sub, zz_c0, zz_le (by unfold zz_R; omega) hr]
  refine ⟨fun h => ?_, fun h => ?_⟩
  · rw [L.1 h]; exact K
  · intro y ey
    rw [ey, zz_c1, zz_sub, L.2 h]; exact K
theorem fd_X {post : Int32 → Prop} {x y : Int32} (a d : Int) (hd : 0 < d) (hx : x = zz_I a) (hy : y = zz_I d) (Ra : zz_R a) (Rd : zz_R d)
    (K : post (zz_I (a / d))) : wpX_floorDiv post x y := by
  subst hx; subst hy
  exact fd_core hd Ra Rd K
theorem fd_Y {post : Int32 → Prop} {x y : Int32} (a d : Int) (hd : 0 < d) (hx : x = zz_I a) (hy : y = zz_I d) (Ra : zz_R a) (Rd : zz_R d)
    (K : post (zz_I (a / d))) : wpY_floorDiv post x y := by
  subst hx; subst hy
  exact fd_core hd Ra Rd K
/-- a product of bounded integers is bounded -/
theorem mb_mul {a b A B : Int} (hA : 0 ≤ A) (hB : 0 ≤ B) (h1 : -A ≤ a) (h2 : a ≤ A) (h3 : -B ≤ b) (h4 : b ≤ B) : -(A * B) ≤ a * b ∧ a * b ≤ A * B := by
  have p1 : 0 ≤ (A - a) * (B - b) := Int.mul_nonneg (by omega) (by omega)
  have p2 : 0 ≤ (A + a) * (B + b) := Int.mul_nonneg (by omega) (by omega)
  have p3 : 0 ≤ (A - a) * (B + b) := Int.mul_nonneg (by omega) (by omega)
  have p4 : 0 ≤ (A + a) * (B - b) := Int.mul_nonneg (by omega) (by omega)
  simp only [Int.sub_mul, Int.add_mul, Int.mul_sub, Int.mul_add] at p1 p2 p3 p4
  omega
/-- a/b ≤ c/d ≤ e/f -/
theorem fr_tr {a b c d e f : Int} (hb : 0 < b) (hd : 0 < d) (hf : 0 < f) (h1 : a * d ≤ c * b) (h2 : c * f ≤ e * d) : a * f ≤ e * b := by
  have k1 := Int.mul_le_mul_of_nonneg_right h1 (Int.le_of_lt hf)
  have k2 := Int.mul_le_mul_of_nonneg_right h2 (Int.le_of_lt hb)
  have e1 : a * d * f = a * f * d := Int.mul_right_comm a d f
  have e2 : c * b * f = c * f * b := Int.mul_right_comm c b f
  have e3 : e * d * b = e * b * d := Int.mul_right_comm e d b
  exact Int.le_of_mul_le_mul_right (by omega : a * f * d ≤ e * b * d) hd
/-- a floor of a point at equal fractions -/
theorem fr_fl {n d p q x e : Int} (hd : 0 < d) (hq : 0 < q) (h : n * q = p * d) : (x * d + n * e) / d = (x * q + e * p) / q := by
  have s1 : (x * d + n * e) / d = n * e / d + x := by
    rw [Int.add_comm]; exact Int.add_mul_ediv_right _ _ (by omega)
  have s2 : (x * q + e * p) / q = e * p / q + x := by
    rw [Int.add_comm]; exact Int.add_mul_ediv_right _ _ (by omega)
  have s3 : n * e / d = e * p / q := by
    have t1 : q * (n * e) / (q * d) = n * e / d := Int.mul_ediv_mul_of_pos _ _ hq
    have t2 : d * (e * p) / (d * q) = e * p / q := Int.mul_ediv_mul_of_pos _ _ hd
    rw [← t1, ← t2, Int.mul_comm q d]
    have t3 : q * (n * e) = d * (e * p) := by
      calc q * (n * e) = (n * q) * e := by rw [← Int.mul_assoc, Int.mul_comm q n]
        _ = (p * d) * e := by rw [h]
        _ = d * (e * p) := by rw [Int.mul_comm p d, Int.mul_assoc, Int.mul_comm p e]
    rw [t3]
  rw [s1, s2, s3]
/-- 1 for what holds -/
noncomputable def cn_b (p : Prop) : Nat := @ite Nat p (Classical.propDecidable p) 1 0
theorem cn_bt {p : Prop} (h : p) : cn_b p = 1 := if_pos h
theorem cn_bf {p : Prop} (h : ¬ p) : cn_b p = 0 := if_neg h
/-- how many below k -/
noncomputable def cn_N (P : Nat → Prop) : Nat → Nat
  | 0 => 0
  | k + 1 => cn_N P k + cn_b (P k)
theorem cn_0 {P : Nat → Prop} : ∀ k, (∀ n, n < k → ¬ P n) → cn_N P k = 0
  | 0, _ => rfl
  | k + 1, h => by
    show cn_N P k + cn_b (P k) = 0
    rw [cn_0 k (fun n hn => h n (by omega)), cn_bf (h k (by omega))]
theorem cn_ext {P Q : Nat → Prop} : ∀ k, (∀ n, n < k → (P n ↔ Q n)) → cn_N P k = cn_N Q k
  | 0, _ => rfl
  | k + 1, h => by
    show cn_N P k + cn_b (P k) = cn_N Q k + cn_b (Q k)
    rw [cn_ext k (fun n hn => h n (by omega)), propext (h k (by omega))]
theorem cn_add {P Q : Nat → Prop} {m : Nat} (hP : ¬ P m) (hQ : Q m) : ∀ k, m < k → (∀ n, n < k → n ≠ m → (Q n ↔ P n)) → cn_N Q k = cn_N P k + 1
  | 0, h, _ => by omega
  | k + 1, h, hn => by
    show cn_N Q k + cn_b (Q k) = cn_N P k + cn_b (P k) + 1
    by_cases e : m = k
    · subst e
      rw [cn_ext m (fun n hm => hn n (by omega) (by omega)), cn_bt hQ, cn_bf hP]
    · rw [cn_add hP hQ k (by omega) (fun n hm => hn n (by omega)), propext (hn k (by omega) (fun z => e z.symm))]
      omega
end
section
/-! Part 02: the relation's facts, drawing as a set of cells -/
/-- sides and window -/
def rl_F (w h wx0 wy0 wx1 wy1 : Int) : Prop :=
  1 ≤ w ∧ w ≤ 32 ∧ 1 ≤ h ∧ h ≤ 32 ∧ 0 ≤ wx0 ∧ wx0 ≤ wx1 ∧ wx1 < w ∧ 0 ≤ wy0 ∧ wy0 ≤ wy1 ∧ wy1 < h
/-- the two frames hold the same pixels -/
def rl_A (w h : Int) (pix frame : Nat → Int32) : Prop :=
  ∀ x y : Int, 0 ≤ x → x < w → 0 ≤ y → y < h → pix (y * 32 + x).toNat = frame (y * w + x).toNat
/-- the clipped ends -/
def rl_E (hv e0 e1 e2 e3 ax ay bx by' : Int32) : Prop := hv = 0 ∨ (e0 = ax ∧ e1 = ay ∧ e2 = bx ∧ e3 = by')
/-- inside the window -/
def rl_W (wx0 wy0 wx1 wy1 x y : Int) : Prop := wx0 ≤ x ∧ x ≤ wx1 ∧ wy0 ≤ y ∧ y ≤ wy1
theorem ix_inj {m x y x' y' : Int} (hx : 0 ≤ x) (hxm : x < m) (hx' : 0 ≤ x') (hxm' : x' < m) (hy : 0 ≤ y) (hy' : 0 ≤ y')
    (h : (y * m + x).toNat = (y' * m + x').toNat) : x = x' ∧ y = y' := by
  have p1 : 0 ≤ y * m := Int.mul_nonneg hy (by omega)
  have p2 : 0 ≤ y' * m := Int.mul_nonneg hy' (by omega)
  have e : y * m + x = y' * m + x' := by omega
  have ey : y = y' := by
    rcases Int.lt_trichotomy y y' with l | l | l
    · have := Int.mul_le_mul_of_nonneg_right (a := y + 1) (b := y') (c := m) (by omega) (by omega)
      rw [Int.add_mul, Int.one_mul] at this
      omega
    · exact l
    · have := Int.mul_le_mul_of_nonneg_right (a := y' + 1) (b := y) (c := m) (by omega) (by omega)
      rw [Int.add_mul, Int.one_mul] at this
      omega
  subst ey
  exact ⟨by omega, rfl⟩
/-- an index within the frame -/
theorem ix_bd {m x y : Int} (hx : 0 ≤ x) (hxm : x < m) (hm : m ≤ 32) (hy : 0 ≤ y) (hy' : y < 32) : 0 ≤ y * m + x ∧ y * m + x < 1024 := by
  have p1 : 0 ≤ y * m := Int.mul_nonneg hy (by omega)
  have p2 : y * m ≤ 31 * m := Int.mul_le_mul_of_nonneg_right (by omega) (by omega)
  omega
/-- how many cells -/
noncomputable def dr_C (D : Int → Int → Prop) : Nat := cn_N (fun n => D ((n % 32 : Nat) : Int) ((n / 32 : Nat) : Int)) 1024
/-- what a drawing has done so far: the cells D hold c, the others are as before, r counts -/
def dr_I (m w h : Int) (c : Int32) (a0 : Nat → Int32) (D : Int → Int → Prop) (r : Int32) (a : Nat → Int32) : Prop :=
  r = nI (dr_C D) ∧ ∀ x y : Int, 0 ≤ x → x < w → 0 ≤ y → y < h →
    (D x y → a (y * m + x).toNat = c) ∧ (¬ D x y → a (y * m + x).toNat = a0 (y * m + x).toNat)
theorem dr_ext {m w h : Int} {c r : Int32} {a0 a : Nat → Int32} {D D' : Int → Int → Prop} (e : ∀ x y, D' x y ↔ D x y)
    (I : dr_I m w h c a0 D r a) : dr_I m w h c a0 D' r a := by
  have : D' = D := funext fun x => funext fun y => propext (e x y)
  rw [this]; exact I
theorem dr_0 {m w h : Int} {c : Int32} {a0 : Nat → Int32} {D : Int → Int → Prop} (e : ∀ x y, ¬ D x y) : dr_I m w h c a0 D 0 a0 := by
  refine ⟨?_, fun x y _ _ _ _ => ⟨fun z => absurd z (e x y), fun _ => rfl⟩⟩
  unfold dr_C
  rw [cn_0 1024 (fun n _ => e _ _), nI_0]
theorem dr_put {m w h : Int} {c r : Int32} {a0 a : Nat → Int32} {D D' : Int → Int → Prop} {px py : Int}
    (hm : w ≤ m) (hw : w ≤ 32) (hh : h ≤ 32) (x0 : 0 ≤ px) (x1 : px < w) (y0 : 0 ≤ py) (y1 : py < h)
    (hD : ∀ x y, D' x y ↔ D x y ∨ (x = px ∧ y = py)) (hf : ¬ D px py)
    (I : dr_I m w h c a0 D r a) : dr_I m w h c a0 D' (r + 1) (upd a (py * m + px).toNat c) := by
  obtain ⟨hr, hI⟩ := I
  refine ⟨?_, fun x y hx hx' hy hy' => ?_⟩
  · have e : dr_C D' = dr_C D + 1 := by
      unfold dr_C
      refine cn_add (m := (py * 32 + px).toNat) ?_ ?_ 1024 (by omega) ?_
      · have e1 : (((py * 32 + px).toNat % 32 : Nat) : Int) = px := by omega
        have e2 : (((py * 32 + px).toNat / 32 : Nat) : Int) = py := by omega
        show ¬ D _ _
        rw [e1, e2]; exact hf
      · have e1 : (((py * 32 + px).toNat % 32 : Nat) : Int) = px := by omega
        have e2 : (((py * 32 + px).toNat / 32 : Nat) : Int) = py := by omega
        show D' _ _
        rw [e1, e2]; exact (hD px py).mpr (Or.inr ⟨rfl, rfl⟩)
      · intro n hn hne
        show D' _ _ ↔ D _ _
        rw [hD]
        constructor
        · rintro (z | ⟨z1, z2⟩)
          · exact z
          · exact absurd (by omega) hne
        · exact Or.inl
    rw [e, hr, nI_1]
  · by_cases ee : x = px ∧ y = py
    · obtain ⟨rfl, rfl⟩ := ee
      refine ⟨fun _ => ?_, fun z => absurd ((hD x y).mpr (Or.inr ⟨rfl, rfl⟩)) z⟩
      show (if _ then _ else _) = _
      rw [if_pos rfl]
    · have hne : (y * m + x).toNat ≠ (py * m + px).toNat := fun z =>
        ee (ix_inj hx (by omega) x0 (by omega) hy y0 z)
      have hu : upd a (py * m + px).toNat c (y * m + x).toNat = a (y * m + x).toNat := by
        show (if _ then _ else _) = _
        rw [if_neg hne]
      rw [hu]
      have hd : D' x y ↔ D x y := by
        rw [hD]
        exact ⟨fun z => z.elim id (fun z => absurd z ee), Or.inl⟩
      rw [hd]
      exact hI x y hx hx' hy hy'
/-- both sides drew the same cells -/
theorem dr_join {w h : Int} {c r r' : Int32} {pix frame a a' : Nat → Int32} {D : Int → Int → Prop} (A : rl_A w h pix frame)
    (I : dr_I 32 w h c pix D r a) (I' : dr_I w w h c frame D r' a') : r' = r ∧ rl_A w h a a' := by
  refine ⟨by rw [I.1, I'.1], fun x y hx hx' hy hy' => ?_⟩
  have i := I.2 x y hx hx' hy hy'
  have i' := I'.2 x y hx hx' hy hy'
  by_cases d : D x y
  · rw [i.1 d, i'.1 d]
  · rw [i.2 d, i'.2 d]; exact A x y hx hx' hy hy'
/-- X's put: one cell more, if it is in the window -/
theorem xp_put {post : Int32 → SX → Prop} {w h wx0 wy0 wx1 wy1 : Int} {hv e0 e1 e2 e3 c r x y : Int32} {a0 a : Nat → Int32} {D : Int → Int → Prop}
    (px py : Int) (D' : Int → Int → Prop) (F : rl_F w h wx0 wy0 wx1 wy1) (I : dr_I 32 w h c a0 D r a)
    (ex : x = zz_I px) (ey : y = zz_I py)
    (hx : zz_R px) (hy : zz_R py)
    (hD : ∀ x y, D' x y ↔ D x y ∨ (rl_W wx0 wy0 wx1 wy1 x y ∧ x = px ∧ y = py))
    (hf : ¬ D px py)
    (K : ∀ r' a', dr_I 32 w h c a0 D' (r + r') a' → post r' (zz_I w, zz_I h, zz_I wx0, zz_I wy0, zz_I wx1, zz_I wy1, hv, e0, e1, e2, e3, a')) :
    wpX_put post (zz_I w, zz_I h, zz_I wx0, zz_I wy0, zz_I wx1, zz_I wy1, hv, e0, e1, e2, e3, a) x y c := by
  subst ex; subst ey
  obtain ⟨f1, f2, f3, f4, f5, f6, f7, f8, f9, f10⟩ := F
  have N : ¬ rl_W wx0 wy0 wx1 wy1 px py → post 0 (zz_I w, zz_I h, zz_I wx0, zz_I wy0, zz_I wx1, zz_I wy1, hv, e0, e1, e2, e3, a) := by
    intro z
    refine K 0 a ?_
    rw [Int32.add_zero]
    refine dr_ext (fun x y => ?_) I
    rw [hD]
    exact ⟨fun t => t.elim id (fun ⟨t1, t2, t3⟩ => absurd (by rw [t2, t3] at t1; exact t1) z), Or.inl⟩
  unfold wpX_put
  dsimp only
  refine zz_bt px wx0 (fun z => N (fun ⟨t1, t2, t3, t4⟩ => by omega)) (fun z1 => ?_) rfl rfl hx
  refine zz_bt wx1 px (fun z => N (fun ⟨t1, t2, t3, t4⟩ => by omega)) (fun z2 => ?_) rfl rfl
  refine zz_bt py wy0 (fun z => N (fun ⟨t1, t2, t3, t4⟩ => by omega)) (fun z3 => ?_) rfl rfl hy
  refine zz_bl py wy1 (fun z4 => ?_) (fun z => N (fun ⟨t1, t2, t3, t4⟩ => by omega)) rfl rfl hy
  have bd := ix_bd (m := 32) (x := px) (y := py) (by omega) (by omega) (by omega) (by omega) (by omega)
  have e : zz_I py * 32 + zz_I px = zz_I (py * 32 + px) := by rw [zz_c32, zz_mul, zz_add]
  rw [e, zz_clamp (by unfold zz_R; omega)]
  refine ⟨zz_in bd.1 bd.2 (by unfold zz_R; omega), nm_e ?_⟩
  refine K 1 _ (dr_put (D := D) (by omega) (by omega) (by omega) (by omega) (by omega) (by omega) (by omega) (fun x y => ?_) hf I)
  rw [hD]
  constructor
  · rintro (t | ⟨_, t⟩)
    · exact Or.inl t
    · exact Or.inr t
  · rintro (t | ⟨t1, t2⟩)
    · exact Or.inl t
    · exact Or.inr ⟨by rw [t1, t2]; exact ⟨z1, z2, z3, z4⟩, t1, t2⟩
/-- Y's scan of the window: cells before row, and in row before col -/
def sc_D (wx0 wy0 wx1 wy1 : Int) (on : Int → Int → Prop) (row col : Int) (x y : Int) : Prop :=
  rl_W wx0 wy0 wx1 wy1 x y ∧ on x y ∧ (y < row ∨ (y = row ∧ x < col))
theorem sc_row {w h wx0 wy0 wx1 wy1 row : Int} {c : Int32} {a0 : Nat → Int32} {on : Int → Int → Prop}
    {Q : Nat → Int32 → Int → (Nat → Int32) → Prop} {J : Int32 → (Nat → Int32) → Prop}
    (F : rl_F w h wx0 wy0 wx1 wy1) (r0 : wy0 ≤ row) (r1 : row ≤ wy1)
    (hx : ∀ n r a, J r a → Q (n + 1) r (wx1 + 1) a)
    (hs : ∀ n r col a, wx0 ≤ col → col ≤ wx1 → (on col row → Q n (r + 1) (col + 1) (upd a (row * w + col).toNat c)) →
      (¬ on col row → Q n r (col + 1) a) → Q (n + 1) r col a)
    (K : ∀ r a, dr_I w w h c a0 (sc_D wx0 wy0 wx1 wy1 on (row + 1) wx0) r a → J r a) :
    ∀ (n : Nat) (col : Int) (r : Int32) (a : Nat → Int32), wx0 ≤ col → col ≤ wx1 + 1 → (wx1 + 1 - col).toNat < n →
      dr_I w w h c a0 (sc_D wx0 wy0 wx1 wy1 on row col) r a → Q n r col a := by
  obtain ⟨f1, f2, f3, f4, f5, f6, f7, f8, f9, f10⟩ := F
  intro n
  induction n with
  | zero => intro col r a _ _ h; omega
  | succ n ih =>
    intro col r a h0 h1 hn I
    by_cases e : col = wx1 + 1
    · subst e
      refine hx n r a (K r a (dr_ext (fun x y => ?_) I))
      unfold sc_D rl_W
      constructor
      · rintro ⟨⟨t1, t2, t3, t4⟩, t5, t6⟩
        exact ⟨⟨t1, t2, t3, t4⟩, t5, by omega⟩
      · rintro ⟨⟨t1, t2, t3, t4⟩, t5, t6⟩
        exact ⟨⟨t1, t2, t3, t4⟩, t5, by omega⟩
    · refine hs n r col a h0 (by omega) (fun z => ?_) (fun z => ?_)
      · refine ih (col + 1) (r + 1) _ (by omega) (by omega) (by omega) ?_
        refine dr_put (D := sc_D wx0 wy0 wx1 wy1 on row col) (by omega) (by omega) (by omega) (by omega) (by omega) (by omega) (by omega) (fun x y => ?_) ?_ I
        · unfold sc_D rl_W
          constructor
          · rintro ⟨t1, t2, t3⟩
            by_cases q : x = col ∧ y = row
            · exact Or.inr q
            · exact Or.inl ⟨t1, t2, by omega⟩
          · rintro (⟨t1, t2, t3⟩ | ⟨t1, t2⟩)
            · exact ⟨t1, t2, by omega⟩
            · rw [t1, t2]; exact ⟨⟨by omega, by omega, by omega, by omega⟩, z, by omega⟩
        · unfold sc_D
          rintro ⟨_, _, t⟩
          omega
      · refine ih (col + 1) r a (by omega) (by omega) (by omega) (dr_ext (fun x y => ?_) I)
        unfold sc_D
        constructor
        · rintro ⟨t1, t2, t3⟩
          by_cases q : x = col ∧ y = row
          · rw [q.1, q.2] at t2; exact absurd t2 z
          · exact ⟨t1, t2, by omega⟩
        · rintro ⟨t1, t2, t3⟩
          exact ⟨t1, t2, by omega⟩
theorem sc_all {w h wx0 wy0 wx1 wy1 : Int} {c : Int32} {a0 : Nat → Int32} {on : Int → Int → Prop}
    {Q : Nat → Int32 → Int → (Nat → Int32) → Prop} {P : Int32 → (Nat → Int32) → Prop}
    (F : rl_F w h wx0 wy0 wx1 wy1)
    (hx : ∀ n r a, P r a → Q (n + 1) r (wy1 + 1) a)
    (hs : ∀ n r row a, wy0 ≤ row → row ≤ wy1 → dr_I w w h c a0 (sc_D wx0 wy0 wx1 wy1 on row wx0) r a →
      (∀ r' a', dr_I w w h c a0 (sc_D wx0 wy0 wx1 wy1 on (row + 1) wx0) r' a' → Q n r' (row + 1) a') → Q (n + 1) r row a)
    (K : ∀ r a, dr_I w w h c a0 (fun x y => rl_W wx0 wy0 wx1 wy1 x y ∧ on x y) r a → P r a) :
    ∃ n, Q n 0 wy0 a0 := by
  have F' := F
  obtain ⟨f1, f2, f3, f4, f5, f6, f7, f8, f9, f10⟩ := F
  have H : ∀ (n : Nat) (row : Int) (r : Int32) (a : Nat → Int32), wy0 ≤ row → row ≤ wy1 + 1 → (wy1 + 1 - row).toNat < n →
      dr_I w w h c a0 (sc_D wx0 wy0 wx1 wy1 on row wx0) r a → Q n r row a := by
    intro n
    induction n with
    | zero => intro row r a _ _ h; omega
    | succ n ih =>
      intro row r a h0 h1 hn I
      by_cases e : row = wy1 + 1
      · subst e
        refine hx n r a (K r a (dr_ext (fun x y => ?_) I))
        unfold sc_D rl_W
        constructor
        · rintro ⟨⟨t1, t2, t3, t4⟩, t5⟩
          exact ⟨⟨t1, t2, t3, t4⟩, t5, by omega⟩
        · rintro ⟨t1, t5, t6⟩
          exact ⟨t1, t5⟩
      · exact hs n r row a h0 (by omega) I (fun r' a' I' => ih (row + 1) r' a' (by omega) (by omega) (by omega) I')
  refine ⟨(wy1 + 1 - wy0).toNat + 1, H _ wy0 0 a0 (by omega) (by omega) (by omega) (dr_0 (fun x y => ?_))⟩
  unfold sc_D rl_W
  rintro ⟨⟨t1, t2, t3, t4⟩, _, t6⟩
  omega
end
section
/-! Part 03: the relation; constructors, getters, clear, setClip, outcode, clipped, pixel -/
/-- the relation: one frame size, one window, one 'have', the ends alike if there are any, the same pixels -/
def i_Rel (k : Nat) (u : SX) (v : SY) : Prop :=
  ∃ (w h wx0 wy0 wx1 wy1 : Int) (hv e0 e1 e2 e3 ax ay bx bw s0 s1 s2 s3 fo lp lq hp hq : Int32) (pix frame : Nat → Int32),
    rl_F w h wx0 wy0 wx1 wy1 ∧ rl_E hv e0 e1 e2 e3 ax ay bx bw ∧ rl_A w h pix frame ∧
    u = (zz_I w, zz_I h, zz_I wx0, zz_I wy0, zz_I wx1, zz_I wy1, hv, e0, e1, e2, e3, pix) ∧
    v = (zz_I w, zz_I h, zz_I wx0, zz_I wy0, zz_I wx1, zz_I wy1, hv, ax, ay, bx, bw, s0, s1, s2, s3, fo, lp, lq, hp, hq, frame)
theorem rl_mk {k : Nat} {w h wx0 wy0 wx1 wy1 : Int} {hv e0 e1 e2 e3 ax ay bx bw s0 s1 s2 s3 fo lp lq hp hq : Int32} {pix frame : Nat → Int32}
    (F : rl_F w h wx0 wy0 wx1 wy1) (E : rl_E hv e0 e1 e2 e3 ax ay bx bw) (A : rl_A w h pix frame) :
    i_Rel k (zz_I w, zz_I h, zz_I wx0, zz_I wy0, zz_I wx1, zz_I wy1, hv, e0, e1, e2, e3, pix)
      (zz_I w, zz_I h, zz_I wx0, zz_I wy0, zz_I wx1, zz_I wy1, hv, ax, ay, bx, bw, s0, s1, s2, s3, fo, lp, lq, hp, hq, frame) :=
  ⟨w, h, wx0, wy0, wx1, wy1, hv, e0, e1, e2, e3, ax, ay, bx, bw, s0, s1, s2, s3, fo, lp, lq, hp, hq, pix, frame, F, E, A, rfl, rfl⟩
theorem rl_el {P : SX → SY → Prop} {k : Nat} {u : SX} {v : SY} (I : i_Rel k u v)
    (H : ∀ (w h wx0 wy0 wx1 wy1 : Int) (hv e0 e1 e2 e3 ax ay bx bw s0 s1 s2 s3 fo lp lq hp hq : Int32) (pix frame : Nat → Int32),
      rl_F w h wx0 wy0 wx1 wy1 → rl_E hv e0 e1 e2 e3 ax ay bx bw → rl_A w h pix frame →
      P (zz_I w, zz_I h, zz_I wx0, zz_I wy0, zz_I wx1, zz_I wy1, hv, e0, e1, e2, e3, pix)
        (zz_I w, zz_I h, zz_I wx0, zz_I wy0, zz_I wx1, zz_I wy1, hv, ax, ay, bx, bw, s0, s1, s2, s3, fo, lp, lq, hp, hq, frame)) : P u v :=
  match I with
  | ⟨w, h, wx0, wy0, wx1, wy1, hv, e0, e1, e2, e3, ax, ay, bx, bw, s0, s1, s2, s3, fo, lp, lq, hp, hq, pix, frame, F, E, A, eu, ev⟩ =>
    eu ▸ ev ▸ H w h wx0 wy0 wx1 wy1 hv e0 e1 e2 e3 ax ay bx bw s0 s1 s2 s3 fo lp lq hp hq pix frame F E A
theorem i_up {k : Nat} {u : SX} {v : SY} (h : i_Rel k u v) : i_Rel (k + 6) u v := h
/-- a side clamped -/
def ii_S (b c : Int) : Prop := (b < 1 → c = 1) ∧ (32 < b → c = 32) ∧ (1 ≤ b → b ≤ 32 → c = b)
theorem ii_u {b c d : Int} (h : ii_S b c) (h' : ii_S b d) : d = c := by unfold ii_S at *; omega
theorem ii_b {b c : Int} (h : ii_S b c) : 1 ≤ c ∧ c ≤ 32 := by unfold ii_S at *; omega
theorem xi_54 {post : SX → Prop} {a b w h : Int} (hw : ii_S a w) (hh : ii_S b h)
    (K : ∀ w h, ii_S a w → ii_S b h → post (zz_I w, zz_I h, zz_I 0, zz_I 0, zz_I (w - 1), zz_I (h - 1), 0, 0, 0, 0, 0, fun _ => 0)) :
    wX_init_54 post (zz_I w) (zz_I h) 0 0 0 0 0 0 0 0 0 0 0 (fun _ => 0) := by
  have k := K w h hw hh
  rw [← zz_sub, ← zz_sub, ← zz_c1, ← zz_c0] at k
  unfold wX_init_54
  exact nm_e (nm_e k)
theorem xi_init {post : SX → Prop} {a b : Int} (Ra : zz_R a) (Rb : zz_R b)
    (K : ∀ w h, ii_S a w → ii_S b h → post (zz_I w, zz_I h, zz_I 0, zz_I 0, zz_I (w - 1), zz_I (h - 1), 0, 0, 0, 0, 0, fun _ => 0)) :
    wpX_init post (zz_I a) (zz_I b) := by
  have L43 : ∀ w y, ii_S a w → zz_R y → (1 ≤ y ∧ (1 ≤ b → y = b) ∧ (b < 1 → y = 1)) →
      wX_init_43 post (zz_I w) (zz_I y) 0 0 0 0 0 0 0 0 0 0 0 (fun _ => 0) := by
    intro w y hw Ry hy
    unfold wX_init_43
    refine zz_bl y 32 (fun t => ?_) (fun t => ?_) rfl rfl Ry
    · exact xi_54 (a := a) (b := b) hw (by unfold ii_S; omega) K
    · exact xi_54 (a := a) (b := b) (h := 32) hw (by unfold ii_S; omega) K
  have L31 : ∀ w, ii_S a w → wX_init_31 post (zz_I b) (zz_I w) 0 0 0 0 0 0 0 0 0 0 0 (fun _ => 0) := by
    intro w hw
    unfold wX_init_31
    refine zz_bl 1 b (fun t => ?_) (fun t => ?_) rfl rfl (by unfold zz_R; omega) Rb
    · exact L43 w b hw Rb (by omega)
    · exact L43 w 1 hw (by unfold zz_R; omega) (by omega)
  have L22 : ∀ y, zz_R y → (1 ≤ y ∧ (1 ≤ a → y = a) ∧ (a < 1 → y = 1)) →
      wX_init_22 post (zz_I b) (zz_I y) 0 0 0 0 0 0 0 0 0 0 0 (fun _ => 0) := by
    intro y Ry hy
    unfold wX_init_22
    refine zz_bl y 32 (fun t => ?_) (fun t => ?_) rfl rfl Ry
    · exact L31 y (by unfold ii_S; omega)
    · exact L31 32 (by unfold ii_S; omega)
  unfold wpX_init
  refine zz_bl 1 a (fun t => ?_) (fun t => ?_) rfl rfl (by unfold zz_R; omega) Ra
  · exact L22 a Ra (by omega)
  · exact L22 1 (by unfold zz_R; omega) (by omega)
theorem yi_45 {post : SY → Prop} {a b w h : Int} (hw : ii_S a w) (hh : ii_S b h)
    (K : ∀ w h, ii_S a w → ii_S b h → post (zz_I w, zz_I h, zz_I 0, zz_I 0, zz_I (w - 1), zz_I (h - 1), 0, 0, 0, 0, 0, 0, 0, 0, 0, 0, 0, 0, 0, 0, fun _ => 0)) :
    wY_init_45 post (zz_I w) (zz_I h) 0 0 0 0 0 0 0 0 0 0 0 0 0 0 0 0 0 0 0 0 := by
  have k := K w h hw hh
  rw [← zz_sub, ← zz_sub, ← zz_c1, ← zz_c0] at k
  unfold wY_init_45
  exact nm_e (nm_e k)
theorem yi_init {post : SY → Prop} {a b : Int} (Ra : zz_R a) (Rb : zz_R b)
    (K : ∀ w h, ii_S a w → ii_S b h → post (zz_I w, zz_I h, zz_I 0, zz_I 0, zz_I (w - 1), zz_I (h - 1), 0, 0, 0, 0, 0, 0, 0, 0, 0, 0, 0, 0, 0, 0, fun _ => 0)) :
    wpY_init post (zz_I a) (zz_I b) := by
  have L34 : ∀ w y, ii_S a w → zz_R y → (1 ≤ y ∧ (1 ≤ b → y = b) ∧ (b < 1 → y = 1)) →
      wY_init_34 post (zz_I w) (zz_I y) 0 0 0 0 0 0 0 0 0 0 0 0 0 0 0 0 0 0 0 0 := by
    intro w y hw Ry hy
    unfold wY_init_34
    refine zz_bl y 32 (fun t => ?_) (fun t => ?_) rfl rfl Ry
    · exact yi_45 (a := a) (b := b) hw (by unfold ii_S; omega) K
    · exact yi_45 (a := a) (b := b) (h := 32) hw (by unfold ii_S; omega) K
  have L25 : ∀ w, ii_S a w → wY_init_25 post (zz_I w) (zz_I b) 0 0 0 0 0 0 0 0 0 0 0 0 0 0 0 0 0 0 0 0 := by
    intro w hw
    unfold wY_init_25
    refine zz_bl 1 b (fun t => ?_) (fun t => ?_) rfl rfl (by unfold zz_R; omega) Rb
    · exact L34 w b hw Rb (by omega)
    · exact L34 w 1 hw (by unfold zz_R; omega) (by omega)
  have L16 : ∀ y, zz_R y → (1 ≤ y ∧ (1 ≤ a → y = a) ∧ (a < 1 → y = 1)) →
      wY_init_16 post (zz_I y) (zz_I b) 0 0 0 0 0 0 0 0 0 0 0 0 0 0 0 0 0 0 0 0 := by
    intro y Ry hy
    unfold wY_init_16
    refine zz_bl y 32 (fun t => ?_) (fun t => ?_) rfl rfl Ry
    · exact L25 y (by unfold ii_S; omega)
    · exact L25 32 (by unfold ii_S; omega)
  unfold wpY_init
  refine zz_bl 1 a (fun t => ?_) (fun t => ?_) rfl rfl (by unfold zz_R; omega) Ra
  · exact L16 a Ra (by omega)
  · exact L16 1 (by unfold zz_R; omega) (by omega)
theorem i_vc0 (k0 : Int32) (k1 : Int32) : wpX_init (fun u => wpY_init (fun v => i_Rel 2 u v) k0 k1) k0 k1 := by
  obtain ⟨a, Ra, rfl⟩ := zz_ex k0
  obtain ⟨b, Rb, rfl⟩ := zz_ex k1
  refine xi_init Ra Rb (fun w h hw hh => ?_)
  refine yi_init Ra Rb (fun w' h' hw' hh' => ?_)
  rw [ii_u hw hw', ii_u hh hh']
  have b1 := ii_b hw
  have b2 := ii_b hh
  exact rl_mk (by unfold rl_F; omega) (Or.inl rfl) (fun x y _ _ _ _ => rfl)
theorem i_vc_width {k : Nat} {u : SX} {v : SY} (I : i_Rel k u v) (hk : k + 6 ≤ 3074) : wpX_width (fun r => wpY_width (fun r' => r' = r ∧ i_Rel (k + 6) u v) v) u := by
  refine rl_el (P := fun u v => wpX_width (fun r => wpY_width (fun r' => r' = r ∧ i_Rel (k + 6) u v) v) u) I ?_
  intro w h wx0 wy0 wx1 wy1 hv e0 e1 e2 e3 ax ay bx bw s0 s1 s2 s3 fo lp lq hp hq pix frame F E A
  exact ⟨rfl, rl_mk F E A⟩
theorem i_vc_height {k : Nat} {u : SX} {v : SY} (I : i_Rel k u v) (hk : k + 6 ≤ 3074) : wpX_height (fun r => wpY_height (fun r' => r' = r ∧ i_Rel (k + 6) u v) v) u := by
  refine rl_el (P := fun u v => wpX_height (fun r => wpY_height (fun r' => r' = r ∧ i_Rel (k + 6) u v) v) u) I ?_
  intro w h wx0 wy0 wx1 wy1 hv e0 e1 e2 e3 ax ay bx bw s0 s1 s2 s3 fo lp lq hp hq pix frame F E A
  exact ⟨rfl, rl_mk F E A⟩
theorem i_vc_outcode {k : Nat} {u : SX} {v : SY} (I : i_Rel k u v) (hk : k + 6 ≤ 3074) (v1 : Int32) (v2 : Int32) : wpX_outcode (fun r => wpY_outcode (fun r' => r' = r ∧ i_Rel (k + 6) u v) v v1 v2) u v1 v2 := by
  refine rl_el (P := fun u v => wpX_outcode (fun r => wpY_outcode (fun r' => r' = r ∧ i_Rel (k + 6) u v) v v1 v2) u v1 v2) I ?_
  intro w h wx0 wy0 wx1 wy1 hv e0 e1 e2 e3 ax ay bx bw s0 s1 s2 s3 fo lp lq hp hq pix frame F E A
  have R := rl_mk (k := k + 6) (s0 := s0) (s1 := s1) (s2 := s2) (s3 := s3) (fo := fo) (lp := lp) (lq := lq) (hp := hp) (hq := hq) F E A
  unfold wpX_outcode wpY_outcode wX_outcode_14 wY_outcode_13 wX_outcode_26 wY_outcode_24 wX_outcode_38 wY_outcode_35
  dsimp only
  by_cases h1 : zz_I wx0 ≤ v1 <;> by_cases h2 : v1 ≤ zz_I wx1 <;> by_cases h3 : zz_I wy0 ≤ v2 <;> by_cases h4 : v2 ≤ zz_I wy1 <;>
    simp only [h1, h2, h3, h4, not_true_eq_false, not_false_eq_true, false_implies, true_implies, forall_eq, true_and, and_true, R]
theorem i_vc_clipped {k : Nat} {u : SX} {v : SY} (I : i_Rel k u v) (hk : k + 6 ≤ 3074) (v1 : Int32) : wpX_clipped (fun r => wpY_clipped (fun r' => r' = r ∧ i_Rel (k + 6) u v) v v1) u v1 := by
  refine rl_el (P := fun u v => wpX_clipped (fun r => wpY_clipped (fun r' => r' = r ∧ i_Rel (k + 6) u v) v v1) u v1) I ?_
  intro w h wx0 wy0 wx1 wy1 hv e0 e1 e2 e3 ax ay bx bw s0 s1 s2 s3 fo lp lq hp hq pix frame F E A
  have R := rl_mk (k := k + 6) (s0 := s0) (s1 := s1) (s2 := s2) (s3 := s3) (fo := fo) (lp := lp) (lq := lq) (hp := hp) (hq := hq) F E A
  by_cases hz : hv = 0
  · exact br_t hz (br_t hz ⟨rfl, R⟩)
  · obtain ⟨g0, g1, g2, g3⟩ := E.resolve_left hz
    by_cases z0 : v1 = 0
    · exact br_f hz (br_t z0 (br_f hz (br_t z0 ⟨g0.symm, R⟩)))
    · by_cases z1 : v1 = 1
      · exact br_f hz (br_f z0 (br_t z1 (br_f hz (br_f z0 (br_t z1 ⟨g1.symm, R⟩)))))
      · by_cases z2 : v1 = 2
        · exact br_f hz (br_f z0 (br_f z1 (br_t z2 (br_f hz (br_f z0 (br_f z1 (br_t z2 ⟨g2.symm, R⟩)))))))
        · by_cases z3 : v1 = 3
          · exact br_f hz (br_f z0 (br_f z1 (br_f z2 (br_t z3 (br_f hz (br_f z0 (br_f z1 (br_f z2 (br_t z3 ⟨g3.symm, R⟩)))))))))
          · exact br_f hz (br_f z0 (br_f z1 (br_f z2 (br_f z3 (br_f hz (br_f z0 (br_f z1 (br_f z2 (br_f z3 ⟨rfl, R⟩)))))))))
theorem xs_setClip {post : Int32 → SX → Prop} {w h wx0 wy0 wx1 wy1 a b c d : Int} {hv e0 e1 e2 e3 : Int32} {pix : Nat → Int32}
    (F : rl_F w h wx0 wy0 wx1 wy1) (Ra : zz_R a) (Rb : zz_R b) (Rc : zz_R c) (Rd : zz_R d)
    (K1 : rl_F w h a b c d → post 1 (zz_I w, zz_I h, zz_I a, zz_I b, zz_I c, zz_I d, hv, e0, e1, e2, e3, pix))
    (K0 : ¬ rl_F w h a b c d → post 0 (zz_I w, zz_I h, zz_I wx0, zz_I wy0, zz_I wx1, zz_I wy1, hv, e0, e1, e2, e3, pix)) :
    wpX_setClip post (zz_I w, zz_I h, zz_I wx0, zz_I wy0, zz_I wx1, zz_I wy1, hv, e0, e1, e2, e3, pix) (zz_I a) (zz_I b) (zz_I c) (zz_I d) := by
  unfold rl_F at F K0 K1
  unfold wpX_setClip
  dsimp only
  refine zz_bt a 0 (fun t => K0 (by omega)) (fun t1 => ?_) rfl rfl Ra
  refine zz_bt c a (fun t => K0 (by omega)) (fun t2 => ?_) rfl rfl Rc Ra
  refine zz_bl w c (fun t => K0 (by omega)) (fun t3 => ?_) rfl rfl (by unfold zz_R; omega) Rc
  refine zz_bt b 0 (fun t => K0 (by omega)) (fun t4 => ?_) rfl rfl Rb
  refine zz_bt d b (fun t => K0 (by omega)) (fun t5 => ?_) rfl rfl Rd Rb
  refine zz_bl h d (fun t => K0 (by omega)) (fun t6 => ?_) rfl rfl (by unfold zz_R; omega) Rd
  exact K1 (by omega)
theorem ys_setClip {post : Int32 → SY → Prop} {w h wx0 wy0 wx1 wy1 a b c d : Int} {hv ax ay bx bw s0 s1 s2 s3 fo lp lq hp hq : Int32} {frame : Nat → Int32}
    (F : rl_F w h wx0 wy0 wx1 wy1) (Ra : zz_R a) (Rb : zz_R b) (Rc : zz_R c) (Rd : zz_R d)
    (K1 : rl_F w h a b c d → post 1 (zz_I w, zz_I h, zz_I a, zz_I b, zz_I c, zz_I d, hv, ax, ay, bx, bw, s0, s1, s2, s3, fo, lp, lq, hp, hq, frame))
    (K0 : ¬ rl_F w h a b c d → post 0 (zz_I w, zz_I h, zz_I wx0, zz_I wy0, zz_I wx1, zz_I wy1, hv, ax, ay, bx, bw, s0, s1, s2, s3, fo, lp, lq, hp, hq, frame)) :
    wpY_setClip post (zz_I w, zz_I h, zz_I wx0, zz_I wy0, zz_I wx1, zz_I wy1, hv, ax, ay, bx, bw, s0, s1, s2, s3, fo, lp, lq, hp, hq, frame) (zz_I a) (zz_I b) (zz_I c) (zz_I d) := by
  unfold rl_F at F K0 K1
  unfold wpY_setClip
  dsimp only
  refine zz_bt a 0 (fun t => K0 (by omega)) (fun t1 => ?_) rfl rfl Ra
  refine zz_bt c a (fun t => K0 (by omega)) (fun t2 => ?_) rfl rfl Rc Ra
  refine zz_bt c w (fun t3 => ?_) (fun t => K0 (by omega)) rfl rfl Rc (by unfold zz_R; omega)
  refine zz_bt b 0 (fun t => K0 (by omega)) (fun t4 => ?_) rfl rfl Rb
  refine zz_bt d b (fun t => K0 (by omega)) (fun t5 => ?_) rfl rfl Rd Rb
  refine zz_bt d h (fun t6 => ?_) (fun t => K0 (by omega)) rfl rfl Rd (by unfold zz_R; omega)
  exact K1 (by omega)
theorem i_vc_setClip {k : Nat} {u : SX} {v : SY} (I : i_Rel k u v) (hk : k + 6 ≤ 3074) (v1 : Int32) (v2 : Int32) (v3 : Int32) (v4 : Int32) : wpX_setClip (fun r u' => wpY_setClip (fun r' v' => r' = r ∧ i_Rel (k + 6) u' v') v v1 v2 v3 v4) u v1 v2 v3 v4 := by
  obtain ⟨a, Ra, rfl⟩ := zz_ex v1
  obtain ⟨b, Rb, rfl⟩ := zz_ex v2
  obtain ⟨c, Rc, rfl⟩ := zz_ex v3
  obtain ⟨d, Rd, rfl⟩ := zz_ex v4
  refine rl_el (P := fun u v => wpX_setClip (fun r u' => wpY_setClip (fun r' v' => r' = r ∧ i_Rel (k + 6) u' v') v (zz_I a) (zz_I b) (zz_I c) (zz_I d)) u (zz_I a) (zz_I b) (zz_I c) (zz_I d)) I ?_
  intro w h wx0 wy0 wx1 wy1 hv e0 e1 e2 e3 ax ay bx bw s0 s1 s2 s3 fo lp lq hp hq pix frame F E A
  refine xs_setClip F Ra Rb Rc Rd (fun t => ?_) (fun t => ?_)
  · exact ys_setClip F Ra Rb Rc Rd (fun _ => ⟨rfl, rl_mk t E A⟩) (fun t' => absurd t t')
  · exact ys_setClip F Ra Rb Rc Rd (fun t' => absurd t' t) (fun _ => ⟨rfl, rl_mk F E A⟩)
theorem i_vc_pixel {k : Nat} {u : SX} {v : SY} (I : i_Rel k u v) (hk : k + 6 ≤ 3074) (v1 : Int32) (v2 : Int32) : wpX_pixel (fun r => wpY_pixel (fun r' => r' = r ∧ i_Rel (k + 6) u v) v v1 v2) u v1 v2 := by
  obtain ⟨x, Rx, rfl⟩ := zz_ex v1
  obtain ⟨y, Ry, rfl⟩ := zz_ex v2
  refine rl_el (P := fun u v => wpX_pixel (fun r => wpY_pixel (fun r' => r' = r ∧ i_Rel (k + 6) u v) v (zz_I x) (zz_I y)) u (zz_I x) (zz_I y)) I ?_
  intro w h wx0 wy0 wx1 wy1 hv e0 e1 e2 e3 ax ay bx bw s0 s1 s2 s3 fo lp lq hp hq pix frame F E A
  have R := rl_mk (k := k + 6) (s0 := s0) (s1 := s1) (s2 := s2) (s3 := s3) (fo := fo) (lp := lp) (lq := lq) (hp := hp) (hq := hq) F E A
  obtain ⟨f1, f2, f3, f4, f5, f6, f7, f8, f9, f10⟩ := F
  have Z : zz_R 0 := by unfold zz_R; omega
  have Rw : zz_R w := by unfold zz_R; omega
  have Rh : zz_R h := by unfold zz_R; omega
  unfold wpX_pixel wpY_pixel
  dsimp only
  rw [zz_c0, zz_lt Rx Z, zz_le Rw Rx, zz_lt Ry Z, zz_lt Ry Rh]
  by_cases t1 : x < 0
  · exact br_t t1 (br_t t1 ⟨rfl, R⟩)
  by_cases t2 : w ≤ x
  · exact br_f t1 (br_t t2 (br_f t1 (br_t t2 ⟨rfl, R⟩)))
  by_cases t3 : y < 0
  · exact br_f t1 (br_f t2 (br_t t3 (br_f t1 (br_f t2 (br_t t3 ⟨rfl, R⟩)))))
  by_cases t4 : y < h
  · have bX := ix_bd (m := 32) (x := x) (y := y) (by omega) (by omega) (by omega) (by omega) (by omega)
    have bY := ix_bd (m := w) (x := x) (y := y) (by omega) (by omega) (by omega) (by omega) (by omega)
    have RX : zz_R (y * 32 + x) := by unfold zz_R; omega
    have RY : zz_R (y * w + x) := by unfold zz_R; omega
    have eX : zz_I y * 32 + zz_I x = zz_I (y * 32 + x) := by rw [zz_c32, zz_mul, zz_add]
    have eY : zz_I y * zz_I w + zz_I x = zz_I (y * w + x) := by rw [zz_mul, zz_add]
    rw [eX, eY, zz_clamp RX, zz_clamp RY]
    exact br_f t1 (br_f t2 (br_f t3 (br_t t4 ⟨zz_in bX.1 bX.2 RX, (br_f t1 (br_f t2 (br_f t3 (br_t t4 ⟨zz_in bY.1 bY.2 RY, (A x y (by omega) (by omega) (by omega) (by omega)).symm, R⟩))))⟩)))
  · exact br_f t1 (br_f t2 (br_f t3 (br_f t4 (br_f t1 (br_f t2 (br_f t3 (br_f t4 ⟨rfl, R⟩)))))))
/-- cleared so far -/
def cl_P (w row col : Int) (c : Int32) (a : Nat → Int32) : Prop :=
  ∀ x y : Int, 0 ≤ x → x < w → 0 ≤ y → (y < row ∨ (y = row ∧ x < col)) → a (y * 32 + x).toNat = c
theorem xc_12 {post : SX → Prop} {J : Int32 → (Nat → Int32) → Prop} {w h row : Int} {c f0 f1 f2 f3 hv e0 e1 e2 e3 : Int32}
    (w1 : 1 ≤ w) (w2 : w ≤ 32) (h2 : h ≤ 32) (r0 : 0 ≤ row) (r1 : row < h)
    (K : ∀ a, cl_P w (row + 1) 0 c a → J (zz_I (row + 1)) a) :
    ∀ (n : Nat) (col : Int) (a : Nat → Int32), 0 ≤ col → col ≤ w → (w - col).toNat < n → cl_P w row col c a →
      wX_clear_12 post J c (zz_I row) (zz_I w) (zz_I h) f0 f1 f2 f3 hv e0 e1 e2 e3 n (zz_I col) a := by
  intro n
  induction n with
  | zero => intro col a _ _ h; omega
  | succ n ih =>
    intro col a h0 h1 hn I
    rw [wX_clear_12]
    refine zz_bl w col (fun t => ?_) (fun t => ?_)
    · refine nm_r (e' := zz_I (row + 1)) (by rw [zz_c1, zz_add]) (K a (fun x y x0 x1 y0 hy => I x y x0 x1 y0 (by omega)))
    · have bd := ix_bd (m := 32) (x := col) (y := row) (by omega) (by omega) (by omega) (by omega) (by omega)
      have R : zz_R (row * 32 + col) := by unfold zz_R; omega
      have e : zz_I row * 32 + zz_I col = zz_I (row * 32 + col) := by rw [zz_c32, zz_mul, zz_add]
      rw [e, zz_clamp R]
      refine ⟨zz_in bd.1 bd.2 R, nm_e (nm_r (e' := zz_I (col + 1)) (by rw [zz_c1, zz_add]) ?_)⟩
      refine ih (col + 1) _ (by omega) (by omega) (by omega) (fun x y x0 x1 y0 hy => ?_)
      show (if _ then _ else _) = _
      by_cases q : (y * 32 + x).toNat = (row * 32 + col).toNat
      · rw [if_pos q]
      · rw [if_neg q]
        refine I x y x0 x1 y0 ?_
        by_cases qq : x = col ∧ y = row
        · rw [qq.1, qq.2] at q; exact absurd rfl q
        · omega
theorem xc_2 {post : SX → Prop} {w h : Int} {c f0 f1 f2 f3 hv e0 e1 e2 e3 : Int32}
    (w1 : 1 ≤ w) (w2 : w ≤ 32) (hh1 : 1 ≤ h) (h2 : h ≤ 32)
    (K : ∀ a, cl_P w h 0 c a → post (zz_I w, zz_I h, f0, f1, f2, f3, hv, e0, e1, e2, e3, a)) :
    ∀ (n : Nat) (row : Int) (a : Nat → Int32), 0 ≤ row → row ≤ h → (h - row).toNat < n → cl_P w row 0 c a →
      wX_clear_2 post c (zz_I w) (zz_I h) f0 f1 f2 f3 hv e0 e1 e2 e3 n (zz_I row) a := by
  intro n
  induction n with
  | zero => intro col a _ _ h; omega
  | succ n ih =>
    intro row a h0 h1 hn I
    rw [wX_clear_2]
    refine zz_bl h row (fun t => ?_) (fun t => ?_)
    · have : row = h := by omega
      subst this
      exact K a I
    · refine ⟨w.toNat + 1, ?_⟩
      refine xc_12 w1 w2 h2 h0 t (fun a' I' => ih (row + 1) a' (by omega) (by omega) (by omega) I') (w.toNat + 1) 0 a (by omega) (by omega) (by omega) I
theorem yc_2 {post : SY → Prop} {w h : Int} {c f0 f1 f2 f3 hv ax ay bx bw s0 s1 s2 s3 fo lp lq hp hq : Int32}
    (m1 : 0 ≤ w * h) (m2 : w * h ≤ 1024)
    (K : ∀ a, (∀ j : Nat, (j : Int) < w * h → a j = c) → post (zz_I w, zz_I h, f0, f1, f2, f3, hv, ax, ay, bx, bw, s0, s1, s2, s3, fo, lp, lq, hp, hq, a)) :
    ∀ (n : Nat) (i : Int) (a : Nat → Int32), 0 ≤ i → i ≤ w * h → (w * h - i).toNat < n → (∀ j : Nat, (j : Int) < i → a j = c) →
      wY_clear_2 post c (zz_I w) (zz_I h) f0 f1 f2 f3 hv ax ay bx bw s0 s1 s2 s3 fo lp lq hp hq n (zz_I i) a := by
  intro n
  induction n with
  | zero => intro col a _ _ h; omega
  | succ n ih =>
    intro i a h0 h1 hn I
    rw [wY_clear_2]
    refine zz_bl (w * h) i (fun t => ?_) (fun t => ?_) (zz_mul w h) rfl
    · have : i = w * h := by omega
      subst this
      exact K a I
    · have R : zz_R i := by unfold zz_R; omega
      rw [zz_clamp R]
      refine ⟨zz_in h0 (by omega) R, nm_e (nm_r (e' := zz_I (i + 1)) (by rw [zz_c1, zz_add]) ?_)⟩
      refine ih (i + 1) _ (by omega) (by omega) (by omega) (fun j hj => ?_)
      show (if _ then _ else _) = _
      by_cases q : j = i.toNat
      · rw [if_pos q]
      · rw [if_neg q]
        exact I j (by omega)
theorem i_vc_clear {k : Nat} {u : SX} {v : SY} (I : i_Rel k u v) (hk : k + 6 ≤ 3074) (v1 : Int32) : wpX_clear (fun u' => wpY_clear (fun v' => i_Rel (k + 6) u' v') v v1) u v1 := by
  refine rl_el (P := fun u v => wpX_clear (fun u' => wpY_clear (fun v' => i_Rel (k + 6) u' v') v v1) u v1) I ?_
  intro w h wx0 wy0 wx1 wy1 hv e0 e1 e2 e3 ax ay bx bw s0 s1 s2 s3 fo lp lq hp hq pix frame F E A
  have F' := F
  obtain ⟨f1, f2, f3, f4, f5, f6, f7, f8, f9, f10⟩ := F
  have m1 : 0 ≤ w * h := Int.mul_nonneg (by omega) (by omega)
  have m2 : w * h ≤ 32 * 32 := Int.mul_le_mul f2 f4 (by omega) (by omega)
  unfold wpX_clear
  dsimp only
  refine ⟨h.toNat + 1, ?_⟩
  refine xc_2 f1 f2 f3 f4 (fun a Ia => ?_) (h.toNat + 1) 0 pix (by omega) (by omega) (by omega) (fun x y x0 x1 y0 hy => by omega)
  unfold wpY_clear
  dsimp only
  refine ⟨(w * h).toNat + 1, ?_⟩
  refine yc_2 m1 (by omega) (fun b Ib => ?_) ((w * h).toNat + 1) 0 frame (by omega) (by omega) (by omega) (fun j hj => by omega)
  refine rl_mk F' E (fun x y x0 x1 y0 y1 => ?_)
  have p1 : 0 ≤ y * w := Int.mul_nonneg y0 (by omega)
  have p2 : (y + 1) * w ≤ h * w := Int.mul_le_mul_of_nonneg_right (by omega) (by omega)
  rw [Int.add_mul, Int.one_mul, Int.mul_comm h w] at p2
  rw [Ia x y x0 x1 y0 (Or.inl y1), Ib _ (by omega)]
end
section
/-! Part 04: clipLine -/
/-- the parameter s/t is within 0..1 and its point in the window -/
def fe_P (x0 y0 dx dy wx0 wy0 wx1 wy1 : Int) (s t : Int) : Prop :=
  0 < t ∧ 0 ≤ s ∧ s ≤ t ∧ wx0 * t ≤ x0 * t + dx * s ∧ x0 * t + dx * s ≤ wx1 * t ∧ wy0 * t ≤ y0 * t + dy * s ∧ y0 * t + dy * s ≤ wy1 * t
/-- the candidates, with positive denominators -/
def cd_C (x0 y0 dx dy wx0 wy0 wx1 wy1 : Int) (s t : Int) : Prop :=
  (s = 0 ∧ t = 1) ∨ (s = 1 ∧ t = 1) ∨ (0 < dx ∧ t = dx ∧ (s = wx0 - x0 ∨ s = wx1 - x0)) ∨ (dx < 0 ∧ t = -dx ∧ (s = -(wx0 - x0) ∨ s = -(wx1 - x0))) ∨
  (0 < dy ∧ t = dy ∧ (s = wy0 - y0 ∨ s = wy1 - y0)) ∨ (dy < 0 ∧ t = -dy ∧ (s = -(wy0 - y0) ∨ s = -(wy1 - y0)))
/-- X's bounds so far: the feasible ones are between n0/d0 and n1/d1 -/
def cx_I (Fe C : Int → Int → Prop) (n0 d0 n1 d1 : Int) : Prop :=
  (0 < d0 ∧ d0 ≤ 8192 ∧ 0 < d1 ∧ d1 ≤ 8192 ∧ -8192 ≤ n0 ∧ n0 ≤ 8192 ∧ -8192 ≤ n1 ∧ n1 ≤ 8192) ∧ n0 * d1 ≤ n1 * d0 ∧ C n0 d0 ∧ C n1 d1 ∧
  ∀ s t, 0 < t → (Fe s t ↔ n0 * t ≤ s * d0 ∧ s * d1 ≤ n1 * t)
/-- one constraint more -/
def cx_A (Fe : Int → Int → Prop) (p q : Int) (s t : Int) : Prop := Fe s t ∧ p * s ≤ q * t
theorem cx_z {Fe C : Int → Int → Prop} {n0 d0 n1 d1 q : Int} (I : cx_I Fe C n0 d0 n1 d1) (hq : 0 ≤ q) : cx_I (cx_A Fe 0 q) C n0 d0 n1 d1 := by
  obtain ⟨b, i1, i2, i3, i4⟩ := I
  refine ⟨b, i1, i2, i3, fun s t ht => ?_⟩
  rw [← i4 s t ht]
  have : 0 ≤ q * t := Int.mul_nonneg hq (by omega)
  exact ⟨fun h => h.1, fun h => ⟨h, by omega⟩⟩
theorem cx_zr {Fe : Int → Int → Prop} {q : Int} (hq : q < 0) : ∀ s t, 0 < t → ¬ cx_A Fe 0 q s t := by
  intro s t ht ⟨_, h⟩
  have := Int.mul_pos_of_neg_of_neg (a := q) (b := -t) hq (by omega)
  rw [Int.mul_neg] at this
  omega
/-- an upper bound: t ≤ q/p -/
theorem cx_ur {Fe C : Int → Int → Prop} {n0 d0 n1 d1 p q : Int} (I : cx_I Fe C n0 d0 n1 d1) (hp : 0 < p) (h : q * d0 < n0 * p) : ∀ s t, 0 < t → ¬ cx_A Fe p q s t := by
  obtain ⟨b, i1, i2, i3, i4⟩ := I
  intro s t ht ⟨h1, h2⟩
  have k := ((i4 s t ht).mp h1).1
  rw [Int.mul_comm] at h2
  have := fr_tr (a := n0) (b := d0) (c := s) (d := t) (e := q) (f := p) b.1 ht hp k h2
  omega
theorem cx_uk {Fe C : Int → Int → Prop} {n0 d0 n1 d1 p q : Int} (I : cx_I Fe C n0 d0 n1 d1) (hp : 0 < p) (h : n1 * p ≤ q * d1) : cx_I (cx_A Fe p q) C n0 d0 n1 d1 := by
  obtain ⟨b, i1, i2, i3, i4⟩ := I
  refine ⟨b, i1, i2, i3, fun s t ht => ?_⟩
  rw [← i4 s t ht]
  refine ⟨fun h => h.1, fun g => ⟨g, ?_⟩⟩
  have k := ((i4 s t ht).mp g).2
  rw [Int.mul_comm p s]
  exact fr_tr (a := s) (b := t) (c := n1) (d := d1) (e := q) (f := p) ht b.2.2.1 hp k h
theorem cx_un {Fe C : Int → Int → Prop} {n0 d0 n1 d1 p q : Int} (I : cx_I Fe C n0 d0 n1 d1) (hp : 0 < p) (hp' : p ≤ 8192) (q1 : -8192 ≤ q) (q2 : q ≤ 8192) (c : C q p)
    (h0 : n0 * p ≤ q * d0) (h : q * d1 < n1 * p) : cx_I (cx_A Fe p q) C n0 d0 q p := by
  obtain ⟨b, i1, i2, i3, i4⟩ := I
  refine ⟨by omega, h0, i2, c, fun s t ht => ?_⟩
  have e : p * s = s * p := Int.mul_comm p s
  unfold cx_A
  rw [i4 s t ht, e]
  refine ⟨fun g => ⟨g.1.1, g.2⟩, fun g => ⟨⟨g.1, ?_⟩, g.2⟩⟩
  exact fr_tr (a := s) (b := t) (c := q) (d := p) (e := n1) (f := d1) ht hp b.2.2.1 g.2 (by omega)
/-- a lower bound: n/d ≤ t, for the constraint -d * s ≤ -n * t -/
theorem cx_A_neg {Fe : Int → Int → Prop} {p q s t : Int} : cx_A Fe p q s t ↔ Fe s t ∧ -q * t ≤ s * -p := by
  unfold cx_A
  rw [Int.neg_mul, Int.mul_neg, Int.mul_comm p s]
  exact ⟨fun h => ⟨h.1, by omega⟩, fun h => ⟨h.1, by omega⟩⟩
theorem cx_lr {Fe C : Int → Int → Prop} {n0 d0 n1 d1 p q : Int} (I : cx_I Fe C n0 d0 n1 d1) (hp : p < 0) (h : n1 * -p < -q * d1) : ∀ s t, 0 < t → ¬ cx_A Fe p q s t := by
  obtain ⟨b, i1, i2, i3, i4⟩ := I
  intro s t ht g
  rw [cx_A_neg] at g
  have k := ((i4 s t ht).mp g.1).2
  have := fr_tr (a := -q) (b := -p) (c := s) (d := t) (e := n1) (f := d1) (by omega) ht b.2.2.1 g.2 k
  omega
theorem cx_lk {Fe C : Int → Int → Prop} {n0 d0 n1 d1 p q : Int} (I : cx_I Fe C n0 d0 n1 d1) (hp : p < 0) (h : -q * d0 ≤ n0 * -p) : cx_I (cx_A Fe p q) C n0 d0 n1 d1 := by
  obtain ⟨b, i1, i2, i3, i4⟩ := I
  refine ⟨b, i1, i2, i3, fun s t ht => ?_⟩
  rw [cx_A_neg, ← i4 s t ht]
  refine ⟨fun h => h.1, fun g => ⟨g, ?_⟩⟩
  have k := ((i4 s t ht).mp g).1
  exact fr_tr (a := -q) (b := -p) (c := n0) (d := d0) (e := s) (f := t) (by omega) b.1 ht h k
theorem cx_ln {Fe C : Int → Int → Prop} {n0 d0 n1 d1 p q : Int} (I : cx_I Fe C n0 d0 n1 d1) (hp : p < 0) (hp' : -8192 ≤ p) (q1 : -8192 ≤ q) (q2 : q ≤ 8192) (c : C (-q) (-p))
    (h1 : -q * d1 ≤ n1 * -p) (h : n0 * -p < -q * d0) : cx_I (cx_A Fe p q) C (-q) (-p) n1 d1 := by
  obtain ⟨b, i1, i2, i3, i4⟩ := I
  refine ⟨by omega, h1, c, i3, fun s t ht => ?_⟩
  rw [cx_A_neg, i4 s t ht]
  refine ⟨fun g => ⟨g.2, g.1.2⟩, fun g => ⟨⟨?_, g.2⟩, g.1⟩⟩
  exact fr_tr (a := n0) (b := d0) (c := -q) (d := -p) (e := s) (f := t) b.1 (by omega) ht (by omega) g.1
section
variable {post : Int32 → SX → Prop} {J : Int32 → Int32 → Int32 → Int32 → Int32 → Prop} {y1 y2 y5 y6 kk : Int32} {n0 d0 n1 d1 p q : Int} {Fe C : Int → Int → Prop}
  {g0 g1 g2 g3 g4 g5 hv e0 e1 e2 e3 : Int32} {pix : Nat → Int32}
theorem cx_144 (I : cx_I Fe C n0 d0 n1 d1) (p1 : -8192 ≤ p) (p2 : p ≤ 8192) (q1 : -8192 ≤ q) (q2 : q ≤ 8192)
    (c1 : p < 0 → C (-q) (-p)) (c2 : 0 < p → C q p)
    (K0 : (∀ s t, 0 < t → ¬ cx_A Fe p q s t) → post 0 (g0, g1, g2, g3, g4, g5, 0, e0, e1, e2, e3, pix))
    (K1 : ∀ m0 b0 m1 b1, cx_I (cx_A Fe p q) C m0 b0 m1 b1 → J (zz_I m0) (zz_I b0) (zz_I m1) (zz_I b1) (kk + 1)) :
    wX_clipLine_144 post J y1 y2 y5 y6 (zz_I n0) (zz_I d0) (zz_I n1) (zz_I d1) kk (zz_I p) (zz_I q) g0 g1 g2 g3 g4 g5 hv e0 e1 e2 e3 pix := by
  have b := I.1
  have m1 := mb_mul (a := n0) (b := p) (A := 8192) (B := 8192) (by omega) (by omega) (by omega) (by omega) (by omega) (by omega)
  have m2 := mb_mul (a := q) (b := d0) (A := 8192) (B := 8192) (by omega) (by omega) (by omega) (by omega) (by omega) (by omega)
  have m3 := mb_mul (a := n1) (b := p) (A := 8192) (B := 8192) (by omega) (by omega) (by omega) (by omega) (by omega) (by omega)
  have m4 := mb_mul (a := q) (b := d1) (A := 8192) (B := 8192) (by omega) (by omega) (by omega) (by omega) (by omega) (by omega)
  have m5 := mb_mul (a := n0) (b := -p) (A := 8192) (B := 8192) (by omega) (by omega) (by omega) (by omega) (by omega) (by omega)
  have m6 := mb_mul (a := -q) (b := d0) (A := 8192) (B := 8192) (by omega) (by omega) (by omega) (by omega) (by omega) (by omega)
  have m7 := mb_mul (a := n1) (b := -p) (A := 8192) (B := 8192) (by omega) (by omega) (by omega) (by omega) (by omega) (by omega)
  have m8 := mb_mul (a := -q) (b := d1) (A := 8192) (B := 8192) (by omega) (by omega) (by omega) (by omega) (by omega) (by omega)
  unfold wX_clipLine_144
  refine zz_be p 0 (fun z => ?_) (fun z => ?_)
  · subst z
    refine zz_bl 0 q (fun t => ?_) (fun t => ?_)
    · exact nm_e (K1 n0 d0 n1 d1 (cx_z I t))
    · exact K0 (cx_zr t)
  · refine zz_bl 0 p (fun t => ?_) (fun t => ?_)
    · have hp : 0 < p := by omega
      refine zz_bl (n0 * p) (q * d0) (fun t1 => ?_) (fun t1 => ?_) (zz_mul _ _) (zz_mul _ _)
      · refine zz_bl (n1 * p) (q * d1) (fun t2 => ?_) (fun t2 => ?_) (zz_mul _ _) (zz_mul _ _)
        · exact nm_e (K1 n0 d0 n1 d1 (cx_uk I hp t2))
        · exact nm_e (K1 n0 d0 q p (cx_un I hp p2 q1 q2 (c2 hp) t1 t2))
      · exact K0 (cx_ur I hp t1)
    · refine nm_r (zz_neg q) (nm_r (zz_neg p) ?_)
      refine zz_bl (-q * d1) (n1 * -p) (fun t1 => ?_) (fun t1 => ?_) (zz_mul _ _) (zz_mul _ _)
      · refine zz_bl (-q * d0) (n0 * -p) (fun t2 => ?_) (fun t2 => ?_) (zz_mul _ _) (zz_mul _ _)
        · exact nm_e (K1 n0 d0 n1 d1 (cx_lk I t t2))
        · exact nm_e (K1 (-q) (-p) n1 d1 (cx_ln I t p1 q1 q2 (c1 t) t1 t2))
      · exact K0 (cx_lr I t t1)
end
section
variable {post : Int32 → SX → Prop} {x0 y0 dx dy w h wx0 wy0 wx1 wy1 : Int} {hv e0 e1 e2 e3 : Int32} {pix : Nat → Int32}
/-- the four constraints, one behind another -/
def ff_0 (s t : Int) : Prop := 0 ≤ s ∧ s ≤ t
theorem cx_0 {C : Int → Int → Prop} (c0 : C 0 1) (c1 : C 1 1) : cx_I ff_0 C 0 1 1 1 := by
  refine ⟨by omega, by omega, c0, c1, fun s t ht => ?_⟩
  unfold ff_0
  omega
theorem ff_all {s t : Int} (ht : 0 < t) :
    fe_P x0 y0 dx dy wx0 wy0 wx1 wy1 s t ↔ cx_A (cx_A (cx_A (cx_A ff_0 (-dx) (x0 - wx0)) dx (wx1 - x0)) (-dy) (y0 - wy0)) dy (wy1 - y0) s t := by
  unfold fe_P cx_A ff_0
  simp only [Int.neg_mul, Int.sub_mul]
  omega
theorem cx_L4 {n0 d0 n1 d1 : Int} (x1 : -4096 ≤ x0) (x2 : x0 ≤ 4096) (y1 : -4096 ≤ y0) (y2 : y0 ≤ 4096) (u1 : -8192 ≤ dx) (u2 : dx ≤ 8192) (v1 : -8192 ≤ dy) (v2 : dy ≤ 8192)
    (I : cx_I (cx_A (cx_A (cx_A (cx_A ff_0 (-dx) (x0 - wx0)) dx (wx1 - x0)) (-dy) (y0 - wy0)) dy (wy1 - y0)) (cd_C x0 y0 dx dy wx0 wy0 wx1 wy1) n0 d0 n1 d1)
    (K1 : ∀ n0 d0 n1 d1, cx_I (fe_P x0 y0 dx dy wx0 wy0 wx1 wy1) (cd_C x0 y0 dx dy wx0 wy0 wx1 wy1) n0 d0 n1 d1 →
      post 1 (zz_I w, zz_I h, zz_I wx0, zz_I wy0, zz_I wx1, zz_I wy1, 1, zz_I ((x0 * d0 + n0 * dx) / d0), zz_I ((y0 * d0 + n0 * dy) / d0), zz_I ((x0 * d1 + n1 * dx) / d1), zz_I ((y0 * d1 + n1 * dy) / d1), pix)) (n : Nat) :
    wX_clipLine_62 post (zz_I x0) (zz_I y0) (zz_I dx) (zz_I dy) (zz_I w) (zz_I h) (zz_I wx0) (zz_I wy0) (zz_I wx1) (zz_I wy1) hv e0 e1 e2 e3 pix (n + 1) (zz_I n0) (zz_I d0) (zz_I n1) (zz_I d1) 4 := by
  have b := I.1
  have k := K1 n0 d0 n1 d1 (by
    obtain ⟨i0, i1, i2, i3, i4⟩ := I
    exact ⟨i0, i1, i2, i3, fun s t ht => by rw [ff_all ht]; exact i4 s t ht⟩)
  have m1 := mb_mul (a := x0) (b := d0) (A := 8192) (B := 8192) (by omega) (by omega) (by omega) (by omega) (by omega) (by omega)
  have m2 := mb_mul (a := y0) (b := d0) (A := 8192) (B := 8192) (by omega) (by omega) (by omega) (by omega) (by omega) (by omega)
  have m3 := mb_mul (a := x0) (b := d1) (A := 8192) (B := 8192) (by omega) (by omega) (by omega) (by omega) (by omega) (by omega)
  have m4 := mb_mul (a := y0) (b := d1) (A := 8192) (B := 8192) (by omega) (by omega) (by omega) (by omega) (by omega) (by omega)
  have m5 := mb_mul (a := n0) (b := dx) (A := 8192) (B := 8192) (by omega) (by omega) (by omega) (by omega) (by omega) (by omega)
  have m6 := mb_mul (a := n0) (b := dy) (A := 8192) (B := 8192) (by omega) (by omega) (by omega) (by omega) (by omega) (by omega)
  have m7 := mb_mul (a := n1) (b := dx) (A := 8192) (B := 8192) (by omega) (by omega) (by omega) (by omega) (by omega) (by omega)
  have m8 := mb_mul (a := n1) (b := dy) (A := 8192) (B := 8192) (by omega) (by omega) (by omega) (by omega) (by omega) (by omega)
  rw [wX_clipLine_62]
  refine br_t (by decide) ?_
  refine fd_X (x0 * d0 + n0 * dx) d0 (by omega) (by simp only [zz_mul, zz_add]) rfl (by unfold zz_R; omega) (by unfold zz_R; omega) ?_
  refine fd_X (y0 * d0 + n0 * dy) d0 (by omega) (by simp only [zz_mul, zz_add]) rfl (by unfold zz_R; omega) (by unfold zz_R; omega) ?_
  refine fd_X (x0 * d1 + n1 * dx) d1 (by omega) (by simp only [zz_mul, zz_add]) rfl (by unfold zz_R; omega) (by unfold zz_R; omega) ?_
  refine fd_X (y0 * d1 + n1 * dy) d1 (by omega) (by simp only [zz_mul, zz_add]) rfl (by unfold zz_R; omega) (by unfold zz_R; omega) ?_
  exact k
/-- X's clipping, behind the range checks -/
theorem cx_clip (F : rl_F w h wx0 wy0 wx1 wy1) (x1 : -4096 ≤ x0) (x2 : x0 ≤ 4096) (y1 : -4096 ≤ y0) (y2 : y0 ≤ 4096) (u1 : -8192 ≤ dx) (u2 : dx ≤ 8192) (v1 : -8192 ≤ dy) (v2 : dy ≤ 8192)
    (K0 : (∀ s t, ¬ fe_P x0 y0 dx dy wx0 wy0 wx1 wy1 s t) → post 0 (zz_I w, zz_I h, zz_I wx0, zz_I wy0, zz_I wx1, zz_I wy1, 0, e0, e1, e2, e3, pix))
    (K1 : ∀ n0 d0 n1 d1, cx_I (fe_P x0 y0 dx dy wx0 wy0 wx1 wy1) (cd_C x0 y0 dx dy wx0 wy0 wx1 wy1) n0 d0 n1 d1 →
      post 1 (zz_I w, zz_I h, zz_I wx0, zz_I wy0, zz_I wx1, zz_I wy1, 1, zz_I ((x0 * d0 + n0 * dx) / d0), zz_I ((y0 * d0 + n0 * dy) / d0), zz_I ((x0 * d1 + n1 * dx) / d1), zz_I ((y0 * d1 + n1 * dy) / d1), pix)) :
    wX_clipLine_62 post (zz_I x0) (zz_I y0) (zz_I dx) (zz_I dy) (zz_I w) (zz_I h) (zz_I wx0) (zz_I wy0) (zz_I wx1) (zz_I wy1) hv e0 e1 e2 e3 pix (0 + 1 + 1 + 1 + 1 + 1) (zz_I 0) (zz_I 1) (zz_I 1) (zz_I 1) 0 := by
  obtain ⟨f1, f2, f3, f4, f5, f6, f7, f8, f9, f10⟩ := F
  rw [wX_clipLine_62]
  refine br_f (by decide) (br_t rfl (nm_r (zz_neg dx) (nm_r (zz_sub x0 wx0) ?_)))
  refine cx_144 (cx_0 (C := cd_C x0 y0 dx dy wx0 wy0 wx1 wy1) (Or.inl ⟨rfl, rfl⟩) (Or.inr (Or.inl ⟨rfl, rfl⟩))) (by omega) (by omega) (by omega) (by omega)
    (by unfold cd_C; omega) (by unfold cd_C; omega) (fun H => K0 (fun s t z => H s t z.1 ((ff_all z.1).mp z).1.1.1)) ?_
  intro n0 d0 n1 d1 I
  rw [wX_clipLine_62]
  refine br_f (by decide) (br_f (by decide) (br_t (by decide) (nm_r (zz_sub wx1 x0) ?_)))
  refine cx_144 I (by omega) (by omega) (by omega) (by omega)
    (by unfold cd_C; omega) (by unfold cd_C; omega) (fun H => K0 (fun s t z => H s t z.1 ((ff_all z.1).mp z).1.1)) ?_
  clear I n0 d0 n1 d1
  intro n0 d0 n1 d1 I
  rw [wX_clipLine_62]
  refine br_f (by decide) (br_f (by decide) (br_f (by decide) (br_t (by decide) (nm_r (zz_neg dy) (nm_r (zz_sub y0 wy0) ?_)))))
  refine cx_144 I (by omega) (by omega) (by omega) (by omega)
    (by unfold cd_C; omega) (by unfold cd_C; omega) (fun H => K0 (fun s t z => H s t z.1 ((ff_all z.1).mp z).1)) ?_
  clear I n0 d0 n1 d1
  intro n0 d0 n1 d1 I
  rw [wX_clipLine_62]
  refine br_f (by decide) (br_f (by decide) (br_f (by decide) (br_f (by decide) (nm_r (zz_sub wy1 y0) ?_))))
  refine cx_144 I (by omega) (by omega) (by omega) (by omega)
    (by unfold cd_C; omega) (by unfold cd_C; omega) (fun H => K0 (fun s t z => H s t z.1 ((ff_all z.1).mp z))) ?_
  clear I n0 d0 n1 d1
  intro n0 d0 n1 d1 I
  exact cx_L4 x1 x2 y1 y2 u1 u2 v1 v2 I K1 0
end
theorem xb_bad {post : Int32 → Prop} {a : Int} (R : zz_R a) (K0 : -4096 ≤ a ∧ a ≤ 4096 → post 0) (K1 : ¬ (-4096 ≤ a ∧ a ≤ 4096) → post 1) : wpX_bad post (zz_I a) := by
  unfold wpX_bad
  refine zz_bt a (-4096) (fun t => K1 (by omega)) (fun t => ?_) rfl zz_cm R
  refine zz_bl a 4096 (fun t => K0 (by omega)) (fun t => K1 (by omega)) rfl zz_c4096 R
theorem yb_in {post : Int32 → Prop} {a : Int} (R : zz_R a) (K1 : -4096 ≤ a ∧ a ≤ 4096 → post 1) (K0 : ¬ (-4096 ≤ a ∧ a ≤ 4096) → post 0) : wpY_inRange post (zz_I a) := by
  unfold wpY_inRange
  refine zz_bt a (-4096) (fun t => K0 (by omega)) (fun t => ?_) rfl zz_cm R
  refine zz_bt 4096 a (fun t => K0 (by omega)) (fun t => K1 (by omega)) zz_c4096 rfl (by unfold zz_R; omega) R
end
section
/-! Part 05: clipLine, the reference's side, and the owed row -/
/-- Y's state behind some candidates -/
def cy_I (Fe S : Int → Int → Prop) (fo lp lq hp hq : Int32) : Prop :=
  (fo = 0 ∧ ∀ s t, S s t → ¬ Fe s t) ∨
  (fo = 1 ∧ ∃ a b c d : Int, lp = zz_I a ∧ lq = zz_I b ∧ hp = zz_I c ∧ hq = zz_I d ∧
    (0 ≤ a ∧ a ≤ 8192 ∧ 0 < b ∧ b ≤ 8192 ∧ 0 ≤ c ∧ c ≤ 8192 ∧ 0 < d ∧ d ≤ 8192) ∧ Fe a b ∧ Fe c d ∧
    ∀ s t, S s t → Fe s t → (a * t ≤ s * b ∧ s * d ≤ c * t))
/-- one candidate more -/
def cy_S (S : Int → Int → Prop) (p q : Int) (s t : Int) : Prop := S s t ∨ (s = p ∧ t = q)
theorem cy_no {Fe S : Int → Int → Prop} {fo lp lq hp hq : Int32} {p q : Int} (I : cy_I Fe S fo lp lq hp hq) (h : ¬ Fe p q) : cy_I Fe (cy_S S p q) fo lp lq hp hq := by
  rcases I with ⟨e, i⟩ | ⟨e, a, b, c, d, e1, e2, e3, e4, bd, k1, k2, i⟩
  · refine Or.inl ⟨e, fun s t z => ?_⟩
    rcases z with z | ⟨z1, z2⟩
    · exact i s t z
    · rw [z1, z2]; exact h
  · refine Or.inr ⟨e, a, b, c, d, e1, e2, e3, e4, bd, k1, k2, fun s t z g => ?_⟩
    rcases z with z | ⟨z1, z2⟩
    · exact i s t z g
    · rw [z1, z2] at g; exact absurd g h
theorem cy_first {Fe S : Int → Int → Prop} {lp lq hp hq : Int32} {p q : Int} (I : cy_I Fe S 0 lp lq hp hq) (b : 0 ≤ p ∧ p ≤ 8192 ∧ 0 < q ∧ q ≤ 8192) (h : Fe p q) :
    cy_I Fe (cy_S S p q) 1 (zz_I p) (zz_I q) (zz_I p) (zz_I q) := by
  rcases I with ⟨_, i⟩ | ⟨e, _⟩
  · refine Or.inr ⟨rfl, p, q, p, q, rfl, rfl, rfl, rfl, by omega, h, h, fun s t z g => ?_⟩
    rcases z with z | ⟨z1, z2⟩
    · exact absurd g (i s t z)
    · rw [z1, z2]; exact ⟨Int.le_refl _, Int.le_refl _⟩
  · exact absurd e (by decide)
theorem cy_sub {Fe S S' : Int → Int → Prop} {fo lp lq hp hq : Int32} (h : ∀ s t, S' s t → S s t) (I : cy_I Fe S fo lp lq hp hq) : cy_I Fe S' fo lp lq hp hq := by
  rcases I with ⟨e, i⟩ | ⟨e, a, b, c, d, e1, e2, e3, e4, bd, k1, k2, i⟩
  · exact Or.inl ⟨e, fun s t z => i s t (h s t z)⟩
  · exact Or.inr ⟨e, a, b, c, d, e1, e2, e3, e4, bd, k1, k2, fun s t z => i s t (h s t z)⟩
section
variable {post : SY → Prop} {w h wx0 wy0 wx1 wy1 x0 y0 x1 y1 p q : Int} {S : Int → Int → Prop} {hv ax ay bx bw fo lp lq hp hq : Int32} {frame : Nat → Int32}
theorem cy_10 (F : rl_F w h wx0 wy0 wx1 wy1) (xa : -4096 ≤ x0) (xb : x0 ≤ 4096) (ya : -4096 ≤ y0) (yb : y0 ≤ 4096)
    (xc : -4096 ≤ x1) (xd : x1 ≤ 4096) (yc : -4096 ≤ y1) (yd : y1 ≤ 4096) (p1 : -8192 ≤ p) (p2 : p ≤ 8192) (q1 : 0 < q) (q2 : q ≤ 8192)
    (I : cy_I (fe_P x0 y0 (x1 - x0) (y1 - y0) wx0 wy0 wx1 wy1) S fo lp lq hp hq)
    (K : ∀ fo lp lq hp hq, cy_I (fe_P x0 y0 (x1 - x0) (y1 - y0) wx0 wy0 wx1 wy1) (cy_S S p q) fo lp lq hp hq →
      post (zz_I w, zz_I h, zz_I wx0, zz_I wy0, zz_I wx1, zz_I wy1, hv, ax, ay, bx, bw, zz_I x0, zz_I y0, zz_I x1, zz_I y1, fo, lp, lq, hp, hq, frame)) :
    wY_consider_10 post (zz_I p) (zz_I q) (zz_I w) (zz_I h) (zz_I wx0) (zz_I wy0) (zz_I wx1) (zz_I wy1) hv ax ay bx bw (zz_I x0) (zz_I y0) (zz_I x1) (zz_I y1) fo lp lq hp hq frame := by
  obtain ⟨f1, f2, f3, f4, f5, f6, f7, f8, f9, f10⟩ := F
  have N : ¬ fe_P x0 y0 (x1 - x0) (y1 - y0) wx0 wy0 wx1 wy1 p q →
      post (zz_I w, zz_I h, zz_I wx0, zz_I wy0, zz_I wx1, zz_I wy1, hv, ax, ay, bx, bw, zz_I x0, zz_I y0, zz_I x1, zz_I y1, fo, lp, lq, hp, hq, frame) :=
    fun z => K fo lp lq hp hq (cy_no I z)
  have m1 := mb_mul (a := x0) (b := q) (A := 8192) (B := 8192) (by omega) (by omega) (by omega) (by omega) (by omega) (by omega)
  have m2 := mb_mul (a := y0) (b := q) (A := 8192) (B := 8192) (by omega) (by omega) (by omega) (by omega) (by omega) (by omega)
  have m3 := mb_mul (a := x1 - x0) (b := p) (A := 8192) (B := 8192) (by omega) (by omega) (by omega) (by omega) (by omega) (by omega)
  have m4 := mb_mul (a := y1 - y0) (b := p) (A := 8192) (B := 8192) (by omega) (by omega) (by omega) (by omega) (by omega) (by omega)
  have m5 := mb_mul (a := wx0) (b := q) (A := 8192) (B := 8192) (by omega) (by omega) (by omega) (by omega) (by omega) (by omega)
  have m6 := mb_mul (a := wx1) (b := q) (A := 8192) (B := 8192) (by omega) (by omega) (by omega) (by omega) (by omega) (by omega)
  have m7 := mb_mul (a := wy0) (b := q) (A := 8192) (B := 8192) (by omega) (by omega) (by omega) (by omega) (by omega) (by omega)
  have m8 := mb_mul (a := wy1) (b := q) (A := 8192) (B := 8192) (by omega) (by omega) (by omega) (by omega) (by omega) (by omega)
  unfold wY_consider_10
  refine zz_bt p 0 (fun t => N (fun z => by have := z.2.1; omega)) (fun t1 => ?_)
  refine zz_bl p q (fun t2 => ?_) (fun t => N (fun z => by have := z.2.2.1; omega))
  refine nm_r (e' := zz_I (x0 * q + (x1 - x0) * p)) (by simp only [zz_mul, zz_add, zz_sub]) ?_
  refine nm_r (e' := zz_I (y0 * q + (y1 - y0) * p)) (by simp only [zz_mul, zz_add, zz_sub]) ?_
  refine zz_bt (x0 * q + (x1 - x0) * p) (wx0 * q) (fun t => N (fun z => by have := z.2.2.2.1; omega)) (fun t3 => ?_) rfl (zz_mul _ _)
  refine zz_bl (x0 * q + (x1 - x0) * p) (wx1 * q) (fun t4 => ?_) (fun t => N (fun z => by have := z.2.2.2.2.1; omega)) rfl (zz_mul _ _)
  refine zz_bt (y0 * q + (y1 - y0) * p) (wy0 * q) (fun t => N (fun z => by have := z.2.2.2.2.2.1; omega)) (fun t5 => ?_) rfl (zz_mul _ _)
  refine zz_bl (y0 * q + (y1 - y0) * p) (wy1 * q) (fun t6 => ?_) (fun t => N (fun z => by have := z.2.2.2.2.2.2; omega)) rfl (zz_mul _ _)
  have G : fe_P x0 y0 (x1 - x0) (y1 - y0) wx0 wy0 wx1 wy1 p q := ⟨q1, t1, t2, t3, t4, t5, t6⟩
  clear N
  by_cases z : fo = 0
  · subst z
    exact br_t rfl (K _ _ _ _ _ (cy_first I (by omega) G))
  · refine br_f z ?_
    rcases I with ⟨e, i⟩ | ⟨e, a, b, c, d, e1, e2, e3, e4, bd, k1, k2, i⟩
    · exact absurd e z
    · subst e; subst e1; subst e2; subst e3; subst e4
      have n1 := mb_mul (a := a) (b := q) (A := 8192) (B := 8192) (by omega) (by omega) (by omega) (by omega) (by omega) (by omega)
      have n2 := mb_mul (a := p) (b := b) (A := 8192) (B := 8192) (by omega) (by omega) (by omega) (by omega) (by omega) (by omega)
      have n3 := mb_mul (a := p) (b := d) (A := 8192) (B := 8192) (by omega) (by omega) (by omega) (by omega) (by omega) (by omega)
      have n4 := mb_mul (a := c) (b := q) (A := 8192) (B := 8192) (by omega) (by omega) (by omega) (by omega) (by omega) (by omega)
      have H : ∀ a' b' : Int, (0 ≤ a' ∧ a' ≤ 8192 ∧ 0 < b' ∧ b' ≤ 8192) → fe_P x0 y0 (x1 - x0) (y1 - y0) wx0 wy0 wx1 wy1 a' b' →
          (∀ s t, cy_S S p q s t → fe_P x0 y0 (x1 - x0) (y1 - y0) wx0 wy0 wx1 wy1 s t → a' * t ≤ s * b') →
          wY_consider_161 post (zz_I p) (zz_I q) (zz_I w) (zz_I h) (zz_I wx0) (zz_I wy0) (zz_I wx1) (zz_I wy1) hv ax ay bx bw (zz_I x0) (zz_I y0) (zz_I x1) (zz_I y1) 1 (zz_I a') (zz_I b') (zz_I c) (zz_I d) frame := by
        intro a' b' bd' g' L
        unfold wY_consider_161
        refine zz_bl (p * d) (c * q) (fun t => ?_) (fun t => ?_) (zz_mul _ _) (zz_mul _ _)
        · refine K _ _ _ _ _ (Or.inr ⟨rfl, a', b', c, d, rfl, rfl, rfl, rfl, by omega, g', k2, fun s u z g => ⟨L s u z g, ?_⟩⟩)
          rcases z with z | ⟨z1, z2⟩
          · exact (i s u z g).2
          · rw [z1, z2]; exact t
        · refine K _ _ _ _ _ (Or.inr ⟨rfl, a', b', p, q, rfl, rfl, rfl, rfl, by omega, g', G, fun s u z g => ⟨L s u z g, ?_⟩⟩)
          rcases z with z | ⟨z1, z2⟩
          · exact fr_tr (a := s) (b := u) (c := c) (d := d) (e := p) (f := q) g.1 (by omega) q1 (i s u z g).2 (by omega)
          · rw [z1, z2]; exact Int.le_refl _
      refine zz_bl (a * q) (p * b) (fun t => ?_) (fun t => ?_) (zz_mul _ _) (zz_mul _ _)
      · refine H a b (by omega) k1 (fun s u z g => ?_)
        rcases z with z | ⟨z1, z2⟩
        · exact (i s u z g).1
        · rw [z1, z2]; exact t
      · refine H p q (by omega) G (fun s u z g => ?_)
        rcases z with z | ⟨z1, z2⟩
        · exact fr_tr (a := p) (b := q) (c := a) (d := b) (e := s) (f := u) q1 (by omega) g.1 (by omega) (i s u z g).1
        · rw [z1, z2]; exact Int.le_refl _
/-- a candidate with its sign: np/nq is p/q, nq positive -/
theorem cy_con {x y : Int32} {np nq : Int} (F : rl_F w h wx0 wy0 wx1 wy1) (xa : -4096 ≤ x0) (xb : x0 ≤ 4096) (ya : -4096 ≤ y0) (yb : y0 ≤ 4096)
    (xc : -4096 ≤ x1) (xd : x1 ≤ 4096) (yc : -4096 ≤ y1) (yd : y1 ≤ 4096) (p1 : -8192 ≤ p) (p2 : p ≤ 8192) (q1 : -8192 ≤ q) (q2 : q ≤ 8192)
    (ex : x = zz_I p) (ey : y = zz_I q) (hn : (0 < q ∧ np = p ∧ nq = q) ∨ (q < 0 ∧ np = -p ∧ nq = -q))
    (I : cy_I (fe_P x0 y0 (x1 - x0) (y1 - y0) wx0 wy0 wx1 wy1) S fo lp lq hp hq)
    (K : ∀ fo lp lq hp hq, cy_I (fe_P x0 y0 (x1 - x0) (y1 - y0) wx0 wy0 wx1 wy1) (cy_S S np nq) fo lp lq hp hq →
      post (zz_I w, zz_I h, zz_I wx0, zz_I wy0, zz_I wx1, zz_I wy1, hv, ax, ay, bx, bw, zz_I x0, zz_I y0, zz_I x1, zz_I y1, fo, lp, lq, hp, hq, frame)) :
    wpY_consider post (zz_I w, zz_I h, zz_I wx0, zz_I wy0, zz_I wx1, zz_I wy1, hv, ax, ay, bx, bw, zz_I x0, zz_I y0, zz_I x1, zz_I y1, fo, lp, lq, hp, hq, frame) x y := by
  subst ex; subst ey
  unfold wpY_consider
  dsimp only
  rcases hn with ⟨z, e1, e2⟩ | ⟨z, e1, e2⟩
  · subst e1; subst e2
    refine zz_bl 0 nq (fun t => ?_) (fun t => by omega)
    exact cy_10 F xa xb ya yb xc xd yc yd p1 p2 z q2 I K
  · subst e1; subst e2
    refine zz_bl 0 q (fun t => by omega) (fun t => ?_)
    refine nm_r (zz_neg p) (nm_r (zz_neg q) ?_)
    exact cy_10 F xa xb ya yb xc xd yc yd (by omega) (by omega) (by omega) (by omega) I K
end
section
variable {post : Int32 → SY → Prop} {w h wx0 wy0 wx1 wy1 x0 y0 x1 y1 : Int} {S : Int → Int → Prop} {ax ay bx bw fo lp lq hp hq s0 s1 s2 s3 hv : Int32} {frame : Nat → Int32}
theorem cy_143 (xa : -4096 ≤ x0) (xb : x0 ≤ 4096) (ya : -4096 ≤ y0) (yb : y0 ≤ 4096)
    (xc : -4096 ≤ x1) (xd : x1 ≤ 4096) (yc : -4096 ≤ y1) (yd : y1 ≤ 4096)
    (I : cy_I (fe_P x0 y0 (x1 - x0) (y1 - y0) wx0 wy0 wx1 wy1) S fo lp lq hp hq)
    (K0 : (∀ s t, S s t → ¬ fe_P x0 y0 (x1 - x0) (y1 - y0) wx0 wy0 wx1 wy1 s t) →
      post 0 (zz_I w, zz_I h, zz_I wx0, zz_I wy0, zz_I wx1, zz_I wy1, 0, ax, ay, bx, bw, s0, s1, s2, s3, fo, lp, lq, hp, hq, frame))
    (K1 : ∀ a b c d : Int, (0 < b ∧ 0 < d) → fe_P x0 y0 (x1 - x0) (y1 - y0) wx0 wy0 wx1 wy1 a b → fe_P x0 y0 (x1 - x0) (y1 - y0) wx0 wy0 wx1 wy1 c d →
      (∀ s t, S s t → fe_P x0 y0 (x1 - x0) (y1 - y0) wx0 wy0 wx1 wy1 s t → (a * t ≤ s * b ∧ s * d ≤ c * t)) →
      post 1 (zz_I w, zz_I h, zz_I wx0, zz_I wy0, zz_I wx1, zz_I wy1, 1, zz_I ((x0 * b + (x1 - x0) * a) / b), zz_I ((y0 * b + (y1 - y0) * a) / b),
        zz_I ((x0 * d + (x1 - x0) * c) / d), zz_I ((y0 * d + (y1 - y0) * c) / d), s0, s1, s2, s3, fo, lp, lq, hp, hq, frame)) :
    wY_clipLine_143 post (zz_I x0) (zz_I y0) (zz_I (x1 - x0)) (zz_I (y1 - y0)) (zz_I w) (zz_I h) (zz_I wx0) (zz_I wy0) (zz_I wx1) (zz_I wy1) 0 ax ay bx bw s0 s1 s2 s3 fo lp lq hp hq frame := by
  unfold wY_clipLine_143
  rcases I with ⟨e, i⟩ | ⟨e, a, b, c, d, e1, e2, e3, e4, bd, k1, k2, i⟩
  · exact br_t e (K0 i)
  · have k := K1 a b c d (by omega) k1 k2 i
    subst e; subst e1; subst e2; subst e3; subst e4
    have m1 := mb_mul (a := x0) (b := b) (A := 8192) (B := 8192) (by omega) (by omega) (by omega) (by omega) (by omega) (by omega)
    have m2 := mb_mul (a := y0) (b := b) (A := 8192) (B := 8192) (by omega) (by omega) (by omega) (by omega) (by omega) (by omega)
    have m3 := mb_mul (a := x0) (b := d) (A := 8192) (B := 8192) (by omega) (by omega) (by omega) (by omega) (by omega) (by omega)
    have m4 := mb_mul (a := y0) (b := d) (A := 8192) (B := 8192) (by omega) (by omega) (by omega) (by omega) (by omega) (by omega)
    have m5 := mb_mul (a := x1 - x0) (b := a) (A := 8192) (B := 8192) (by omega) (by omega) (by omega) (by omega) (by omega) (by omega)
    have m6 := mb_mul (a := y1 - y0) (b := a) (A := 8192) (B := 8192) (by omega) (by omega) (by omega) (by omega) (by omega) (by omega)
    have m7 := mb_mul (a := x1 - x0) (b := c) (A := 8192) (B := 8192) (by omega) (by omega) (by omega) (by omega) (by omega) (by omega)
    have m8 := mb_mul (a := y1 - y0) (b := c) (A := 8192) (B := 8192) (by omega) (by omega) (by omega) (by omega) (by omega) (by omega)
    refine br_f (by decide) ?_
    refine fd_Y (x0 * b + (x1 - x0) * a) b (by omega) (by simp only [zz_mul, zz_add]) rfl (by unfold zz_R; omega) (by unfold zz_R; omega) ?_
    refine fd_Y (y0 * b + (y1 - y0) * a) b (by omega) (by simp only [zz_mul, zz_add]) rfl (by unfold zz_R; omega) (by unfold zz_R; omega) ?_
    refine fd_Y (x0 * d + (x1 - x0) * c) d (by omega) (by simp only [zz_mul, zz_add]) rfl (by unfold zz_R; omega) (by unfold zz_R; omega) ?_
    refine fd_Y (y0 * d + (y1 - y0) * c) d (by omega) (by simp only [zz_mul, zz_add]) rfl (by unfold zz_R; omega) (by unfold zz_R; omega) ?_
    exact k
/-- Y's clipping: what both outcomes say -/
theorem cy_clip (F : rl_F w h wx0 wy0 wx1 wy1) (xa : -4096 ≤ x0) (xb : x0 ≤ 4096) (ya : -4096 ≤ y0) (yb : y0 ≤ 4096)
    (xc : -4096 ≤ x1) (xd : x1 ≤ 4096) (yc : -4096 ≤ y1) (yd : y1 ≤ 4096)
    (K0 : (∀ s t, cd_C x0 y0 (x1 - x0) (y1 - y0) wx0 wy0 wx1 wy1 s t → ¬ fe_P x0 y0 (x1 - x0) (y1 - y0) wx0 wy0 wx1 wy1 s t) → ∀ s0 s1 s2 s3 fo lp lq hp hq,
      post 0 (zz_I w, zz_I h, zz_I wx0, zz_I wy0, zz_I wx1, zz_I wy1, 0, ax, ay, bx, bw, s0, s1, s2, s3, fo, lp, lq, hp, hq, frame))
    (K1 : ∀ a b c d : Int, (0 < b ∧ 0 < d) → fe_P x0 y0 (x1 - x0) (y1 - y0) wx0 wy0 wx1 wy1 a b → fe_P x0 y0 (x1 - x0) (y1 - y0) wx0 wy0 wx1 wy1 c d →
      (∀ s t, cd_C x0 y0 (x1 - x0) (y1 - y0) wx0 wy0 wx1 wy1 s t → fe_P x0 y0 (x1 - x0) (y1 - y0) wx0 wy0 wx1 wy1 s t → (a * t ≤ s * b ∧ s * d ≤ c * t)) →
      ∀ s0 s1 s2 s3 fo lp lq hp hq,
      post 1 (zz_I w, zz_I h, zz_I wx0, zz_I wy0, zz_I wx1, zz_I wy1, 1, zz_I ((x0 * b + (x1 - x0) * a) / b), zz_I ((y0 * b + (y1 - y0) * a) / b),
        zz_I ((x0 * d + (x1 - x0) * c) / d), zz_I ((y0 * d + (y1 - y0) * c) / d), s0, s1, s2, s3, fo, lp, lq, hp, hq, frame)) :
    wpY_clipLine post (zz_I w, zz_I h, zz_I wx0, zz_I wy0, zz_I wx1, zz_I wy1, hv, ax, ay, bx, bw, s0, s1, s2, s3, fo, lp, lq, hp, hq, frame) (zz_I x0) (zz_I y0) (zz_I x1) (zz_I y1) := by
  have F' := F
  obtain ⟨f1, f2, f3, f4, f5, f6, f7, f8, f9, f10⟩ := F
  have E143 : ∀ (S : Int → Int → Prop) (fo lp lq hp hq : Int32), cy_I (fe_P x0 y0 (x1 - x0) (y1 - y0) wx0 wy0 wx1 wy1) S fo lp lq hp hq →
      (∀ s t, cd_C x0 y0 (x1 - x0) (y1 - y0) wx0 wy0 wx1 wy1 s t → S s t) →
      wY_clipLine_143 post (zz_I x0) (zz_I y0) (zz_I (x1 - x0)) (zz_I (y1 - y0)) (zz_I w) (zz_I h) (zz_I wx0) (zz_I wy0) (zz_I wx1) (zz_I wy1) 0 ax ay bx bw (zz_I x0) (zz_I y0) (zz_I x1) (zz_I y1) fo lp lq hp hq frame := by
    intro S fo lp lq hp hq I hS
    exact cy_143 xa xb ya yb xc xd yc yd (cy_sub hS I) (fun z => K0 z _ _ _ _ _ _ _ _ _) (fun a b c d z k1 k2 i => K1 a b c d z k1 k2 i _ _ _ _ _ _ _ _ _)
  have E114 : ∀ (S : Int → Int → Prop) (fo lp lq hp hq : Int32), cy_I (fe_P x0 y0 (x1 - x0) (y1 - y0) wx0 wy0 wx1 wy1) S fo lp lq hp hq →
      S 0 1 → S 1 1 → (0 < x1 - x0 → S (wx0 - x0) (x1 - x0) ∧ S (wx1 - x0) (x1 - x0)) → (x1 - x0 < 0 → S (-(wx0 - x0)) (-(x1 - x0)) ∧ S (-(wx1 - x0)) (-(x1 - x0))) →
      wY_clipLine_114 post (zz_I x0) (zz_I y0) (zz_I (x1 - x0)) (zz_I (y1 - y0)) (zz_I w) (zz_I h) (zz_I wx0) (zz_I wy0) (zz_I wx1) (zz_I wy1) 0 ax ay bx bw (zz_I x0) (zz_I y0) (zz_I x1) (zz_I y1) fo lp lq hp hq frame := by
    intro S fo lp lq hp hq I h01 h11 hp1 hn1
    unfold wY_clipLine_114
    refine zz_be (y1 - y0) 0 (fun z => ?_) (fun z => ?_)
    · refine E143 S fo lp lq hp hq I (fun s t c => ?_)
      rcases c with ⟨rfl, rfl⟩ | ⟨rfl, rfl⟩ | ⟨c1, rfl, c2⟩ | ⟨c1, rfl, c2⟩ | ⟨c1, _⟩ | ⟨c1, _⟩
      · exact h01
      · exact h11
      · rcases c2 with rfl | rfl
        · exact (hp1 c1).1
        · exact (hp1 c1).2
      · rcases c2 with rfl | rfl
        · exact (hn1 c1).1
        · exact (hn1 c1).2
      · omega
      · omega
    · by_cases sg : 0 < y1 - y0
      · refine cy_con (p := wy0 - y0) (q := y1 - y0) F' xa xb ya yb xc xd yc yd (by omega) (by omega) (by omega) (by omega) (zz_sub _ _) rfl (Or.inl ⟨sg, rfl, rfl⟩) I (fun fo lp lq hp hq I1 => ?_)
        refine cy_con (p := wy1 - y0) (q := y1 - y0) F' xa xb ya yb xc xd yc yd (by omega) (by omega) (by omega) (by omega) (zz_sub _ _) rfl (Or.inl ⟨sg, rfl, rfl⟩) I1 (fun fo lp lq hp hq I2 => ?_)
        refine E143 _ fo lp lq hp hq I2 (fun s t c => ?_)
        rcases c with ⟨rfl, rfl⟩ | ⟨rfl, rfl⟩ | ⟨c1, rfl, c2⟩ | ⟨c1, rfl, c2⟩ | ⟨c1, rfl, c2⟩ | ⟨c1, _⟩
        · exact Or.inl (Or.inl h01)
        · exact Or.inl (Or.inl h11)
        · rcases c2 with rfl | rfl
          · exact Or.inl (Or.inl (hp1 c1).1)
          · exact Or.inl (Or.inl (hp1 c1).2)
        · rcases c2 with rfl | rfl
          · exact Or.inl (Or.inl (hn1 c1).1)
          · exact Or.inl (Or.inl (hn1 c1).2)
        · rcases c2 with rfl | rfl
          · exact Or.inl (Or.inr ⟨rfl, rfl⟩)
          · exact Or.inr ⟨rfl, rfl⟩
        · omega
      · have sg' : y1 - y0 < 0 := by omega
        refine cy_con (p := wy0 - y0) (q := y1 - y0) F' xa xb ya yb xc xd yc yd (by omega) (by omega) (by omega) (by omega) (zz_sub _ _) rfl (Or.inr ⟨sg', rfl, rfl⟩) I (fun fo lp lq hp hq I1 => ?_)
        refine cy_con (p := wy1 - y0) (q := y1 - y0) F' xa xb ya yb xc xd yc yd (by omega) (by omega) (by omega) (by omega) (zz_sub _ _) rfl (Or.inr ⟨sg', rfl, rfl⟩) I1 (fun fo lp lq hp hq I2 => ?_)
        refine E143 _ fo lp lq hp hq I2 (fun s t c => ?_)
        rcases c with ⟨rfl, rfl⟩ | ⟨rfl, rfl⟩ | ⟨c1, rfl, c2⟩ | ⟨c1, rfl, c2⟩ | ⟨c1, _⟩ | ⟨c1, rfl, c2⟩
        · exact Or.inl (Or.inl h01)
        · exact Or.inl (Or.inl h11)
        · rcases c2 with rfl | rfl
          · exact Or.inl (Or.inl (hp1 c1).1)
          · exact Or.inl (Or.inl (hp1 c1).2)
        · rcases c2 with rfl | rfl
          · exact Or.inl (Or.inl (hn1 c1).1)
          · exact Or.inl (Or.inl (hn1 c1).2)
        · omega
        · rcases c2 with rfl | rfl
          · exact Or.inl (Or.inr ⟨rfl, rfl⟩)
          · exact Or.inr ⟨rfl, rfl⟩
  unfold wpY_clipLine
  dsimp only
  refine yb_in (by unfold zz_R; omega) (fun _ => br_f (by decide) ?_) (fun z => by omega)
  refine yb_in (by unfold zz_R; omega) (fun _ => br_f (by decide) ?_) (fun z => by omega)
  refine yb_in (by unfold zz_R; omega) (fun _ => br_f (by decide) ?_) (fun z => by omega)
  refine yb_in (by unfold zz_R; omega) (fun _ => br_f (by decide) ?_) (fun z => by omega)
  refine cy_con (S := fun _ _ => False) (p := 0) (q := 1) F' xa xb ya yb xc xd yc yd (by omega) (by omega) (by omega) (by omega) zz_c0 zz_c1 (Or.inl ⟨by omega, rfl, rfl⟩)
    (Or.inl ⟨rfl, fun s t z => absurd z id⟩) (fun fo lp lq hp hq I1 => ?_)
  refine cy_con (p := 1) (q := 1) F' xa xb ya yb xc xd yc yd (by omega) (by omega) (by omega) (by omega) zz_c1 zz_c1 (Or.inl ⟨by omega, rfl, rfl⟩)
    I1 (fun fo lp lq hp hq I2 => ?_)
  refine nm_r (zz_sub x1 x0) (nm_r (zz_sub y1 y0) ?_)
  refine zz_be (x1 - x0) 0 (fun z => ?_) (fun z => ?_)
  · exact E114 _ fo lp lq hp hq I2 (Or.inl (Or.inr ⟨rfl, rfl⟩)) (Or.inr ⟨rfl, rfl⟩) (fun t => by omega) (fun t => by omega)
  · by_cases sg : 0 < x1 - x0
    · refine cy_con (p := wx0 - x0) (q := x1 - x0) F' xa xb ya yb xc xd yc yd (by omega) (by omega) (by omega) (by omega) (zz_sub _ _) rfl (Or.inl ⟨sg, rfl, rfl⟩) I2 (fun fo lp lq hp hq I3 => ?_)
      refine cy_con (p := wx1 - x0) (q := x1 - x0) F' xa xb ya yb xc xd yc yd (by omega) (by omega) (by omega) (by omega) (zz_sub _ _) rfl (Or.inl ⟨sg, rfl, rfl⟩) I3 (fun fo lp lq hp hq I4 => ?_)
      exact E114 _ fo lp lq hp hq I4 (Or.inl (Or.inl (Or.inl (Or.inr ⟨rfl, rfl⟩)))) (Or.inl (Or.inl (Or.inr ⟨rfl, rfl⟩)))
        (fun _ => ⟨Or.inl (Or.inr ⟨rfl, rfl⟩), Or.inr ⟨rfl, rfl⟩⟩) (fun t => by omega)
    · have sg' : x1 - x0 < 0 := by omega
      refine cy_con (p := wx0 - x0) (q := x1 - x0) F' xa xb ya yb xc xd yc yd (by omega) (by omega) (by omega) (by omega) (zz_sub _ _) rfl (Or.inr ⟨sg', rfl, rfl⟩) I2 (fun fo lp lq hp hq I3 => ?_)
      refine cy_con (p := wx1 - x0) (q := x1 - x0) F' xa xb ya yb xc xd yc yd (by omega) (by omega) (by omega) (by omega) (zz_sub _ _) rfl (Or.inr ⟨sg', rfl, rfl⟩) I3 (fun fo lp lq hp hq I4 => ?_)
      exact E114 _ fo lp lq hp hq I4 (Or.inl (Or.inl (Or.inl (Or.inr ⟨rfl, rfl⟩)))) (Or.inl (Or.inl (Or.inr ⟨rfl, rfl⟩)))
        (fun t => by omega) (fun _ => ⟨Or.inl (Or.inr ⟨rfl, rfl⟩), Or.inr ⟨rfl, rfl⟩⟩)
/-- Y refuses a point out of range -/
theorem cy_bad (Ra : zz_R x0) (Rb : zz_R y0) (Rc : zz_R x1) (Rd : zz_R y1)
    (hb : ¬ ((-4096 ≤ x0 ∧ x0 ≤ 4096) ∧ (-4096 ≤ y0 ∧ y0 ≤ 4096) ∧ (-4096 ≤ x1 ∧ x1 ≤ 4096) ∧ (-4096 ≤ y1 ∧ y1 ≤ 4096))) {g0 g1 g2 g3 g4 g5 : Int32}
    (K : post 0 (g0, g1, g2, g3, g4, g5, 0, ax, ay, bx, bw, s0, s1, s2, s3, fo, lp, lq, hp, hq, frame)) :
    wpY_clipLine post (g0, g1, g2, g3, g4, g5, hv, ax, ay, bx, bw, s0, s1, s2, s3, fo, lp, lq, hp, hq, frame) (zz_I x0) (zz_I y0) (zz_I x1) (zz_I y1) := by
  unfold wpY_clipLine
  dsimp only
  refine yb_in Ra (fun z1 => br_f (by decide) ?_) (fun _ => br_t rfl K)
  refine yb_in Rb (fun z2 => br_f (by decide) ?_) (fun _ => br_t rfl K)
  refine yb_in Rc (fun z3 => br_f (by decide) ?_) (fun _ => br_t rfl K)
  refine yb_in Rd (fun z4 => absurd ⟨z1, z2, z3, z4⟩ hb) (fun _ => br_t rfl K)
end
theorem cx_main {post : Int32 → SX → Prop} {x0 y0 x1 y1 : Int} {g0 g1 g2 g3 g4 g5 hv e0 e1 e2 e3 : Int32} {pix : Nat → Int32}
    (Ra : zz_R x0) (Rb : zz_R y0) (Rc : zz_R x1) (Rd : zz_R y1)
    (K0 : ¬ ((-4096 ≤ x0 ∧ x0 ≤ 4096) ∧ (-4096 ≤ y0 ∧ y0 ≤ 4096) ∧ (-4096 ≤ x1 ∧ x1 ≤ 4096) ∧ (-4096 ≤ y1 ∧ y1 ≤ 4096)) → post 0 (g0, g1, g2, g3, g4, g5, 0, e0, e1, e2, e3, pix))
    (K1 : ((-4096 ≤ x0 ∧ x0 ≤ 4096) ∧ (-4096 ≤ y0 ∧ y0 ≤ 4096) ∧ (-4096 ≤ x1 ∧ x1 ≤ 4096) ∧ (-4096 ≤ y1 ∧ y1 ≤ 4096)) →
      wX_clipLine_62 post (zz_I x0) (zz_I y0) (zz_I (x1 - x0)) (zz_I (y1 - y0)) g0 g1 g2 g3 g4 g5 hv e0 e1 e2 e3 pix (0 + 1 + 1 + 1 + 1 + 1) 0 1 1 1 0) :
    wpX_clipLine post (g0, g1, g2, g3, g4, g5, hv, e0, e1, e2, e3, pix) (zz_I x0) (zz_I y0) (zz_I x1) (zz_I y1) := by
  unfold wpX_clipLine
  dsimp only
  refine xb_bad Ra (fun z1 => br_t rfl ?_) (fun z => br_f (by decide) (K0 (fun q => z q.1)))
  refine xb_bad Rb (fun z2 => br_t rfl ?_) (fun z => br_f (by decide) (K0 (fun q => z q.2.1)))
  refine xb_bad Rc (fun z3 => br_t rfl ?_) (fun z => br_f (by decide) (K0 (fun q => z q.2.2.1)))
  refine xb_bad Rd (fun z4 => br_t rfl ?_) (fun z => br_f (by decide) (K0 (fun q => z q.2.2.2)))
  exact nm_r (zz_sub x1 x0) (nm_r (zz_sub y1 y0) ⟨_, K1 ⟨z1, z2, z3, z4⟩⟩)
theorem i_vc_clipLine {k : Nat} {u : SX} {v : SY} (I : i_Rel k u v) (hk : k + 6 ≤ 3074) (v1 : Int32) (v2 : Int32) (v3 : Int32) (v4 : Int32) : wpX_clipLine (fun r u' => wpY_clipLine (fun r' v' => r' = r ∧ i_Rel (k + 6) u' v') v v1 v2 v3 v4) u v1 v2 v3 v4 := by
  obtain ⟨x0, Ra, rfl⟩ := zz_ex v1
  obtain ⟨y0, Rb, rfl⟩ := zz_ex v2
  obtain ⟨x1, Rc, rfl⟩ := zz_ex v3
  obtain ⟨y1, Rd, rfl⟩ := zz_ex v4
  refine rl_el (P := fun u v => wpX_clipLine (fun r u' => wpY_clipLine (fun r' v' => r' = r ∧ i_Rel (k + 6) u' v') v (zz_I x0) (zz_I y0) (zz_I x1) (zz_I y1)) u (zz_I x0) (zz_I y0) (zz_I x1) (zz_I y1)) I ?_
  intro w h wx0 wy0 wx1 wy1 hv e0 e1 e2 e3 ax ay bx bw s0 s1 s2 s3 fo lp lq hp hq pix frame F E A
  refine cx_main Ra Rb Rc Rd (fun z => ?_) (fun z => ?_)
  · exact cy_bad Ra Rb Rc Rd z ⟨rfl, rl_mk F (Or.inl rfl) A⟩
  · obtain ⟨⟨xa, xb⟩, ⟨ya, yb⟩, ⟨xc, xd⟩, yc, yd⟩ := z
    refine cx_clip F xa xb ya yb (by omega) (by omega) (by omega) (by omega) (fun N => ?_) (fun n0 d0 n1 d1 X => ?_)
    · exact cy_clip F xa xb ya yb xc xd yc yd (fun _ _ _ _ _ _ _ _ _ _ => ⟨rfl, rl_mk F (Or.inl rfl) A⟩) (fun a b c d _ k1 _ _ => absurd k1 (N a b))
    · obtain ⟨b0, i1, i2, i3, i4⟩ := X
      have q0 : fe_P x0 y0 (x1 - x0) (y1 - y0) wx0 wy0 wx1 wy1 n0 d0 := (i4 n0 d0 b0.1).mpr ⟨Int.le_refl _, i1⟩
      have q1 : fe_P x0 y0 (x1 - x0) (y1 - y0) wx0 wy0 wx1 wy1 n1 d1 := (i4 n1 d1 b0.2.2.1).mpr ⟨i1, Int.le_refl _⟩
      refine cy_clip F xa xb ya yb xc xd yc yd (fun N => absurd q0 (N n0 d0 i2)) (fun a b c d bd k1 k2 i => ?_)
      intro s0 s1 s2 s3 fo lp lq hp hq
      have t1 := (i n0 d0 i2 q0).1
      have t2 := (i n1 d1 i3 q1).2
      have t3 := ((i4 a b bd.1).mp k1).1
      have t4 := ((i4 c d bd.2).mp k2).2
      have h1 : n0 * b = a * d0 := by omega
      have h2 : n1 * d = c * d1 := by omega
      have r1 := fr_fl (x := x0) (e := x1 - x0) b0.1 bd.1 h1
      have r2 := fr_fl (x := y0) (e := y1 - y0) b0.1 bd.1 h1
      have r3 := fr_fl (x := x0) (e := x1 - x0) b0.2.2.1 bd.2 h2
      have r4 := fr_fl (x := y0) (e := y1 - y0) b0.2.2.1 bd.2 h2
      refine ⟨rfl, rl_mk F (Or.inr ⟨?_, ?_, ?_, ?_⟩) A⟩
      · rw [r1]
      · rw [r2]
      · rw [r3]
      · rw [r4]
end
section
/-! Part 06: line -/
/-- b is the integer nearest the line at a, halves upward; a the major coordinate, da positive -/
def nr_P (sa sb da db a b : Int) : Prop :=
  sa ≤ a ∧ a ≤ sa + da ∧ -da ≤ 2 * (db * (a - sa) - da * (b - sb)) ∧ 2 * (db * (a - sa) - da * (b - sb)) < da
theorem nr_iff {sa sb da db i b : Int} (hd : 0 < da) (i0 : 0 ≤ i) (i1 : i ≤ da) :
    nr_P sa sb da db (sa + i) b ↔ b = sb + (2 * i * db + da) / (2 * da) := by
  have e : (2 * i * db + da) / (2 * da) = b - sb ↔ (b - sb) * (2 * da) ≤ 2 * i * db + da ∧ 2 * i * db + da < (b - sb) * (2 * da) + 2 * da := fl_iff (by omega)
  have a1 : (b - sb) * (2 * da) = 2 * (da * (b - sb)) := by
    rw [Int.mul_left_comm, Int.mul_comm (b - sb) da]
  have a2 : 2 * i * db = 2 * (db * i) := by rw [Int.mul_assoc, Int.mul_comm i db]
  have a3 : sa + i - sa = i := by omega
  rw [a1, a2] at e
  unfold nr_P
  rw [a3, a2]
  constructor
  · rintro ⟨_, _, t1, t2⟩
    have := e.mpr ⟨by omega, by omega⟩
    omega
  · intro t
    have := e.mp (by omega)
    exact ⟨by omega, by omega, by omega, by omega⟩
/-- the size of an integer -/
def ab_V (d : Int) : Int := if 0 ≤ d then d else -d
/-- on the line from (x0, y0) to (x1, y1) -/
def ln_P (x0 y0 x1 y1 x y : Int) : Prop :=
  (x1 - x0 = 0 ∧ y1 - y0 = 0 ∧ x = x0 ∧ y = y0) ∨
  (¬ (x1 - x0 = 0 ∧ y1 - y0 = 0) ∧
    ((ab_V (y1 - y0) ≤ ab_V (x1 - x0) ∧ ((0 ≤ x1 - x0 ∧ nr_P x0 y0 (x1 - x0) (y1 - y0) x y) ∨ (x1 - x0 < 0 ∧ nr_P x1 y1 (-(x1 - x0)) (-(y1 - y0)) x y))) ∨
     (ab_V (x1 - x0) < ab_V (y1 - y0) ∧ ((0 ≤ y1 - y0 ∧ nr_P y0 x0 (y1 - y0) (x1 - x0) y x) ∨ (y1 - y0 < 0 ∧ nr_P y1 x1 (-(y1 - y0)) (-(x1 - x0)) y x)))))
section
variable {post : Int32 → SX → Prop} {w h wx0 wy0 wx1 wy1 dx dy sx sy : Int} {hv e0 e1 e2 e3 c : Int32} {a0 : Nat → Int32}
/-- X's loop, x the major coordinate -/
theorem xl_132 (F : rl_F w h wx0 wy0 wx1 wy1) (d1 : 0 < dx) (d2 : dx ≤ 8192) (d3 : -dx ≤ dy) (d4 : dy ≤ dx)
    (s1 : -4096 ≤ sx) (s2 : sx ≤ 4096) (s3 : -4096 ≤ sy) (s4 : sy ≤ 4096)
    (K : ∀ r a, dr_I 32 w h c a0 (fun x y => rl_W wx0 wy0 wx1 wy1 x y ∧ nr_P sx sy dx dy x y) r a →
      post r (zz_I w, zz_I h, zz_I wx0, zz_I wy0, zz_I wx1, zz_I wy1, hv, e0, e1, e2, e3, a)) :
    ∀ (n : Nat) (i : Int) (r : Int32) (a : Nat → Int32), 0 ≤ i → i ≤ dx + 1 → (dx + 1 - i).toNat < n →
      dr_I 32 w h c a0 (fun x y => rl_W wx0 wy0 wx1 wy1 x y ∧ nr_P sx sy dx dy x y ∧ x < sx + i) r a →
      wX_line_132 post c (zz_I dx) (zz_I dy) (zz_I sx) (zz_I sy) n r (zz_I i) (zz_I w) (zz_I h) (zz_I wx0) (zz_I wy0) (zz_I wx1) (zz_I wy1) hv e0 e1 e2 e3 a := by
  intro n
  induction n with
  | zero => intro i r a _ _ h; omega
  | succ n ih =>
    intro i r a h0 h1 hn I
    rw [wX_line_132]
    refine zz_bt dx i (fun t => ?_) (fun t => ?_)
    · refine K r a (dr_ext (fun x y => ?_) I)
      unfold nr_P
      constructor
      · rintro ⟨t1, t2⟩
        exact ⟨t1, t2, by omega⟩
      · rintro ⟨t1, t2, _⟩
        exact ⟨t1, t2⟩
    · have m := mb_mul (a := i) (b := dy) (A := 8192) (B := 8192) (by omega) (by omega) (by omega) (by omega) (by omega) (by omega)
      have m' : 2 * i * dy = 2 * (i * dy) := Int.mul_assoc 2 i dy
      have N := fun b => nr_iff (sa := sx) (sb := sy) (da := dx) (db := dy) (i := i) (b := b) d1 h0 t
      have q := fl_bd (a := 2 * i * dy + dx) (d := 2 * dx) (B := 1000000000) (by omega) (by omega) (by omega) (by omega)
      refine fd_X (2 * i * dy + dx) (2 * dx) (by omega) (by simp only [zz_c2, zz_mul, zz_add]) (by simp only [zz_c2, zz_mul]) (by unfold zz_R; omega) (by unfold zz_R; omega) ?_
      refine nm_r (zz_add _ _) ?_
      refine xp_put (sx + i) (sy + (2 * i * dy + dx) / (2 * dx)) (fun x y => rl_W wx0 wy0 wx1 wy1 x y ∧ nr_P sx sy dx dy x y ∧ x < sx + (i + 1)) F I
        (zz_add _ _) rfl (by unfold zz_R; omega) (by unfold zz_R; omega) (fun x y => ?_) (fun z => by have := z.2.2; omega) (fun r' a' I' => ?_)
      · constructor
        · rintro ⟨t1, t2, t3⟩
          by_cases e : x = sx + i
          · subst e
            exact Or.inr ⟨t1, rfl, (N _).mp t2⟩
          · exact Or.inl ⟨t1, t2, by omega⟩
        · rintro (⟨t1, t2, t3⟩ | ⟨t1, t2, t3⟩)
          · exact ⟨t1, t2, by omega⟩
          · subst t2
            exact ⟨t1, (N _).mpr t3, by omega⟩
      · refine nm_e (nm_r (e' := zz_I (i + 1)) (by rw [zz_c1, zz_add]) ?_)
        exact ih (i + 1) (r + r') a' (by omega) (by omega) (by omega) I'
/-- X's loop, y the major coordinate -/
theorem xl_213 (F : rl_F w h wx0 wy0 wx1 wy1) (d1 : 0 < dy) (d2 : dy ≤ 8192) (d3 : -dy ≤ dx) (d4 : dx ≤ dy)
    (s1 : -4096 ≤ sx) (s2 : sx ≤ 4096) (s3 : -4096 ≤ sy) (s4 : sy ≤ 4096)
    (K : ∀ r a, dr_I 32 w h c a0 (fun x y => rl_W wx0 wy0 wx1 wy1 x y ∧ nr_P sy sx dy dx y x) r a →
      post r (zz_I w, zz_I h, zz_I wx0, zz_I wy0, zz_I wx1, zz_I wy1, hv, e0, e1, e2, e3, a)) :
    ∀ (n : Nat) (i : Int) (r : Int32) (a : Nat → Int32), 0 ≤ i → i ≤ dy + 1 → (dy + 1 - i).toNat < n →
      dr_I 32 w h c a0 (fun x y => rl_W wx0 wy0 wx1 wy1 x y ∧ nr_P sy sx dy dx y x ∧ y < sy + i) r a →
      wX_line_213 post c (zz_I dx) (zz_I dy) (zz_I sx) (zz_I sy) n r (zz_I i) (zz_I w) (zz_I h) (zz_I wx0) (zz_I wy0) (zz_I wx1) (zz_I wy1) hv e0 e1 e2 e3 a := by
  intro n
  induction n with
  | zero => intro i r a _ _ h; omega
  | succ n ih =>
    intro i r a h0 h1 hn I
    rw [wX_line_213]
    refine zz_bt dy i (fun t => ?_) (fun t => ?_)
    · refine K r a (dr_ext (fun x y => ?_) I)
      unfold nr_P
      constructor
      · rintro ⟨t1, t2⟩
        exact ⟨t1, t2, by omega⟩
      · rintro ⟨t1, t2, _⟩
        exact ⟨t1, t2⟩
    · have m := mb_mul (a := i) (b := dx) (A := 8192) (B := 8192) (by omega) (by omega) (by omega) (by omega) (by omega) (by omega)
      have m' : 2 * i * dx = 2 * (i * dx) := Int.mul_assoc 2 i dx
      have N := fun b => nr_iff (sa := sy) (sb := sx) (da := dy) (db := dx) (i := i) (b := b) d1 h0 t
      have q := fl_bd (a := 2 * i * dx + dy) (d := 2 * dy) (B := 1000000000) (by omega) (by omega) (by omega) (by omega)
      refine fd_X (2 * i * dx + dy) (2 * dy) (by omega) (by simp only [zz_c2, zz_mul, zz_add]) (by simp only [zz_c2, zz_mul]) (by unfold zz_R; omega) (by unfold zz_R; omega) ?_
      refine nm_r (zz_add _ _) ?_
      refine xp_put (sx + (2 * i * dx + dy) / (2 * dy)) (sy + i) (fun x y => rl_W wx0 wy0 wx1 wy1 x y ∧ nr_P sy sx dy dx y x ∧ y < sy + (i + 1)) F I
        rfl (zz_add _ _) (by unfold zz_R; omega) (by unfold zz_R; omega) (fun x y => ?_) (fun z => by have := z.2.2; omega) (fun r' a' I' => ?_)
      · constructor
        · rintro ⟨t1, t2, t3⟩
          by_cases e : y = sy + i
          · subst e
            exact Or.inr ⟨t1, (N _).mp t2, rfl⟩
          · exact Or.inl ⟨t1, t2, by omega⟩
        · rintro (⟨t1, t2, t3⟩ | ⟨t1, t2, t3⟩)
          · exact ⟨t1, t2, by omega⟩
          · subst t3
            exact ⟨t1, (N _).mpr t2, by omega⟩
      · refine nm_e (nm_r (e' := zz_I (i + 1)) (by rw [zz_c1, zz_add]) ?_)
        exact ih (i + 1) (r + r') a' (by omega) (by omega) (by omega) I'
end
section
variable {post : Int32 → SX → Prop} {w h wx0 wy0 wx1 wy1 x0 y0 x1 y1 : Int} {hv e0 e1 e2 e3 c : Int32} {a0 : Nat → Int32}
/-- X's drawing, behind the range checks -/
theorem xl_91 (F : rl_F w h wx0 wy0 wx1 wy1) (xa : -4096 ≤ x0) (xb : x0 ≤ 4096) (ya : -4096 ≤ y0) (yb : y0 ≤ 4096)
    (xc : -4096 ≤ x1) (xd : x1 ≤ 4096) (yc : -4096 ≤ y1) (yd : y1 ≤ 4096) (nz : ¬ (x1 - x0 = 0 ∧ y1 - y0 = 0))
    (K : ∀ r a, dr_I 32 w h c a0 (fun x y => rl_W wx0 wy0 wx1 wy1 x y ∧ ln_P x0 y0 x1 y1 x y) r a →
      post r (zz_I w, zz_I h, zz_I wx0, zz_I wy0, zz_I wx1, zz_I wy1, hv, e0, e1, e2, e3, a)) :
    wX_line_91 post (zz_I x0) (zz_I y0) (zz_I x1) (zz_I y1) c (zz_I (x1 - x0)) (zz_I (y1 - y0)) (zz_I (ab_V (x1 - x0))) (zz_I (ab_V (y1 - y0)))
      (zz_I w) (zz_I h) (zz_I wx0) (zz_I wy0) (zz_I wx1) (zz_I wy1) hv e0 e1 e2 e3 a0 := by
  have G : ∀ D : Int → Int → Prop, (∀ x y, D x y ↔ ln_P x0 y0 x1 y1 x y) → ∀ r a, dr_I 32 w h c a0 (fun x y => rl_W wx0 wy0 wx1 wy1 x y ∧ D x y) r a →
      post r (zz_I w, zz_I h, zz_I wx0, zz_I wy0, zz_I wx1, zz_I wy1, hv, e0, e1, e2, e3, a) :=
    fun D hD r a I => K r a (dr_ext (fun x y => by rw [hD]) I)
  have a1 : (0 ≤ x1 - x0 ∧ ab_V (x1 - x0) = x1 - x0) ∨ (x1 - x0 < 0 ∧ ab_V (x1 - x0) = -(x1 - x0)) := by unfold ab_V; omega
  have a2 : (0 ≤ y1 - y0 ∧ ab_V (y1 - y0) = y1 - y0) ∨ (y1 - y0 < 0 ∧ ab_V (y1 - y0) = -(y1 - y0)) := by unfold ab_V; omega
  unfold wX_line_91
  refine zz_bt (ab_V (x1 - x0)) (ab_V (y1 - y0)) (fun t => ?_) (fun t => ?_)
  · refine zz_bl 0 (y1 - y0) (fun s => ?_) (fun s => ?_)
    · refine ⟨(y1 - y0 + 1).toNat + 1, ?_⟩
      refine xl_213 F (by omega) (by omega) (by omega) (by omega) xa xb ya yb (G _ (fun x y => ?_)) _ 0 0 a0 (by omega) (by omega) (by omega) (dr_0 (fun x y z => ?_))
      · unfold ln_P
        exact ⟨fun z => Or.inr ⟨nz, Or.inr ⟨t, Or.inl ⟨s, z⟩⟩⟩, fun z => by
          rcases z with z | ⟨_, ⟨z, _⟩ | ⟨_, ⟨_, z⟩ | ⟨z, _⟩⟩⟩
          · exact absurd ⟨z.1, z.2.1⟩ nz
          · omega
          · exact z
          · omega⟩
      · have := z.2.1.1; have := z.2.2; omega
    · refine nm_r (zz_neg _) (nm_r (zz_neg _) ⟨(-(y1 - y0) + 1).toNat + 1, ?_⟩)
      refine xl_213 F (by omega) (by omega) (by omega) (by omega) xc xd yc yd (G _ (fun x y => ?_)) _ 0 0 a0 (by omega) (by omega) (by omega) (dr_0 (fun x y z => ?_))
      · unfold ln_P
        exact ⟨fun z => Or.inr ⟨nz, Or.inr ⟨t, Or.inr ⟨s, z⟩⟩⟩, fun z => by
          rcases z with z | ⟨_, ⟨z, _⟩ | ⟨_, ⟨z, _⟩ | ⟨_, z⟩⟩⟩
          · exact absurd ⟨z.1, z.2.1⟩ nz
          · omega
          · omega
          · exact z⟩
      · have := z.2.1.1; have := z.2.2; omega
  · refine zz_bl 0 (x1 - x0) (fun s => ?_) (fun s => ?_)
    · refine ⟨(x1 - x0 + 1).toNat + 1, ?_⟩
      refine xl_132 F (by omega) (by omega) (by omega) (by omega) xa xb ya yb (G _ (fun x y => ?_)) _ 0 0 a0 (by omega) (by omega) (by omega) (dr_0 (fun x y z => ?_))
      · unfold ln_P
        exact ⟨fun z => Or.inr ⟨nz, Or.inl ⟨t, Or.inl ⟨s, z⟩⟩⟩, fun z => by
          rcases z with z | ⟨_, ⟨_, ⟨_, z⟩ | ⟨z, _⟩⟩ | ⟨z, _⟩⟩
          · exact absurd ⟨z.1, z.2.1⟩ nz
          · exact z
          · omega
          · omega⟩
      · have := z.2.1.1; have := z.2.2; omega
    · refine nm_r (zz_neg _) (nm_r (zz_neg _) ⟨(-(x1 - x0) + 1).toNat + 1, ?_⟩)
      refine xl_132 F (by omega) (by omega) (by omega) (by omega) xc xd yc yd (G _ (fun x y => ?_)) _ 0 0 a0 (by omega) (by omega) (by omega) (dr_0 (fun x y z => ?_))
      · unfold ln_P
        exact ⟨fun z => Or.inr ⟨nz, Or.inl ⟨t, Or.inr ⟨s, z⟩⟩⟩, fun z => by
          rcases z with z | ⟨_, ⟨_, ⟨z, _⟩ | ⟨_, z⟩⟩ | ⟨z, _⟩⟩
          · exact absurd ⟨z.1, z.2.1⟩ nz
          · omega
          · exact z
          · omega⟩
      · have := z.2.1.1; have := z.2.2; omega
theorem xl_70 (F : rl_F w h wx0 wy0 wx1 wy1) (xa : -4096 ≤ x0) (xb : x0 ≤ 4096) (ya : -4096 ≤ y0) (yb : y0 ≤ 4096)
    (xc : -4096 ≤ x1) (xd : x1 ≤ 4096) (yc : -4096 ≤ y1) (yd : y1 ≤ 4096)
    (K : ∀ r a, dr_I 32 w h c a0 (fun x y => rl_W wx0 wy0 wx1 wy1 x y ∧ ln_P x0 y0 x1 y1 x y) r a →
      post r (zz_I w, zz_I h, zz_I wx0, zz_I wy0, zz_I wx1, zz_I wy1, hv, e0, e1, e2, e3, a)) :
    wX_line_70 post (zz_I x0) (zz_I y0) (zz_I x1) (zz_I y1) c (zz_I (x1 - x0)) (zz_I (y1 - y0)) (zz_I (ab_V (x1 - x0))) (zz_I (ab_V (y1 - y0)))
      (zz_I w) (zz_I h) (zz_I wx0) (zz_I wy0) (zz_I wx1) (zz_I wy1) hv e0 e1 e2 e3 a0 := by
  unfold wX_line_70
  refine zz_be (x1 - x0) 0 (fun t => ?_) (fun t => xl_91 F xa xb ya yb xc xd yc yd (by omega) K)
  refine zz_be (y1 - y0) 0 (fun s => ?_) (fun s => xl_91 F xa xb ya yb xc xd yc yd (by omega) K)
  refine xp_put x0 y0 (fun x y => rl_W wx0 wy0 wx1 wy1 x y ∧ ln_P x0 y0 x1 y1 x y) F (dr_0 (D := fun _ _ => False) (fun _ _ z => z)) rfl rfl (by unfold zz_R; omega) (by unfold zz_R; omega)
    (fun x y => ?_) (fun z => z) (fun r' a' I' => ?_)
  · unfold ln_P
    constructor
    · rintro ⟨z1, z2⟩
      rcases z2 with z2 | ⟨z2, _⟩
      · exact Or.inr ⟨z1, z2.2.2⟩
      · omega
    · rintro (z | ⟨z1, z2⟩)
      · exact absurd z id
      · exact ⟨z1, Or.inl ⟨t, s, z2⟩⟩
  · rw [Int32.zero_add] at I'
    exact K r' a' I'
theorem xl_line (Ra : zz_R x0) (Rb : zz_R y0) (Rc : zz_R x1) (Rd : zz_R y1) (F : rl_F w h wx0 wy0 wx1 wy1)
    (K0 : ¬ ((-4096 ≤ x0 ∧ x0 ≤ 4096) ∧ (-4096 ≤ y0 ∧ y0 ≤ 4096) ∧ (-4096 ≤ x1 ∧ x1 ≤ 4096) ∧ (-4096 ≤ y1 ∧ y1 ≤ 4096)) →
      post (-1) (zz_I w, zz_I h, zz_I wx0, zz_I wy0, zz_I wx1, zz_I wy1, hv, e0, e1, e2, e3, a0))
    (K : ((-4096 ≤ x0 ∧ x0 ≤ 4096) ∧ (-4096 ≤ y0 ∧ y0 ≤ 4096) ∧ (-4096 ≤ x1 ∧ x1 ≤ 4096) ∧ (-4096 ≤ y1 ∧ y1 ≤ 4096)) →
      ∀ r a, dr_I 32 w h c a0 (fun x y => rl_W wx0 wy0 wx1 wy1 x y ∧ ln_P x0 y0 x1 y1 x y) r a →
      post r (zz_I w, zz_I h, zz_I wx0, zz_I wy0, zz_I wx1, zz_I wy1, hv, e0, e1, e2, e3, a)) :
    wpX_line post (zz_I w, zz_I h, zz_I wx0, zz_I wy0, zz_I wx1, zz_I wy1, hv, e0, e1, e2, e3, a0) (zz_I x0) (zz_I y0) (zz_I x1) (zz_I y1) c := by
  unfold wpX_line
  dsimp only
  refine xb_bad Ra (fun z1 => br_t rfl ?_) (fun z => br_f (by decide) (K0 (fun q => z q.1)))
  refine xb_bad Rb (fun z2 => br_t rfl ?_) (fun z => br_f (by decide) (K0 (fun q => z q.2.1)))
  refine xb_bad Rc (fun z3 => br_t rfl ?_) (fun z => br_f (by decide) (K0 (fun q => z q.2.2.1)))
  refine xb_bad Rd (fun z4 => br_t rfl ?_) (fun z => br_f (by decide) (K0 (fun q => z q.2.2.2)))
  refine nm_r (zz_sub x1 x0) (nm_r (zz_sub y1 y0) ?_)
  have L70 := xl_70 (post := post) (hv := hv) (e0 := e0) (e1 := e1) (e2 := e2) (e3 := e3) F z1.1 z1.2 z2.1 z2.2 z3.1 z3.2 z4.1 z4.2 (K ⟨z1, z2, z3, z4⟩)
  have L55 : wX_line_55 post (zz_I x0) (zz_I y0) (zz_I x1) (zz_I y1) c (zz_I (x1 - x0)) (zz_I (y1 - y0)) (zz_I (ab_V (x1 - x0)))
      (zz_I w) (zz_I h) (zz_I wx0) (zz_I wy0) (zz_I wx1) (zz_I wy1) hv e0 e1 e2 e3 a0 := by
    unfold wX_line_55
    refine zz_bl 0 (y1 - y0) (fun s => ?_) (fun s => ?_)
    · have e : ab_V (y1 - y0) = y1 - y0 := by unfold ab_V; omega
      rw [e] at L70; exact L70
    · have e : ab_V (y1 - y0) = -(y1 - y0) := by unfold ab_V; omega
      rw [e, ← zz_neg] at L70; exact L70
  refine zz_bl 0 (x1 - x0) (fun s => ?_) (fun s => ?_)
  · have e : ab_V (x1 - x0) = x1 - x0 := by unfold ab_V; omega
    rw [e] at L55; exact L55
  · have e : ab_V (x1 - x0) = -(x1 - x0) := by unfold ab_V; omega
    rw [e, ← zz_neg] at L55; exact L55
end
end
section
/-! Part 07: line, the reference's side, and the owed row -/
theorem yn_37 {post : Int32 → Prop} {sa sb da db a b : Int} (d1 : 0 ≤ da) (d2 : da ≤ 8192) (d3 : -8192 ≤ db) (d4 : db ≤ 8192)
    (s1 : -4096 ≤ sa) (s2 : sa ≤ 4096) (s3 : -4096 ≤ sb) (s4 : sb ≤ 4096) (a1 : 0 ≤ a) (a2 : a ≤ 32) (b1 : 0 ≤ b) (b2 : b ≤ 32)
    (K1 : nr_P sa sb da db a b → post 1) (K0 : ¬ nr_P sa sb da db a b → post 0) :
    wY_near_37 post (zz_I a) (zz_I b) (zz_I sa) (zz_I sb) (zz_I da) (zz_I db) := by
  have m1 := mb_mul (a := db) (b := a - sa) (A := 8192) (B := 8192) (by omega) (by omega) (by omega) (by omega) (by omega) (by omega)
  have m2 := mb_mul (a := da) (b := b - sb) (A := 8192) (B := 8192) (by omega) (by omega) (by omega) (by omega) (by omega) (by omega)
  unfold nr_P at K0 K1
  unfold wY_near_37
  refine zz_bt a sa (fun t => K0 (by omega)) (fun t1 => ?_)
  refine zz_bl a (sa + da) (fun t2 => ?_) (fun t => K0 (by omega)) rfl (zz_add _ _)
  refine nm_r (e' := zz_I (db * (a - sa) - da * (b - sb))) (by simp only [zz_mul, zz_sub]) ?_
  refine zz_bt (2 * (db * (a - sa) - da * (b - sb))) (-da) (fun t => K0 (by omega)) (fun t3 => ?_) (by rw [zz_c2, zz_mul]) (zz_neg _)
  refine zz_bl da (2 * (db * (a - sa) - da * (b - sb))) (fun t => K0 (by omega)) (fun t4 => K1 (by omega)) rfl (by rw [zz_c2, zz_mul])
theorem yn_near {post : Int32 → Prop} {p0 q0 p1 q1 a b : Int} (pa : -4096 ≤ p0) (pb : p0 ≤ 4096) (qa : -4096 ≤ q0) (qb : q0 ≤ 4096)
    (pc : -4096 ≤ p1) (pd : p1 ≤ 4096) (qc : -4096 ≤ q1) (qd : q1 ≤ 4096) (a1 : 0 ≤ a) (a2 : a ≤ 32) (b1 : 0 ≤ b) (b2 : b ≤ 32) (P : Prop)
    (hP : P ↔ (0 ≤ p1 - p0 ∧ nr_P p0 q0 (p1 - p0) (q1 - q0) a b) ∨ (p1 - p0 < 0 ∧ nr_P p1 q1 (-(p1 - p0)) (-(q1 - q0)) a b))
    (K1 : P → post 1) (K0 : ¬ P → post 0) :
    wpY_near (fun r => narrow .boolean (.int r) = .int r ∧ post r) (zz_I p0) (zz_I q0) (zz_I p1) (zz_I q1) (zz_I a) (zz_I b) := by
  unfold wpY_near
  refine nm_r (zz_sub p1 p0) (nm_r (zz_sub q1 q0) ?_)
  refine zz_bl 0 (p1 - p0) (fun t => ?_) (fun t => ?_)
  · refine yn_37 (by omega) (by omega) (by omega) (by omega) pa pb qa qb a1 a2 b1 b2 (fun z => ⟨narrow_b1, K1 (hP.mpr (Or.inl ⟨t, z⟩))⟩) (fun z => ⟨narrow_b0, K0 (fun y => ?_)⟩)
    rcases hP.mp y with ⟨_, y⟩ | ⟨y, _⟩
    · exact z y
    · omega
  · refine nm_r (zz_neg _) (nm_r (zz_neg _) ?_)
    refine yn_37 (by omega) (by omega) (by omega) (by omega) pc pd qc qd a1 a2 b1 b2 (fun z => ⟨narrow_b1, K1 (hP.mpr (Or.inr ⟨t, z⟩))⟩) (fun z => ⟨narrow_b0, K0 (fun y => ?_)⟩)
    rcases hP.mp y with ⟨y, _⟩ | ⟨_, y⟩
    · omega
    · exact z y
theorem yn_on {post : Int32 → Prop} {x0 y0 x1 y1 x y : Int} (xa : -4096 ≤ x0) (xb : x0 ≤ 4096) (ya : -4096 ≤ y0) (yb : y0 ≤ 4096)
    (xc : -4096 ≤ x1) (xd : x1 ≤ 4096) (yc : -4096 ≤ y1) (yd : y1 ≤ 4096) (a1 : 0 ≤ x) (a2 : x ≤ 32) (b1 : 0 ≤ y) (b2 : y ≤ 32)
    (K1 : ln_P x0 y0 x1 y1 x y → post 1) (K0 : ¬ ln_P x0 y0 x1 y1 x y → post 0) :
    wpY_onLine post (zz_I x0) (zz_I y0) (zz_I x1) (zz_I y1) (zz_I x) (zz_I y) := by
  have u1 : (0 ≤ x1 - x0 ∧ ab_V (x1 - x0) = x1 - x0) ∨ (x1 - x0 < 0 ∧ ab_V (x1 - x0) = -(x1 - x0)) := by unfold ab_V; omega
  have u2 : (0 ≤ y1 - y0 ∧ ab_V (y1 - y0) = y1 - y0) ∨ (y1 - y0 < 0 ∧ ab_V (y1 - y0) = -(y1 - y0)) := by unfold ab_V; omega
  have L58 : ¬ (x1 - x0 = 0 ∧ y1 - y0 = 0) → wY_onLine_58 post (zz_I x0) (zz_I y0) (zz_I x1) (zz_I y1) (zz_I x) (zz_I y) (zz_I (ab_V (x1 - x0))) (zz_I (ab_V (y1 - y0))) := by
    intro nz
    unfold wY_onLine_58
    refine zz_bt (ab_V (x1 - x0)) (ab_V (y1 - y0)) (fun t => ?_) (fun t => ?_)
    · refine yn_near ya yb xa xb yc yd xc xd b1 b2 a1 a2 (ln_P x0 y0 x1 y1 x y) ?_ K1 K0
      unfold ln_P
      constructor
      · rintro (z | ⟨_, ⟨z, _⟩ | ⟨_, z⟩⟩)
        · exact absurd ⟨z.1, z.2.1⟩ nz
        · omega
        · exact z
      · intro z
        exact Or.inr ⟨nz, Or.inr ⟨t, z⟩⟩
    · refine yn_near xa xb ya yb xc xd yc yd a1 a2 b1 b2 (ln_P x0 y0 x1 y1 x y) ?_ K1 K0
      unfold ln_P
      constructor
      · rintro (z | ⟨_, ⟨_, z⟩ | ⟨z, _⟩⟩)
        · exact absurd ⟨z.1, z.2.1⟩ nz
        · exact z
        · omega
      · intro z
        exact Or.inr ⟨nz, Or.inl ⟨t, z⟩⟩
  have L30 : wY_onLine_30 post (zz_I x0) (zz_I y0) (zz_I x1) (zz_I y1) (zz_I x) (zz_I y) (zz_I (ab_V (x1 - x0))) (zz_I (ab_V (y1 - y0))) := by
    unfold wY_onLine_30
    refine zz_be (ab_V (x1 - x0)) 0 (fun t => ?_) (fun t => L58 (by omega))
    refine zz_be (ab_V (y1 - y0)) 0 (fun s => ?_) (fun s => L58 (by omega))
    have z1 : x1 - x0 = 0 := by omega
    have z2 : y1 - y0 = 0 := by omega
    have e : ln_P x0 y0 x1 y1 x y ↔ x = x0 ∧ y = y0 := by
      unfold ln_P
      constructor
      · rintro (z | ⟨z, _⟩)
        · exact z.2.2
        · exact absurd ⟨z1, z2⟩ z
      · intro z
        exact Or.inl ⟨z1, z2, z⟩
    rw [e] at K1 K0
    refine zz_be x x0 (fun p => ?_) (fun p => K0 (fun q => p q.1))
    refine zz_be y y0 (fun p' => K1 ⟨p, p'⟩) (fun p => K0 (fun q => p q.2))
  have L20 : wY_onLine_20 post (zz_I x0) (zz_I y0) (zz_I x1) (zz_I y1) (zz_I x) (zz_I y) (zz_I (ab_V (x1 - x0))) (zz_I (y1 - y0)) := by
    unfold wY_onLine_20
    refine zz_bl 0 (y1 - y0) (fun t => ?_) (fun t => nm_r (zz_neg _) ?_)
    · have e : ab_V (y1 - y0) = y1 - y0 := by omega
      rw [e] at L30; exact L30
    · have e : ab_V (y1 - y0) = -(y1 - y0) := by omega
      rw [e] at L30; exact L30
  unfold wpY_onLine
  refine nm_r (zz_sub x1 x0) (nm_r (zz_sub y1 y0) ?_)
  refine zz_bl 0 (x1 - x0) (fun t => ?_) (fun t => nm_r (zz_neg _) ?_)
  · have e : ab_V (x1 - x0) = x1 - x0 := by omega
    rw [e] at L20; exact L20
  · have e : ab_V (x1 - x0) = -(x1 - x0) := by omega
    rw [e] at L20; exact L20
section
variable {post : Int32 → SY → Prop} {w h wx0 wy0 wx1 wy1 x0 y0 x1 y1 : Int} {hv ax ay bx bw s0 s1 s2 s3 fo lp lq hp hq c : Int32} {a0 : Nat → Int32}
theorem yl_40 (F : rl_F w h wx0 wy0 wx1 wy1) (xa : -4096 ≤ x0) (xb : x0 ≤ 4096) (ya : -4096 ≤ y0) (yb : y0 ≤ 4096)
    (xc : -4096 ≤ x1) (xd : x1 ≤ 4096) (yc : -4096 ≤ y1) (yd : y1 ≤ 4096)
    (K : ∀ r a, dr_I w w h c a0 (fun x y => rl_W wx0 wy0 wx1 wy1 x y ∧ ln_P x0 y0 x1 y1 x y) r a →
      post r (zz_I w, zz_I h, zz_I wx0, zz_I wy0, zz_I wx1, zz_I wy1, hv, ax, ay, bx, bw, s0, s1, s2, s3, fo, lp, lq, hp, hq, a)) :
    ∃ n, wY_line_40 post (zz_I x0) (zz_I y0) (zz_I x1) (zz_I y1) c (zz_I w) (zz_I h) (zz_I wx0) (zz_I wy0) (zz_I wx1) (zz_I wy1) hv ax ay bx bw s0 s1 s2 s3 fo lp lq hp hq n 0 (zz_I wy0) a0 := by
  have F' := F
  obtain ⟨f1, f2, f3, f4, f5, f6, f7, f8, f9, f10⟩ := F
  refine sc_all (Q := fun n r row a => wY_line_40 post (zz_I x0) (zz_I y0) (zz_I x1) (zz_I y1) c (zz_I w) (zz_I h) (zz_I wx0) (zz_I wy0) (zz_I wx1) (zz_I wy1) hv ax ay bx bw s0 s1 s2 s3 fo lp lq hp hq n r (zz_I row) a)
    (P := fun r a => post r (zz_I w, zz_I h, zz_I wx0, zz_I wy0, zz_I wx1, zz_I wy1, hv, ax, ay, bx, bw, s0, s1, s2, s3, fo, lp, lq, hp, hq, a))
    (on := ln_P x0 y0 x1 y1) F' (fun n r a k => ?_) (fun n r row a r0 r1 I J => ?_) K
  · try dsimp only
    rw [wY_line_40]
    exact zz_bt wy1 (wy1 + 1) (fun _ => k) (fun t => by omega)
  · try dsimp only at J ⊢
    rw [wY_line_40]
    refine zz_bt wy1 row (fun t => by omega) (fun t => ⟨(wx1 + 1 - wx0).toNat + 1, ?_⟩)
    refine sc_row (Q := fun m r col a => wY_line_55 post (wY_line_40 post (zz_I x0) (zz_I y0) (zz_I x1) (zz_I y1) c (zz_I w) (zz_I h) (zz_I wx0) (zz_I wy0) (zz_I wx1) (zz_I wy1) hv ax ay bx bw s0 s1 s2 s3 fo lp lq hp hq n)
        (zz_I x0) (zz_I y0) (zz_I x1) (zz_I y1) c (zz_I row) (zz_I w) (zz_I h) (zz_I wx0) (zz_I wy0) (zz_I wx1) (zz_I wy1) hv ax ay bx bw s0 s1 s2 s3 fo lp lq hp hq m r (zz_I col) a)
      (J := fun r a => wY_line_40 post (zz_I x0) (zz_I y0) (zz_I x1) (zz_I y1) c (zz_I w) (zz_I h) (zz_I wx0) (zz_I wy0) (zz_I wx1) (zz_I wy1) hv ax ay bx bw s0 s1 s2 s3 fo lp lq hp hq n r (zz_I (row + 1)) a)
      (on := ln_P x0 y0 x1 y1) F' r0 r1 (fun m r a k => ?_) (fun m r col a c0 c1 k1 k0 => ?_) J _ wx0 r a (by omega) (by omega) (by omega) I
    · try dsimp only at k ⊢
      rw [wY_line_55]
      exact zz_bt wx1 (wx1 + 1) (fun _ => nm_r (e' := zz_I (row + 1)) (by rw [zz_c1, zz_add]) k) (fun t => by omega)
    · try dsimp only at k1 k0 ⊢
      rw [wY_line_55]
      refine zz_bt wx1 col (fun t => by omega) (fun t => ?_)
      refine yn_on xa xb ya yb xc xd yc yd (by omega) (by omega) (by omega) (by omega) (fun z => br_f (by decide) ?_) (fun z => br_t rfl ?_)
      · have bd := ix_bd (m := w) (x := col) (y := row) (by omega) (by omega) (by omega) (by omega) (by omega)
        have R : zz_R (row * w + col) := by unfold zz_R; omega
        have e : zz_I row * zz_I w + zz_I col = zz_I (row * w + col) := by rw [zz_mul, zz_add]
        rw [e, zz_clamp R]
        exact ⟨zz_in bd.1 bd.2 R, nm_e (nm_e (nm_r (e' := zz_I (col + 1)) (by rw [zz_c1, zz_add]) (k1 z)))⟩
      · exact nm_r (e' := zz_I (col + 1)) (by rw [zz_c1, zz_add]) (k0 z)
theorem yl_line (Ra : zz_R x0) (Rb : zz_R y0) (Rc : zz_R x1) (Rd : zz_R y1) (F : rl_F w h wx0 wy0 wx1 wy1)
    (K0 : ¬ ((-4096 ≤ x0 ∧ x0 ≤ 4096) ∧ (-4096 ≤ y0 ∧ y0 ≤ 4096) ∧ (-4096 ≤ x1 ∧ x1 ≤ 4096) ∧ (-4096 ≤ y1 ∧ y1 ≤ 4096)) →
      post (-1) (zz_I w, zz_I h, zz_I wx0, zz_I wy0, zz_I wx1, zz_I wy1, hv, ax, ay, bx, bw, s0, s1, s2, s3, fo, lp, lq, hp, hq, a0))
    (K : ((-4096 ≤ x0 ∧ x0 ≤ 4096) ∧ (-4096 ≤ y0 ∧ y0 ≤ 4096) ∧ (-4096 ≤ x1 ∧ x1 ≤ 4096) ∧ (-4096 ≤ y1 ∧ y1 ≤ 4096)) →
      ∀ r a, dr_I w w h c a0 (fun x y => rl_W wx0 wy0 wx1 wy1 x y ∧ ln_P x0 y0 x1 y1 x y) r a →
      post r (zz_I w, zz_I h, zz_I wx0, zz_I wy0, zz_I wx1, zz_I wy1, hv, ax, ay, bx, bw, s0, s1, s2, s3, fo, lp, lq, hp, hq, a)) :
    wpY_line post (zz_I w, zz_I h, zz_I wx0, zz_I wy0, zz_I wx1, zz_I wy1, hv, ax, ay, bx, bw, s0, s1, s2, s3, fo, lp, lq, hp, hq, a0) (zz_I x0) (zz_I y0) (zz_I x1) (zz_I y1) c := by
  unfold wpY_line
  dsimp only
  refine yb_in Ra (fun z1 => br_f (by decide) ?_) (fun z => br_t rfl (K0 (fun q => z q.1)))
  refine yb_in Rb (fun z2 => br_f (by decide) ?_) (fun z => br_t rfl (K0 (fun q => z q.2.1)))
  refine yb_in Rc (fun z3 => br_f (by decide) ?_) (fun z => br_t rfl (K0 (fun q => z q.2.2.1)))
  refine yb_in Rd (fun z4 => br_f (by decide) ?_) (fun z => br_t rfl (K0 (fun q => z q.2.2.2)))
  exact yl_40 F z1.1 z1.2 z2.1 z2.2 z3.1 z3.2 z4.1 z4.2 (K ⟨z1, z2, z3, z4⟩)
end
theorem i_vc_line {k : Nat} {u : SX} {v : SY} (I : i_Rel k u v) (hk : k + 6 ≤ 3074) (v1 : Int32) (v2 : Int32) (v3 : Int32) (v4 : Int32) (v5 : Int32) : wpX_line (fun r u' => wpY_line (fun r' v' => r' = r ∧ i_Rel (k + 6) u' v') v v1 v2 v3 v4 v5) u v1 v2 v3 v4 v5 := by
  obtain ⟨x0, Ra, rfl⟩ := zz_ex v1
  obtain ⟨y0, Rb, rfl⟩ := zz_ex v2
  obtain ⟨x1, Rc, rfl⟩ := zz_ex v3
  obtain ⟨y1, Rd, rfl⟩ := zz_ex v4
  refine rl_el (P := fun u v => wpX_line (fun r u' => wpY_line (fun r' v' => r' = r ∧ i_Rel (k + 6) u' v') v (zz_I x0) (zz_I y0) (zz_I x1) (zz_I y1) v5) u (zz_I x0) (zz_I y0) (zz_I x1) (zz_I y1) v5) I ?_
  intro w h wx0 wy0 wx1 wy1 hv e0 e1 e2 e3 ax ay bx bw s0 s1 s2 s3 fo lp lq hp hq pix frame F E A
  refine xl_line Ra Rb Rc Rd F (fun z => ?_) (fun z r a X => ?_)
  · exact yl_line Ra Rb Rc Rd F (fun _ => ⟨rfl, rl_mk F E A⟩) (fun z' => absurd z' z)
  · refine yl_line Ra Rb Rc Rd F (fun z' => absurd z z') (fun _ r' a' Y => ?_)
    obtain ⟨e, A'⟩ := dr_join A X Y
    exact ⟨e, rl_mk F E A'⟩
end
section
/-! Part 08: circle, X's side -/
/-- b is the integer nearest the root of r * r - a * a -/
def cr_P (r a b : Int) : Prop := 0 ≤ r * r - a * a ∧ r * r - a * a ≤ b * b + b ∧ (b = 0 ∨ b * b - b < r * r - a * a)
theorem sq_mono {a b : Int} (h0 : 0 ≤ a) (h : a ≤ b) : a * a ≤ b * b := Int.mul_le_mul h h h0 (by omega)
theorem sq_le {a r : Int} (h0 : 0 ≤ r) (h : 0 ≤ r * r - a * a) : a ≤ r := by
  by_cases z : a ≤ r
  · exact z
  · have := sq_mono (a := r + 1) (b := a) (by omega) (by omega)
    rw [Int.add_mul, Int.mul_add] at this
    omega
theorem cr_mono {r a b a' b' : Int} (h0 : 0 ≤ a) (h : a ≤ a') (hb : 0 ≤ b) (hb' : 0 ≤ b') (P : cr_P r a b) (P' : cr_P r a' b') : b' ≤ b := by
  obtain ⟨p1, p2, p3⟩ := P
  obtain ⟨q1, q2, q3⟩ := P'
  have m := sq_mono h0 h
  by_cases z : b' ≤ b
  · exact z
  · have k : (b + 1) * b ≤ b' * (b' - 1) := Int.mul_le_mul (by omega) (by omega) hb hb'
    rw [Int.add_mul, Int.mul_sub] at k
    omega
/-- the eight points of an octant's pair, one behind another -/
def ce_1 (a b u v : Int) : Prop := u = a ∧ v = b
def ce_2 (a b u v : Int) : Prop := ce_1 a b u v ∨ (u = -a ∧ v = b)
def ce_3 (a b u v : Int) : Prop := ce_2 a b u v ∨ (u = a ∧ v = -b)
def ce_4 (a b u v : Int) : Prop := ce_3 a b u v ∨ (u = -a ∧ v = -b)
def ce_5 (a b u v : Int) : Prop := ce_4 a b u v ∨ (u = b ∧ v = a)
def ce_6 (a b u v : Int) : Prop := ce_5 a b u v ∨ (u = -b ∧ v = a)
def ce_7 (a b u v : Int) : Prop := ce_6 a b u v ∨ (u = b ∧ v = -a)
def ce_8 (a b u v : Int) : Prop := ce_7 a b u v ∨ (u = -b ∧ v = -a)
theorem ce_uni {a b a' b' u v : Int} (h0 : 0 ≤ a) (h : a ≤ b) (h0' : 0 ≤ a') (h' : a' ≤ b') (e : ce_8 a b u v) (e' : ce_8 a' b' u v) : a = a' ∧ b = b' := by
  have k : ∀ {a b : Int}, 0 ≤ a → a ≤ b → ce_8 a b u v → (a = ab_V u ∧ b = ab_V v) ∨ (a = ab_V v ∧ b = ab_V u) := by
    intro a b h0 h e
    have u1 : (0 ≤ u ∧ ab_V u = u) ∨ (u < 0 ∧ ab_V u = -u) := by unfold ab_V; omega
    have u2 : (0 ≤ v ∧ ab_V v = v) ∨ (v < 0 ∧ ab_V v = -v) := by unfold ab_V; omega
    unfold ce_8 ce_7 ce_6 ce_5 ce_4 ce_3 ce_2 ce_1 at e
    omega
  have k1 := k h0 h e
  have k2 := k h0' h' e'
  omega
/-- on the circle; on its points with a below k -/
def ci_on (cx cy r x y : Int) : Prop := ∃ a b, 0 ≤ a ∧ a ≤ b ∧ cr_P r a b ∧ ce_8 a b (x - cx) (y - cy)
def ci_lo (cx cy r k x y : Int) : Prop := ∃ a b, 0 ≤ a ∧ a ≤ b ∧ a < k ∧ cr_P r a b ∧ ce_8 a b (x - cx) (y - cy)
/-- drawn before, or in the window and one of T -/
def ke_D (wx0 wy0 wx1 wy1 cx cy : Int) (D T : Int → Int → Prop) (x y : Int) : Prop := D x y ∨ (rl_W wx0 wy0 wx1 wy1 x y ∧ T (x - cx) (y - cy))
theorem ke_skip {wx0 wy0 wx1 wy1 cx cy w h : Int} {c r : Int32} {a0 a : Nat → Int32} {D T T' : Int → Int → Prop} (e : ∀ u v, T' u v ↔ T u v)
    (I : dr_I 32 w h c a0 (ke_D wx0 wy0 wx1 wy1 cx cy D T) r a) : dr_I 32 w h c a0 (ke_D wx0 wy0 wx1 wy1 cx cy D T') r a := by
  have : T' = T := funext fun x => funext fun y => propext (e x y)
  rw [this]; exact I
theorem ke_put {post : Int32 → SX → Prop} {w h wx0 wy0 wx1 wy1 cx cy : Int} {hv e0 e1 e2 e3 c r x y : Int32} {a0 a : Nat → Int32} {D T T' : Int → Int → Prop}
    (px py : Int) (F : rl_F w h wx0 wy0 wx1 wy1) (I : dr_I 32 w h c a0 (ke_D wx0 wy0 wx1 wy1 cx cy D T) r a)
    (ex : x = zz_I (cx + px)) (ey : y = zz_I (cy + py)) (hx : zz_R (cx + px)) (hy : zz_R (cy + py))
    (hT : ∀ u v, T' u v ↔ T u v ∨ (u = px ∧ v = py)) (hfD : ∀ x y, D x y → ¬ T' (x - cx) (y - cy)) (hf : ¬ T px py)
    (K : ∀ r' a', dr_I 32 w h c a0 (ke_D wx0 wy0 wx1 wy1 cx cy D T') (r + r') a' → post r' (zz_I w, zz_I h, zz_I wx0, zz_I wy0, zz_I wx1, zz_I wy1, hv, e0, e1, e2, e3, a')) :
    wpX_put post (zz_I w, zz_I h, zz_I wx0, zz_I wy0, zz_I wx1, zz_I wy1, hv, e0, e1, e2, e3, a) x y c := by
  have ax : cx + px - cx = px := by omega
  have ay : cy + py - cy = py := by omega
  refine xp_put (cx + px) (cy + py) (ke_D wx0 wy0 wx1 wy1 cx cy D T') F I ex ey hx hy (fun x y => ?_) (fun z => ?_) K
  · unfold ke_D
    rw [hT]
    constructor
    · rintro (t | ⟨t1, t2 | ⟨t2, t3⟩⟩)
      · exact Or.inl (Or.inl t)
      · exact Or.inl (Or.inr ⟨t1, t2⟩)
      · exact Or.inr ⟨t1, by omega, by omega⟩
    · rintro ((t | ⟨t1, t2⟩) | ⟨t1, t2, t3⟩)
      · exact Or.inl t
      · exact Or.inr ⟨t1, Or.inl t2⟩
      · exact Or.inr ⟨t1, Or.inr ⟨by omega, by omega⟩⟩
  · rcases z with z | ⟨_, z⟩
    · exact hfD _ _ z (by rw [ax, ay]; exact (hT px py).mpr (Or.inr ⟨rfl, rfl⟩))
    · rw [ax, ay] at z; exact hf z
section
variable {post : Int32 → SX → Prop} {J : Int32 → Int32 → Int32 → Int32 → Int32 → Int32 → Int32 → Int32 → Int32 → Int32 → Int32 → Int32 → Int32 → Int32 → Int32 → (Nat → Int32) → Prop}
  {w h wx0 wy0 wx1 wy1 cx cy a b : Int} {hv e0 e1 e2 e3 c y3 go cnt : Int32} {a0 pix : Nat → Int32} {D : Int → Int → Prop}
theorem xk_271 (F : rl_F w h wx0 wy0 wx1 wy1) (x1 : -4096 ≤ cx) (x2 : cx ≤ 4096) (y1 : -4096 ≤ cy) (y2 : cy ≤ 4096) (a1 : 0 ≤ a) (ab : a < b) (b2 : b ≤ 4096)
    (hD : ∀ x y, D x y → ¬ ce_8 a b (x - cx) (y - cy))
    (K : ∀ cnt pix, dr_I 32 w h c a0 (ke_D wx0 wy0 wx1 wy1 cx cy D (ce_8 a b)) cnt pix →
      J cnt (zz_I b) go (zz_I (a + 1)) (zz_I w) (zz_I h) (zz_I wx0) (zz_I wy0) (zz_I wx1) (zz_I wy1) hv e0 e1 e2 e3 pix)
    (I : dr_I 32 w h c a0 (ke_D wx0 wy0 wx1 wy1 cx cy D (ce_7 a b)) cnt pix) :
    wX_circle_271 post J (zz_I cx) (zz_I cy) y3 c cnt (zz_I b) go (zz_I a) (zz_I w) (zz_I h) (zz_I wx0) (zz_I wy0) (zz_I wx1) (zz_I wy1) hv e0 e1 e2 e3 pix := by
  unfold wX_circle_271
  refine zz_be a 0 (fun t => ?_) (fun t => ?_)
  · refine nm_r (e' := zz_I (a + 1)) (by rw [zz_c1, zz_add]) (K _ _ (ke_skip (fun u v => ?_) I))
    unfold ce_8 ce_7 ce_6 ce_5 ce_4 ce_3 ce_2 ce_1
    omega
  · refine zz_be b 0 (fun t => by omega) (fun s => ?_)
    refine ke_put (-b) (-a) F I (zz_sub cx b) (zz_sub cy a) (by unfold zz_R; omega) (by unfold zz_R; omega) (fun u v => Iff.rfl) hD ?_ (fun r' a' I' => ?_)
    · unfold ce_7 ce_6 ce_5 ce_4 ce_3 ce_2 ce_1
      omega
    · exact nm_e (nm_r (e' := zz_I (a + 1)) (by rw [zz_c1, zz_add]) (K _ _ I'))
theorem xk_247 (F : rl_F w h wx0 wy0 wx1 wy1) (x1 : -4096 ≤ cx) (x2 : cx ≤ 4096) (y1 : -4096 ≤ cy) (y2 : cy ≤ 4096) (a1 : 0 ≤ a) (ab : a < b) (b2 : b ≤ 4096)
    (hD : ∀ x y, D x y → ¬ ce_8 a b (x - cx) (y - cy))
    (K : ∀ cnt pix, dr_I 32 w h c a0 (ke_D wx0 wy0 wx1 wy1 cx cy D (ce_8 a b)) cnt pix →
      J cnt (zz_I b) go (zz_I (a + 1)) (zz_I w) (zz_I h) (zz_I wx0) (zz_I wy0) (zz_I wx1) (zz_I wy1) hv e0 e1 e2 e3 pix)
    (I : dr_I 32 w h c a0 (ke_D wx0 wy0 wx1 wy1 cx cy D (ce_6 a b)) cnt pix) :
    wX_circle_247 post J (zz_I cx) (zz_I cy) y3 c cnt (zz_I b) go (zz_I a) (zz_I w) (zz_I h) (zz_I wx0) (zz_I wy0) (zz_I wx1) (zz_I wy1) hv e0 e1 e2 e3 pix := by
  unfold wX_circle_247
  refine zz_be a 0 (fun t => ?_) (fun t => ?_)
  · refine xk_271 F x1 x2 y1 y2 a1 ab b2 hD K (ke_skip (fun u v => ?_) I)
    unfold ce_7 ce_6 ce_5 ce_4 ce_3 ce_2 ce_1
    omega
  · refine ke_put (T' := ce_7 a b) b (-a) F I (zz_add cx b) (zz_sub cy a) (by unfold zz_R; omega) (by unfold zz_R; omega) (fun u v => Iff.rfl) (fun x y d z => hD x y d (Or.inl z)) ?_ (fun r' a' I' => ?_)
    · unfold ce_6 ce_5 ce_4 ce_3 ce_2 ce_1
      omega
    · exact nm_e (xk_271 F x1 x2 y1 y2 a1 ab b2 hD K I')
theorem xk_197 (F : rl_F w h wx0 wy0 wx1 wy1) (x1 : -4096 ≤ cx) (x2 : cx ≤ 4096) (y1 : -4096 ≤ cy) (y2 : cy ≤ 4096) (a1 : 0 ≤ a) (ab : a ≤ b) (b2 : b ≤ 4096)
    (hD : ∀ x y, D x y → ¬ ce_8 a b (x - cx) (y - cy))
    (K : ∀ cnt pix, dr_I 32 w h c a0 (ke_D wx0 wy0 wx1 wy1 cx cy D (ce_8 a b)) cnt pix →
      J cnt (zz_I b) go (zz_I (a + 1)) (zz_I w) (zz_I h) (zz_I wx0) (zz_I wy0) (zz_I wx1) (zz_I wy1) hv e0 e1 e2 e3 pix)
    (I : dr_I 32 w h c a0 (ke_D wx0 wy0 wx1 wy1 cx cy D (ce_4 a b)) cnt pix) :
    wX_circle_197 post J (zz_I cx) (zz_I cy) y3 c cnt (zz_I b) go (zz_I a) (zz_I w) (zz_I h) (zz_I wx0) (zz_I wy0) (zz_I wx1) (zz_I wy1) hv e0 e1 e2 e3 pix := by
  unfold wX_circle_197
  refine zz_be a b (fun t => ?_) (fun t => ?_)
  · refine nm_r (e' := zz_I (a + 1)) (by rw [zz_c1, zz_add]) (K _ _ (ke_skip (fun u v => ?_) I))
    unfold ce_8 ce_7 ce_6 ce_5 ce_4 ce_3 ce_2 ce_1
    omega
  · refine ke_put (T' := ce_5 a b) b a F I (zz_add cx b) (zz_add cy a) (by unfold zz_R; omega) (by unfold zz_R; omega) (fun u v => Iff.rfl) (fun x y d z => hD x y d (Or.inl (Or.inl (Or.inl z)))) ?_ (fun r' a' I' => ?_)
    · unfold ce_4 ce_3 ce_2 ce_1
      omega
    · refine nm_e (zz_be b 0 (fun s => by omega) (fun s => ?_))
      refine ke_put (T' := ce_6 a b) (-b) a F I' (zz_sub cx b) (zz_add cy a) (by unfold zz_R; omega) (by unfold zz_R; omega) (fun u v => Iff.rfl) (fun x y d z => hD x y d (Or.inl (Or.inl z))) ?_ (fun r'' a'' I'' => ?_)
      · unfold ce_5 ce_4 ce_3 ce_2 ce_1
        omega
      · exact nm_e (xk_247 F x1 x2 y1 y2 a1 (by omega) b2 hD K I'')
theorem xk_168 (F : rl_F w h wx0 wy0 wx1 wy1) (x1 : -4096 ≤ cx) (x2 : cx ≤ 4096) (y1 : -4096 ≤ cy) (y2 : cy ≤ 4096) (a1 : 0 ≤ a) (ab : a ≤ b) (b2 : b ≤ 4096)
    (hD : ∀ x y, D x y → ¬ ce_8 a b (x - cx) (y - cy))
    (K : ∀ cnt pix, dr_I 32 w h c a0 (ke_D wx0 wy0 wx1 wy1 cx cy D (ce_8 a b)) cnt pix →
      J cnt (zz_I b) go (zz_I (a + 1)) (zz_I w) (zz_I h) (zz_I wx0) (zz_I wy0) (zz_I wx1) (zz_I wy1) hv e0 e1 e2 e3 pix)
    (I : dr_I 32 w h c a0 (ke_D wx0 wy0 wx1 wy1 cx cy D (ce_3 a b)) cnt pix) :
    wX_circle_168 post J (zz_I cx) (zz_I cy) y3 c cnt (zz_I b) go (zz_I a) (zz_I w) (zz_I h) (zz_I wx0) (zz_I wy0) (zz_I wx1) (zz_I wy1) hv e0 e1 e2 e3 pix := by
  unfold wX_circle_168
  refine zz_be a 0 (fun t => ?_) (fun t => zz_be b 0 (fun s => ?_) (fun s => ?_))
  · refine xk_197 F x1 x2 y1 y2 a1 ab b2 hD K (ke_skip (fun u v => ?_) I)
    unfold ce_4 ce_3 ce_2 ce_1
    omega
  · refine xk_197 F x1 x2 y1 y2 a1 ab b2 hD K (ke_skip (fun u v => ?_) I)
    unfold ce_4 ce_3 ce_2 ce_1
    omega
  · refine ke_put (T' := ce_4 a b) (-a) (-b) F I (zz_sub cx a) (zz_sub cy b) (by unfold zz_R; omega) (by unfold zz_R; omega) (fun u v => Iff.rfl) (fun x y d z => hD x y d (Or.inl (Or.inl (Or.inl (Or.inl z))))) ?_ (fun r' a' I' => ?_)
    · unfold ce_3 ce_2 ce_1
      omega
    · exact nm_e (xk_197 F x1 x2 y1 y2 a1 ab b2 hD K I')
theorem xk_144 (F : rl_F w h wx0 wy0 wx1 wy1) (x1 : -4096 ≤ cx) (x2 : cx ≤ 4096) (y1 : -4096 ≤ cy) (y2 : cy ≤ 4096) (a1 : 0 ≤ a) (ab : a ≤ b) (b2 : b ≤ 4096)
    (hD : ∀ x y, D x y → ¬ ce_8 a b (x - cx) (y - cy))
    (K : ∀ cnt pix, dr_I 32 w h c a0 (ke_D wx0 wy0 wx1 wy1 cx cy D (ce_8 a b)) cnt pix →
      J cnt (zz_I b) go (zz_I (a + 1)) (zz_I w) (zz_I h) (zz_I wx0) (zz_I wy0) (zz_I wx1) (zz_I wy1) hv e0 e1 e2 e3 pix)
    (I : dr_I 32 w h c a0 (ke_D wx0 wy0 wx1 wy1 cx cy D (ce_2 a b)) cnt pix) :
    wX_circle_144 post J (zz_I cx) (zz_I cy) y3 c cnt (zz_I b) go (zz_I a) (zz_I w) (zz_I h) (zz_I wx0) (zz_I wy0) (zz_I wx1) (zz_I wy1) hv e0 e1 e2 e3 pix := by
  unfold wX_circle_144
  refine zz_be b 0 (fun t => ?_) (fun t => ?_)
  · refine xk_168 F x1 x2 y1 y2 a1 ab b2 hD K (ke_skip (fun u v => ?_) I)
    unfold ce_3 ce_2 ce_1
    omega
  · refine ke_put (T' := ce_3 a b) a (-b) F I (zz_add cx a) (zz_sub cy b) (by unfold zz_R; omega) (by unfold zz_R; omega) (fun u v => Iff.rfl) (fun x y d z => hD x y d (Or.inl (Or.inl (Or.inl (Or.inl (Or.inl z)))))) ?_ (fun r' a' I' => ?_)
    · unfold ce_2 ce_1
      omega
    · exact nm_e (xk_168 F x1 x2 y1 y2 a1 ab b2 hD K I')
theorem xk_88 (F : rl_F w h wx0 wy0 wx1 wy1) (x1 : -4096 ≤ cx) (x2 : cx ≤ 4096) (y1 : -4096 ≤ cy) (y2 : cy ≤ 4096) (a1 : 0 ≤ a) (a2 : a ≤ 4096) (b1 : 0 ≤ b) (b2 : b ≤ 4096)
    (hD : a ≤ b → ∀ x y, D x y → ¬ ce_8 a b (x - cx) (y - cy))
    (K1 : a ≤ b → ∀ cnt pix, dr_I 32 w h c a0 (ke_D wx0 wy0 wx1 wy1 cx cy D (ce_8 a b)) cnt pix →
      J cnt (zz_I b) go (zz_I (a + 1)) (zz_I w) (zz_I h) (zz_I wx0) (zz_I wy0) (zz_I wx1) (zz_I wy1) hv e0 e1 e2 e3 pix)
    (K0 : b < a → J cnt (zz_I b) 0 (zz_I (a + 1)) (zz_I w) (zz_I h) (zz_I wx0) (zz_I wy0) (zz_I wx1) (zz_I wy1) hv e0 e1 e2 e3 pix)
    (I : dr_I 32 w h c a0 D cnt pix) :
    wX_circle_88 post J (zz_I cx) (zz_I cy) y3 c cnt (zz_I b) go (zz_I a) (zz_I w) (zz_I h) (zz_I wx0) (zz_I wy0) (zz_I wx1) (zz_I wy1) hv e0 e1 e2 e3 pix := by
  unfold wX_circle_88
  refine zz_bl a b (fun ab => ?_) (fun t => nm_r (e' := zz_I (a + 1)) (by rw [zz_c1, zz_add]) (K0 t))
  have hD := hD ab
  have K := K1 ab
  have I0 : dr_I 32 w h c a0 (ke_D wx0 wy0 wx1 wy1 cx cy D (fun _ _ => False)) cnt pix := by
    refine dr_ext (fun x y => ?_) I
    unfold ke_D
    exact ⟨fun z => z.elim id (fun z => absurd z.2 id), Or.inl⟩
  refine ke_put (T' := ce_1 a b) a b F I0 (zz_add cx a) (zz_add cy b) (by unfold zz_R; omega) (by unfold zz_R; omega) (fun u v => ?_)
    (fun x y d z => hD x y d (Or.inl (Or.inl (Or.inl (Or.inl (Or.inl (Or.inl (Or.inl z)))))))) (fun z => z) (fun r' a' I' => ?_)
  · unfold ce_1
    exact ⟨Or.inr, fun z => z.elim (fun z => absurd z id) id⟩
  · refine nm_e (zz_be a 0 (fun t => ?_) (fun t => ?_))
    · refine xk_144 F x1 x2 y1 y2 a1 ab b2 hD K (ke_skip (fun u v => ?_) I')
      unfold ce_2 ce_1
      omega
    · refine ke_put (T' := ce_2 a b) (-a) b F I' (zz_sub cx a) (zz_add cy b) (by unfold zz_R; omega) (by unfold zz_R; omega) (fun u v => Iff.rfl) (fun x y d z => hD x y d (Or.inl (Or.inl (Or.inl (Or.inl (Or.inl (Or.inl z))))))) ?_ (fun r'' a'' I'' => ?_)
      · unfold ce_1
        omega
      · exact nm_e (xk_144 F x1 x2 y1 y2 a1 ab b2 hD K I'')
/-- the inner loop finds the nearest integer -/
theorem xk_61 {r : Int} {y1 y2 : Int32} (a1 : 0 ≤ a) (ar : a ≤ r) (r2 : r ≤ 4096)
    (K : ∀ b, 0 ≤ b → b ≤ r → cr_P r a b →
      wX_circle_88 post J y1 y2 y3 c cnt (zz_I b) go (zz_I a) (zz_I w) (zz_I h) (zz_I wx0) (zz_I wy0) (zz_I wx1) (zz_I wy1) hv e0 e1 e2 e3 pix) :
    ∀ (n : Nat) (b : Int), 0 ≤ b → b ≤ r → b.toNat < n → r * r - a * a ≤ b * b + b →
      wX_circle_61 post J y1 y2 y3 c cnt go (zz_I a) (zz_I (r * r - a * a)) (zz_I w) (zz_I h) (zz_I wx0) (zz_I wy0) (zz_I wx1) (zz_I wy1) hv e0 e1 e2 e3 pix n (zz_I b) := by
  have s1 := sq_mono a1 ar
  have s2 := sq_mono (a := r) (b := 4096) (by omega) r2
  have s3 := Int.mul_nonneg a1 a1
  intro n
  induction n with
  | zero => intro b _ _ h; omega
  | succ n ih =>
    intro b b0 b1 hn hb
    have s4 := sq_mono (a := b) (b := 4096) b0 (by omega)
    have s5 := Int.mul_nonneg b0 b0
    rw [wX_circle_61]
    refine zz_bl b 0 (fun t => ?_) (fun t => ?_)
    · exact K b b0 b1 ⟨by omega, hb, Or.inl (by omega)⟩
    · refine zz_bt (b * b - b) (r * r - a * a) (fun s => ?_) (fun s => ?_) (by rw [zz_mul, zz_sub]) rfl
      · exact K b b0 b1 ⟨by omega, hb, Or.inr s⟩
      · refine nm_r (e' := zz_I (b - 1)) (by rw [zz_c1, zz_sub]) (ih (b - 1) (by omega) (by omega) (by omega) ?_)
        rw [Int.sub_mul, Int.mul_sub]
        omega
end
section
variable {post : Int32 → SX → Prop} {w h wx0 wy0 wx1 wy1 cx cy r : Int} {hv e0 e1 e2 e3 c : Int32} {a0 : Nat → Int32}
theorem xk_39 (F : rl_F w h wx0 wy0 wx1 wy1) (x1 : -4096 ≤ cx) (x2 : cx ≤ 4096) (y1 : -4096 ≤ cy) (y2 : cy ≤ 4096) (r1 : 0 ≤ r) (r2 : r ≤ 4096)
    (K : ∀ cnt a, dr_I 32 w h c a0 (fun x y => rl_W wx0 wy0 wx1 wy1 x y ∧ ci_on cx cy r x y) cnt a →
      post cnt (zz_I w, zz_I h, zz_I wx0, zz_I wy0, zz_I wx1, zz_I wy1, hv, e0, e1, e2, e3, a)) :
    ∀ (n : Nat) (a b : Int) (cnt : Int32) (pix : Nat → Int32), 0 ≤ a → a ≤ r + 1 → 0 ≤ b → b ≤ r → (r + 1 - a).toNat < n → r * r - a * a ≤ b * b + b →
      dr_I 32 w h c a0 (fun x y => rl_W wx0 wy0 wx1 wy1 x y ∧ ci_lo cx cy r a x y) cnt pix →
      wX_circle_39 post (zz_I cx) (zz_I cy) (zz_I r) c n cnt (zz_I b) 1 (zz_I a) (zz_I w) (zz_I h) (zz_I wx0) (zz_I wy0) (zz_I wx1) (zz_I wy1) hv e0 e1 e2 e3 pix := by
  intro n
  induction n with
  | zero => intro a b cnt pix _ _ _ _ h; omega
  | succ n ih =>
    intro a b cnt pix a1 a2 b1 b2 hn hb I
    rw [wX_circle_39]
    refine zz_bt r a (fun t => ?_) (fun t => br_f (by decide) ?_)
    · refine K cnt pix (dr_ext (fun x y => ?_) I)
      constructor
      · rintro ⟨t1, a', b', p1, p2, p3, p4⟩
        have := sq_le r1 p3.1
        exact ⟨t1, a', b', p1, p2, by omega, p3, p4⟩
      · rintro ⟨t1, a', b', p1, p2, _, p3, p4⟩
        exact ⟨t1, a', b', p1, p2, p3, p4⟩
    · refine nm_r (e' := zz_I (r * r - a * a)) (by rw [zz_mul, zz_mul, zz_sub]) ⟨b.toNat + 1, ?_⟩
      refine xk_61 a1 t r2 (fun b' b1' b2' P => ?_) (b.toNat + 1) b b1 b2 (by omega) hb
      refine xk_88 (D := fun x y => rl_W wx0 wy0 wx1 wy1 x y ∧ ci_lo cx cy r a x y) F x1 x2 y1 y2 a1 (by omega) b1' (by omega) (fun ab x y z q => ?_) (fun ab cnt' pix' I' => ?_) (fun ab => ?_) I
      · obtain ⟨_, a'', b'', p1, p2, p3, p4, p5⟩ := z
        have := ce_uni p1 p2 a1 ab p5 q
        omega
      · refine ih (a + 1) b' cnt' pix' (by omega) (by omega) b1' b2' (by omega) ?_ (dr_ext (fun x y => ?_) I')
        · have := sq_mono (a := a) (b := a + 1) a1 (by omega)
          have := P.2.1
          omega
        · unfold ke_D
          constructor
          · rintro ⟨t1, a'', b'', p1, p2, p3, p4, p5⟩
            by_cases e : a'' = a
            · subst e
              have m1 := cr_mono p1 (Int.le_refl _) b1' (by omega) P p4
              have m2 := cr_mono p1 (Int.le_refl _) (by omega) b1' p4 P
              have e2 : b'' = b' := by omega
              subst e2
              exact Or.inr ⟨t1, p5⟩
            · exact Or.inl ⟨t1, a'', b'', p1, p2, by omega, p4, p5⟩
          · rintro (⟨t1, a'', b'', p1, p2, p3, p4, p5⟩ | ⟨t1, t2⟩)
            · exact ⟨t1, a'', b'', p1, p2, by omega, p4, p5⟩
            · exact ⟨t1, a, b', a1, ab, by omega, P, t2⟩
      · have k := K cnt pix (dr_ext (fun x y => by
          constructor
          · rintro ⟨t1, a', b'', p1, p2, p3, p4⟩
            refine ⟨t1, a', b'', p1, p2, ?_, p3, p4⟩
            by_cases z : a' < a
            · exact z
            · have := cr_mono a1 (by omega : a ≤ a') b1' (by omega) P p3
              omega
          · rintro ⟨t1, a', b'', p1, p2, _, p3, p4⟩
            exact ⟨t1, a', b'', p1, p2, p3, p4⟩) I)
        obtain ⟨m, rfl⟩ : ∃ m, n = m + 1 := ⟨n - 1, by omega⟩
        rw [wX_circle_39]
        exact br_c (fun _ => k) (fun _ => br_t rfl k)
theorem xk_circle (Ra : zz_R cx) (Rb : zz_R cy) (Rc : zz_R r) (F : rl_F w h wx0 wy0 wx1 wy1)
    (K0 : ¬ ((-4096 ≤ cx ∧ cx ≤ 4096) ∧ (-4096 ≤ cy ∧ cy ≤ 4096) ∧ 0 ≤ r ∧ r ≤ 4096) →
      post (-1) (zz_I w, zz_I h, zz_I wx0, zz_I wy0, zz_I wx1, zz_I wy1, hv, e0, e1, e2, e3, a0))
    (K : ((-4096 ≤ cx ∧ cx ≤ 4096) ∧ (-4096 ≤ cy ∧ cy ≤ 4096) ∧ 0 ≤ r ∧ r ≤ 4096) →
      ∀ cnt a, dr_I 32 w h c a0 (fun x y => rl_W wx0 wy0 wx1 wy1 x y ∧ ci_on cx cy r x y) cnt a →
      post cnt (zz_I w, zz_I h, zz_I wx0, zz_I wy0, zz_I wx1, zz_I wy1, hv, e0, e1, e2, e3, a)) :
    wpX_circle post (zz_I w, zz_I h, zz_I wx0, zz_I wy0, zz_I wx1, zz_I wy1, hv, e0, e1, e2, e3, a0) (zz_I cx) (zz_I cy) (zz_I r) c := by
  unfold wpX_circle
  dsimp only
  refine xb_bad Ra (fun z1 => br_t rfl ?_) (fun z => br_f (by decide) (K0 (fun q => z q.1)))
  refine xb_bad Rb (fun z2 => br_t rfl ?_) (fun z => br_f (by decide) (K0 (fun q => z q.2.1)))
  refine zz_bt r 0 (fun t => K0 (fun q => by omega)) (fun z3 => ?_) rfl rfl Rc
  refine zz_bl r 4096 (fun z4 => ⟨(r + 1).toNat + 1, ?_⟩) (fun t => K0 (fun q => by omega)) rfl zz_c4096 Rc
  refine xk_39 F z1.1 z1.2 z2.1 z2.2 z3 z4 (K ⟨z1, z2, z3, z4⟩) _ 0 r 0 a0 (by omega) (by omega) z3 (by omega) (by omega) (by omega) (dr_0 (fun x y z => ?_))
  obtain ⟨_, a', b', p1, _, p3, _⟩ := z
  omega
end
end
section
/-! Part 09: circle, the reference's side, and the owed row -/
theorem ci_iff {cx cy r x y a b : Int} (h0 : 0 ≤ a) (h : a ≤ b) (e : ce_8 a b (x - cx) (y - cy)) : ci_on cx cy r x y ↔ cr_P r a b := by
  constructor
  · rintro ⟨a', b', p1, p2, p3, p4⟩
    obtain ⟨e1, e2⟩ := ce_uni h0 h p1 p2 e p4
    rw [e1, e2]; exact p3
  · intro p
    exact ⟨a, b, h0, h, p, e⟩
theorem ce_mk {a b u v : Int} (h : ((u = a ∨ u = -a) ∧ (v = b ∨ v = -b)) ∨ ((u = b ∨ u = -b) ∧ (v = a ∨ v = -a))) : ce_8 a b u v := by
  rcases h with ⟨h1 | h1, h2 | h2⟩ | ⟨h1 | h1, h2 | h2⟩
  · exact Or.inl (Or.inl (Or.inl (Or.inl (Or.inl (Or.inl (Or.inl ⟨h1, h2⟩))))))
  · exact Or.inl (Or.inl (Or.inl (Or.inl (Or.inl (Or.inr ⟨h1, h2⟩)))))
  · exact Or.inl (Or.inl (Or.inl (Or.inl (Or.inl (Or.inl (Or.inr ⟨h1, h2⟩))))))
  · exact Or.inl (Or.inl (Or.inl (Or.inl (Or.inr ⟨h1, h2⟩))))
  · exact Or.inl (Or.inl (Or.inl (Or.inr ⟨h1, h2⟩)))
  · exact Or.inl (Or.inr ⟨h1, h2⟩)
  · exact Or.inl (Or.inl (Or.inr ⟨h1, h2⟩))
  · exact Or.inr ⟨h1, h2⟩
section
variable {post : Int32 → SY → Prop} {J J' : Int32 → Int32 → (Nat → Int32) → Prop} {w h wx0 wy0 wx1 wy1 cx cy r row col : Int}
  {hv ax ay bx bw s0 s1 s2 s3 fo lp lq hp hq c cnt : Int32} {a0 fr : Nat → Int32}
theorem yk_122 {a b : Int} (F : rl_F w h wx0 wy0 wx1 wy1) (r1 : 0 ≤ r) (r2 : r ≤ 4096) (q0 : 0 ≤ row) (q1 : row < h) (q2 : 0 ≤ col) (q3 : col < w)
    (h0 : 0 ≤ a) (ab : a ≤ b) (b2 : b ≤ 8192) (e : ce_8 a b (col - cx) (row - cy))
    (K1 : ci_on cx cy r col row → J' (cnt + 1) (zz_I (col + 1)) (upd fr (row * w + col).toNat c))
    (K0 : ¬ ci_on cx cy r col row → J' cnt (zz_I (col + 1)) fr) :
    wY_circle_122 post J J' (zz_I cx) (zz_I cy) (zz_I r) c cnt (zz_I row) (zz_I col) (zz_I a) (zz_I b) (zz_I w) (zz_I h) (zz_I wx0) (zz_I wy0) (zz_I wx1) (zz_I wy1) hv ax ay bx bw s0 s1 s2 s3 fo lp lq hp hq fr := by
  obtain ⟨f1, f2, f3, f4, f5, f6, f7, f8, f9, f10⟩ := F
  rw [ci_iff h0 ab e] at K1 K0
  have m1 := sq_mono (a := r) (b := 4096) r1 r2
  have m2 := sq_mono (a := a) (b := 8192) h0 (by omega)
  have m3 := sq_mono (a := b) (b := 8192) (by omega) b2
  have m4 := Int.mul_nonneg h0 h0
  have m5 := Int.mul_nonneg r1 r1
  have m6 := Int.mul_nonneg (by omega : 0 ≤ b) (by omega : 0 ≤ b)
  have L171 : cr_P r a b → wY_circle_171 post J J' (zz_I cx) (zz_I cy) (zz_I r) c cnt (zz_I row) (zz_I col) (zz_I w) (zz_I h) (zz_I wx0) (zz_I wy0) (zz_I wx1) (zz_I wy1) hv ax ay bx bw s0 s1 s2 s3 fo lp lq hp hq fr := by
    intro z
    have bd := ix_bd (m := w) (x := col) (y := row) (by omega) (by omega) (by omega) (by omega) (by omega)
    have R : zz_R (row * w + col) := by unfold zz_R; omega
    have e : zz_I row * zz_I w + zz_I col = zz_I (row * w + col) := by rw [zz_mul, zz_add]
    unfold wY_circle_171
    rw [e, zz_clamp R]
    exact ⟨zz_in bd.1 bd.2 R, nm_e (nm_e (nm_r (e' := zz_I (col + 1)) (by rw [zz_c1, zz_add]) (K1 z)))⟩
  have S : ¬ cr_P r a b → ∀ x : Int32, x = zz_I col + 1 → J' cnt x fr := by
    intro z
    exact nm_r (e' := zz_I (col + 1)) (by rw [zz_c1, zz_add]) (K0 z)
  unfold wY_circle_122
  refine nm_r (e' := zz_I (r * r - a * a)) (by rw [zz_mul, zz_mul, zz_sub]) ?_
  refine zz_bt (r * r - a * a) 0 (fun t => S (fun z => by have := z.1; omega)) (fun t1 => ?_)
  refine zz_bt (b * b + b) (r * r - a * a) (fun t => S (fun z => by have := z.2.1; omega)) (fun t2 => ?_) (by rw [zz_mul, zz_add]) rfl
  refine zz_be b 0 (fun t => L171 ⟨t1, t2, Or.inl t⟩) (fun t3 => ?_)
  refine zz_bl (r * r - a * a) (b * b - b) (fun t => S (fun z => by have := z.2.2; omega)) (fun t4 => L171 ⟨t1, t2, Or.inr t4⟩) rfl (by rw [zz_mul, zz_sub])
theorem yk_82 {u v : Int} (F : rl_F w h wx0 wy0 wx1 wy1) (r1 : 0 ≤ r) (r2 : r ≤ 4096) (q0 : 0 ≤ row) (q1 : row < h) (q2 : 0 ≤ col) (q3 : col < w)
    (x1 : -4096 ≤ cx) (x2 : cx ≤ 4096) (y1 : -4096 ≤ cy) (y2 : cy ≤ 4096)
    (hu : u = ab_V (col - cx)) (hv' : v = row - cy)
    (K1 : ci_on cx cy r col row → J' (cnt + 1) (zz_I (col + 1)) (upd fr (row * w + col).toNat c))
    (K0 : ¬ ci_on cx cy r col row → J' cnt (zz_I (col + 1)) fr) :
    wY_circle_82 post J J' (zz_I cx) (zz_I cy) (zz_I r) c cnt (zz_I row) (zz_I col) (zz_I u) (zz_I v) (zz_I w) (zz_I h) (zz_I wx0) (zz_I wy0) (zz_I wx1) (zz_I wy1) hv ax ay bx bw s0 s1 s2 s3 fo lp lq hp hq fr := by
  have F' := F
  obtain ⟨f1, f2, f3, f4, f5, f6, f7, f8, f9, f10⟩ := F
  have u1 : (0 ≤ col - cx ∧ u = col - cx) ∨ (col - cx < 0 ∧ u = -(col - cx)) := by rw [hu]; unfold ab_V; omega
  have L92 : ∀ v : Int, 0 ≤ v → (v = row - cy ∨ v = -(row - cy)) →
      wY_circle_92 post J J' (zz_I cx) (zz_I cy) (zz_I r) c cnt (zz_I row) (zz_I col) (zz_I u) (zz_I v) (zz_I w) (zz_I h) (zz_I wx0) (zz_I wy0) (zz_I wx1) (zz_I wy1) hv ax ay bx bw s0 s1 s2 s3 fo lp lq hp hq fr := by
    intro v v0 hv2
    have hu2 : col - cx = u ∨ col - cx = -u := by omega
    have hv3 : row - cy = v ∨ row - cy = -v := by omega
    unfold wY_circle_92
    refine zz_bl v u (fun t => ?_) (fun t => ?_)
    · unfold wY_circle_106
      refine zz_bl v u (fun _ => ?_) (fun t' => by omega)
      refine yk_122 F' r1 r2 q0 q1 q2 q3 v0 t (by omega) ?_ K1 K0
      exact ce_mk (Or.inr ⟨hu2, hv3⟩)
    · unfold wY_circle_106
      refine zz_bl v u (fun t' => by omega) (fun _ => ?_)
      refine yk_122 F' r1 r2 q0 q1 q2 q3 (by omega) (by omega) (by omega) ?_ K1 K0
      exact ce_mk (Or.inl ⟨hu2, hv3⟩)
  unfold wY_circle_82
  refine zz_bl 0 v (fun t => ?_) (fun t => nm_r (zz_neg v) ?_)
  · exact L92 v t (Or.inl hv')
  · exact L92 (-v) (by omega) (Or.inr (by omega))
theorem yk_36 (F : rl_F w h wx0 wy0 wx1 wy1) (x1 : -4096 ≤ cx) (x2 : cx ≤ 4096) (y1 : -4096 ≤ cy) (y2 : cy ≤ 4096) (r1 : 0 ≤ r) (r2 : r ≤ 4096)
    (K : ∀ cnt a, dr_I w w h c a0 (fun x y => rl_W wx0 wy0 wx1 wy1 x y ∧ ci_on cx cy r x y) cnt a →
      post cnt (zz_I w, zz_I h, zz_I wx0, zz_I wy0, zz_I wx1, zz_I wy1, hv, ax, ay, bx, bw, s0, s1, s2, s3, fo, lp, lq, hp, hq, a)) :
    ∃ n, wY_circle_36 post (zz_I cx) (zz_I cy) (zz_I r) c (zz_I w) (zz_I h) (zz_I wx0) (zz_I wy0) (zz_I wx1) (zz_I wy1) hv ax ay bx bw s0 s1 s2 s3 fo lp lq hp hq n 0 (zz_I wy0) a0 := by
  have F' := F
  obtain ⟨f1, f2, f3, f4, f5, f6, f7, f8, f9, f10⟩ := F
  refine sc_all (Q := fun n cnt row a => wY_circle_36 post (zz_I cx) (zz_I cy) (zz_I r) c (zz_I w) (zz_I h) (zz_I wx0) (zz_I wy0) (zz_I wx1) (zz_I wy1) hv ax ay bx bw s0 s1 s2 s3 fo lp lq hp hq n cnt (zz_I row) a)
    (P := fun cnt a => post cnt (zz_I w, zz_I h, zz_I wx0, zz_I wy0, zz_I wx1, zz_I wy1, hv, ax, ay, bx, bw, s0, s1, s2, s3, fo, lp, lq, hp, hq, a))
    (on := ci_on cx cy r) F' (fun n cnt a k => ?_) (fun n cnt row a g0 g1 I J => ?_) K
  · rw [wY_circle_36]
    exact zz_bt wy1 (wy1 + 1) (fun _ => k) (fun t => by omega)
  · rw [wY_circle_36]
    refine zz_bt wy1 row (fun t => by omega) (fun t => ⟨(wx1 + 1 - wx0).toNat + 1, ?_⟩)
    refine sc_row (Q := fun m cnt col a => wY_circle_51 post (wY_circle_36 post (zz_I cx) (zz_I cy) (zz_I r) c (zz_I w) (zz_I h) (zz_I wx0) (zz_I wy0) (zz_I wx1) (zz_I wy1) hv ax ay bx bw s0 s1 s2 s3 fo lp lq hp hq n)
        (zz_I cx) (zz_I cy) (zz_I r) c (zz_I row) (zz_I w) (zz_I h) (zz_I wx0) (zz_I wy0) (zz_I wx1) (zz_I wy1) hv ax ay bx bw s0 s1 s2 s3 fo lp lq hp hq m cnt (zz_I col) a)
      (J := fun cnt a => wY_circle_36 post (zz_I cx) (zz_I cy) (zz_I r) c (zz_I w) (zz_I h) (zz_I wx0) (zz_I wy0) (zz_I wx1) (zz_I wy1) hv ax ay bx bw s0 s1 s2 s3 fo lp lq hp hq n cnt (zz_I (row + 1)) a)
      (on := ci_on cx cy r) F' g0 g1 (fun m cnt a k => ?_) (fun m cnt col a c0 c1 k1 k0 => ?_) J _ wx0 cnt a (by omega) (by omega) (by omega) I
    · rw [wY_circle_51]
      exact zz_bt wx1 (wx1 + 1) (fun _ => nm_r (e' := zz_I (row + 1)) (by rw [zz_c1, zz_add]) k) (fun t => by omega)
    · rw [wY_circle_51]
      refine zz_bt wx1 col (fun t => by omega) (fun t => ?_)
      refine nm_r (zz_sub col cx) (nm_r (zz_sub row cy) ?_)
      refine zz_bl 0 (col - cx) (fun s => ?_) (fun s => nm_r (zz_neg _) ?_)
      · exact yk_82 F' r1 r2 (by omega) (by omega) (by omega) (by omega) x1 x2 y1 y2 (by unfold ab_V; omega) rfl k1 k0
      · exact yk_82 F' r1 r2 (by omega) (by omega) (by omega) (by omega) x1 x2 y1 y2 (by unfold ab_V; omega) rfl k1 k0
theorem yk_circle (Ra : zz_R cx) (Rb : zz_R cy) (Rc : zz_R r) (F : rl_F w h wx0 wy0 wx1 wy1)
    (K0 : ¬ ((-4096 ≤ cx ∧ cx ≤ 4096) ∧ (-4096 ≤ cy ∧ cy ≤ 4096) ∧ 0 ≤ r ∧ r ≤ 4096) →
      post (-1) (zz_I w, zz_I h, zz_I wx0, zz_I wy0, zz_I wx1, zz_I wy1, hv, ax, ay, bx, bw, s0, s1, s2, s3, fo, lp, lq, hp, hq, a0))
    (K : ((-4096 ≤ cx ∧ cx ≤ 4096) ∧ (-4096 ≤ cy ∧ cy ≤ 4096) ∧ 0 ≤ r ∧ r ≤ 4096) →
      ∀ cnt a, dr_I w w h c a0 (fun x y => rl_W wx0 wy0 wx1 wy1 x y ∧ ci_on cx cy r x y) cnt a →
      post cnt (zz_I w, zz_I h, zz_I wx0, zz_I wy0, zz_I wx1, zz_I wy1, hv, ax, ay, bx, bw, s0, s1, s2, s3, fo, lp, lq, hp, hq, a)) :
    wpY_circle post (zz_I w, zz_I h, zz_I wx0, zz_I wy0, zz_I wx1, zz_I wy1, hv, ax, ay, bx, bw, s0, s1, s2, s3, fo, lp, lq, hp, hq, a0) (zz_I cx) (zz_I cy) (zz_I r) c := by
  unfold wpY_circle
  dsimp only
  refine yb_in Ra (fun z1 => br_f (by decide) ?_) (fun z => br_t rfl (K0 (fun q => z q.1)))
  refine yb_in Rb (fun z2 => br_f (by decide) ?_) (fun z => br_t rfl (K0 (fun q => z q.2.1)))
  refine zz_bt r 0 (fun t => K0 (fun q => by omega)) (fun z3 => ?_) rfl rfl Rc
  refine zz_bl r 4096 (fun z4 => ?_) (fun t => K0 (fun q => by omega)) rfl zz_c4096 Rc
  exact yk_36 F z1.1 z1.2 z2.1 z2.2 z3 z4 (K ⟨z1, z2, z3, z4⟩)
end
theorem i_vc_circle {k : Nat} {u : SX} {v : SY} (I : i_Rel k u v) (hk : k + 6 ≤ 3074) (v1 : Int32) (v2 : Int32) (v3 : Int32) (v4 : Int32) : wpX_circle (fun r u' => wpY_circle (fun r' v' => r' = r ∧ i_Rel (k + 6) u' v') v v1 v2 v3 v4) u v1 v2 v3 v4 := by
  obtain ⟨cx, Ra, rfl⟩ := zz_ex v1
  obtain ⟨cy, Rb, rfl⟩ := zz_ex v2
  obtain ⟨r, Rc, rfl⟩ := zz_ex v3
  refine rl_el (P := fun u v => wpX_circle (fun t u' => wpY_circle (fun t' v' => t' = t ∧ i_Rel (k + 6) u' v') v (zz_I cx) (zz_I cy) (zz_I r) v4) u (zz_I cx) (zz_I cy) (zz_I r) v4) I ?_
  intro w h wx0 wy0 wx1 wy1 hv e0 e1 e2 e3 ax ay bx bw s0 s1 s2 s3 fo lp lq hp hq pix frame F E A
  refine xk_circle Ra Rb Rc F (fun z => ?_) (fun z n a X => ?_)
  · exact yk_circle Ra Rb Rc F (fun _ => ⟨rfl, rl_mk F E A⟩) (fun z' => absurd z' z)
  · refine yk_circle Ra Rb Rc F (fun z' => absurd z z') (fun _ n' a' Y => ?_)
    obtain ⟨e, A'⟩ := dr_join A X Y
    exact ⟨e, rl_mk F E A'⟩
end
