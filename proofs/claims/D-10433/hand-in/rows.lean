section
/-! ===== the plain law: whole numbers ===== -/
/-- the whole number under a squared distance: point (X, Y), middle (mx, my) over mc -/
def kg_D (X Y mx my mc : Int) : Int := (mc * X - mx) * (mc * X - mx) + (mc * Y - my) * (mc * Y - my)
/-- a middle (distance Db over Cb, number b) is no worse than another one: nearer, or as near and not behind it -/
def kg_LE (Db Cb Dg Cg : Int) (b g : Nat) : Prop := Db * Cg < Dg * Cb ∨ (Db * Cg = Dg * Cb ∧ b ≤ g)
theorem kg_sq0 (a : Int) : 0 ≤ a * a := by
  rcases Int.le_total 0 a with h | h
  · exact Int.mul_nonneg h h
  · have e := Int.mul_nonneg (show 0 ≤ -a by omega) (show 0 ≤ -a by omega)
    rwa [Int.neg_mul_neg] at e
theorem kg_mulb {a b m n : Int} (h1 : -m ≤ a) (h2 : a ≤ m) (h3 : -n ≤ b) (h4 : b ≤ n) : -(m * n) ≤ a * b ∧ a * b ≤ m * n := by
  have e1 := Int.mul_nonneg (show 0 ≤ m - a by omega) (show 0 ≤ n + b by omega)
  have e2 := Int.mul_nonneg (show 0 ≤ m + a by omega) (show 0 ≤ n - b by omega)
  have e3 := Int.mul_nonneg (show 0 ≤ m - a by omega) (show 0 ≤ n - b by omega)
  have e4 := Int.mul_nonneg (show 0 ≤ m + a by omega) (show 0 ≤ n + b by omega)
  simp only [Int.sub_mul, Int.add_mul, Int.mul_sub, Int.mul_add] at e1 e2 e3 e4
  omega
theorem kg_D_b {X Y mx my mc : Int} (hX : -50 ≤ X ∧ X ≤ 50) (hY : -50 ≤ Y ∧ Y ≤ 50) (hx : -1200 ≤ mx ∧ mx ≤ 1200) (hy : -1200 ≤ my ∧ my ≤ 1200) (hc : 1 ≤ mc ∧ mc ≤ 24) : 0 ≤ kg_D X Y mx my mc ∧ kg_D X Y mx my mc ≤ 11520000 := by
  have e1 := kg_mulb (a := mc) (b := X) (m := 24) (n := 50) (by omega) (by omega) (by omega) (by omega)
  have e2 := kg_mulb (a := mc) (b := Y) (m := 24) (n := 50) (by omega) (by omega) (by omega) (by omega)
  have f1 := kg_mulb (a := mc * X - mx) (b := mc * X - mx) (m := 2400) (n := 2400) (by omega) (by omega) (by omega) (by omega)
  have f2 := kg_mulb (a := mc * Y - my) (b := mc * Y - my) (m := 2400) (n := 2400) (by omega) (by omega) (by omega) (by omega)
  have s1 := kg_sq0 (mc * X - mx)
  have s2 := kg_sq0 (mc * Y - my)
  unfold kg_D
  omega
theorem kg_C_b {c : Int} (hc : 1 ≤ c ∧ c ≤ 24) : 0 < c * c ∧ c * c ≤ 576 := by
  have e := kg_mulb (a := c) (b := c) (m := 24) (n := 24) (by omega) (by omega) (by omega) (by omega)
  have p := Int.mul_pos (show 0 < c by omega) (show 0 < c by omega)
  omega
/-- the squared distance of two middles, and its bound -/
def kg_M (bx bY bc gx gy gc : Int) : Int := (bx * gc - gx * bc) * (bx * gc - gx * bc) + (bY * gc - gy * bc) * (bY * gc - gy * bc)
theorem kg_M_b {bx bY bc gx gy gc : Int} (h1 : -1200 ≤ bx ∧ bx ≤ 1200) (h2 : -1200 ≤ bY ∧ bY ≤ 1200) (h3 : 1 ≤ bc ∧ bc ≤ 24) (h4 : -1200 ≤ gx ∧ gx ≤ 1200) (h5 : -1200 ≤ gy ∧ gy ≤ 1200) (h6 : 1 ≤ gc ∧ gc ≤ 24) : 0 ≤ kg_M bx bY bc gx gy gc ∧ kg_M bx bY bc gx gy gc ≤ 6635520000 := by
  have e1 := kg_mulb (a := bx) (b := gc) (m := 1200) (n := 24) (by omega) (by omega) (by omega) (by omega)
  have e2 := kg_mulb (a := gx) (b := bc) (m := 1200) (n := 24) (by omega) (by omega) (by omega) (by omega)
  have e3 := kg_mulb (a := bY) (b := gc) (m := 1200) (n := 24) (by omega) (by omega) (by omega) (by omega)
  have e4 := kg_mulb (a := gy) (b := bc) (m := 1200) (n := 24) (by omega) (by omega) (by omega) (by omega)
  have f1 := kg_mulb (a := bx * gc - gx * bc) (b := bx * gc - gx * bc) (m := 57600) (n := 57600) (by omega) (by omega) (by omega) (by omega)
  have f2 := kg_mulb (a := bY * gc - gy * bc) (b := bY * gc - gy * bc) (m := 57600) (n := 57600) (by omega) (by omega) (by omega) (by omega)
  have s1 := kg_sq0 (bx * gc - gx * bc)
  have s2 := kg_sq0 (bY * gc - gy * bc)
  unfold kg_M
  omega
theorem kg_tri {u1 u2 v1 v2 : Int} (h : 4 * (u1 * u1 + u2 * u2) < (v1 - u1) * (v1 - u1) + (v2 - u2) * (v2 - u2)) : u1 * u1 + u2 * u2 < v1 * v1 + v2 * v2 := by
  have e1 := kg_sq0 (v1 + u1)
  have e2 := kg_sq0 (v2 + u2)
  simp only [Int.sub_mul, Int.add_mul, Int.mul_sub, Int.mul_add] at h e1 e2
  omega
/-- a middle more than twice as far from the best one as the point: it is farther than the best one -/
theorem kg_far {X Y bx bY bc gx gy gc : Int} (hb : 0 < bc) (h : (4 * kg_D X Y bx bY bc) * ((bc * gc) * (bc * gc)) < kg_M bx bY bc gx gy gc * (bc * bc)) : kg_D X Y bx bY bc * (gc * gc) < kg_D X Y gx gy gc * (bc * bc) := by
  have e1 : kg_D X Y bx bY bc * (gc * gc) = ((bc * X - bx) * gc) * ((bc * X - bx) * gc) + ((bc * Y - bY) * gc) * ((bc * Y - bY) * gc) := by unfold kg_D; grind
  have e2 : kg_D X Y gx gy gc * (bc * bc) = ((gc * X - gx) * bc) * ((gc * X - gx) * bc) + ((gc * Y - gy) * bc) * ((gc * Y - gy) * bc) := by unfold kg_D; grind
  have e3 : bx * gc - gx * bc = (gc * X - gx) * bc - (bc * X - bx) * gc := by grind
  have e4 : bY * gc - gy * bc = (gc * Y - gy) * bc - (bc * Y - bY) * gc := by grind
  have e5 : (4 * kg_D X Y bx bY bc) * ((bc * gc) * (bc * gc)) = (bc * bc) * (4 * (kg_D X Y bx bY bc * (gc * gc))) := by grind
  rw [e5, Int.mul_comm (kg_M bx bY bc gx gy gc)] at h
  have h' := Int.lt_of_mul_lt_mul_left h (kg_sq0 bc)
  rw [e1] at h'
  unfold kg_M at h'
  rw [e3, e4] at h'
  rw [e1, e2]
  exact kg_tri h'
/-- a middle that has not moved: the same distance -/
theorem kg_same {X Y mx my mc nx ny nc : Int} (hx : nx * mc = mx * nc) (hy : ny * mc = my * nc) : kg_D X Y nx ny nc * (mc * mc) = kg_D X Y mx my mc * (nc * nc) := by
  have e1 : (nc * X - nx) * mc = (mc * X - mx) * nc := by grind
  have e2 : (nc * Y - ny) * mc = (mc * Y - my) * nc := by grind
  have f1 : kg_D X Y nx ny nc * (mc * mc) = ((nc * X - nx) * mc) * ((nc * X - nx) * mc) + ((nc * Y - ny) * mc) * ((nc * Y - ny) * mc) := by unfold kg_D; grind
  have f2 : kg_D X Y mx my mc * (nc * nc) = ((mc * X - mx) * nc) * ((mc * X - mx) * nc) + ((mc * Y - my) * nc) * ((mc * Y - my) * nc) := by unfold kg_D; grind
  rw [f1, f2, e1, e2]
theorem kg_LE_refl (D C : Int) (b : Nat) : kg_LE D C D C b b := Or.inr ⟨rfl, Nat.le_refl b⟩
theorem kg_LE_trans {Da Ca Db Cb Dc Cc : Int} {a b c : Nat} (ha : 0 < Ca) (hb : 0 < Cb) (hc : 0 < Cc) (h1 : kg_LE Da Ca Db Cb a b) (h2 : kg_LE Db Cb Dc Cc b c) : kg_LE Da Ca Dc Cc a c := by
  have i1 : Cb * (Da * Cc) = Cc * (Da * Cb) := by grind
  have i2 : Cb * (Dc * Ca) = Ca * (Dc * Cb) := by grind
  have i3 : Cc * (Db * Ca) = Ca * (Db * Cc) := by grind
  have lt : Cb * (Da * Cc) < Cb * (Dc * Ca) → Da * Cc < Dc * Ca := fun z => Int.lt_of_mul_lt_mul_left z (by omega)
  rcases h1 with h1 | ⟨h1, n1⟩
  · have j1 := Int.mul_lt_mul_of_pos_left h1 hc
    rcases h2 with h2 | ⟨h2, n2⟩
    · have j2 := Int.mul_lt_mul_of_pos_left h2 ha
      exact Or.inl (lt (by omega))
    · have j2 : Ca * (Db * Cc) = Ca * (Dc * Cb) := by rw [h2]
      exact Or.inl (lt (by omega))
  · have j1 : Cc * (Da * Cb) = Cc * (Db * Ca) := by rw [h1]
    rcases h2 with h2 | ⟨h2, n2⟩
    · have j2 := Int.mul_lt_mul_of_pos_left h2 ha
      exact Or.inl (lt (by omega))
    · have j2 : Ca * (Db * Cc) = Ca * (Dc * Cb) := by rw [h2]
      exact Or.inr ⟨Int.eq_of_mul_eq_mul_left (show Cb ≠ 0 by omega) (by omega), by omega⟩
theorem kg_LE_anti {Da Ca Db Cb : Int} {a b : Nat} (h1 : kg_LE Da Ca Db Cb a b) (h2 : kg_LE Db Cb Da Ca b a) : a = b := by
  unfold kg_LE at h1 h2
  omega
theorem kg_LE_same {Db Cb Dg Cg Db' Cb' Dg' Cg' : Int} {b g : Nat} (cb : 0 < Cb) (cg : 0 < Cg) (cb' : 0 < Cb') (cg' : 0 < Cg') (eb : Db' * Cb = Db * Cb') (eg : Dg' * Cg = Dg * Cg') (h : kg_LE Db Cb Dg Cg b g) : kg_LE Db' Cb' Dg' Cg' b g := by
  have hs : 0 < Cb * Cg := Int.mul_pos cb cg
  have ht : 0 < Cb' * Cg' := Int.mul_pos cb' cg'
  have i1 : (Cb * Cg) * (Db' * Cg') = (Cb' * Cg') * (Db * Cg) := by
    have : (Cb * Cg) * (Db' * Cg') = (Db' * Cb) * (Cg * Cg') := by grind
    rw [this, eb]; grind
  have i2 : (Cb * Cg) * (Dg' * Cb') = (Cb' * Cg') * (Dg * Cb) := by
    have : (Cb * Cg) * (Dg' * Cb') = (Dg' * Cg) * (Cb * Cb') := by grind
    rw [this, eg]; grind
  rcases h with h | ⟨h, n⟩
  · have j := Int.mul_lt_mul_of_pos_left h ht
    rw [← i1, ← i2] at j
    exact Or.inl (Int.lt_of_mul_lt_mul_left j (by omega))
  · rw [h] at i1
    rw [← i2] at i1
    exact Or.inr ⟨Int.eq_of_mul_eq_mul_left (by omega) i1, n⟩
/-! ===== 64-bit numbers that hold small whole numbers ===== -/
theorem kg_lt {a b : Int} (ha : -9000000000000000000 ≤ a ∧ a ≤ 9000000000000000000) (hb : -9000000000000000000 ≤ b ∧ b ≤ 9000000000000000000) : Int64.ofInt a < Int64.ofInt b ↔ a < b := by
  rw [Int64.lt_iff_toInt_lt, Int64.toInt_ofInt_of_le (by omega) (by omega), Int64.toInt_ofInt_of_le (by omega) (by omega)]
theorem kg_le {a b : Int} (ha : -9000000000000000000 ≤ a ∧ a ≤ 9000000000000000000) (hb : -9000000000000000000 ≤ b ∧ b ≤ 9000000000000000000) : Int64.ofInt a ≤ Int64.ofInt b ↔ a ≤ b := by
  rw [Int64.le_iff_toInt_le, Int64.toInt_ofInt_of_le (by omega) (by omega), Int64.toInt_ofInt_of_le (by omega) (by omega)]
theorem kg_eq {a b : Int} (ha : -9000000000000000000 ≤ a ∧ a ≤ 9000000000000000000) (hb : -9000000000000000000 ≤ b ∧ b ≤ 9000000000000000000) : Int64.ofInt a = Int64.ofInt b ↔ a = b := by
  rw [← Int64.toInt_inj, Int64.toInt_ofInt_of_le (by omega) (by omega), Int64.toInt_ofInt_of_le (by omega) (by omega)]
theorem kg_UC {U C : Int} (hU : 0 ≤ U ∧ U ≤ 11520000) (hC : 0 < C ∧ C ≤ 576) : -9000000000000000000 ≤ U * C ∧ U * C ≤ 9000000000000000000 := by
  have e := kg_mulb (a := U) (b := C) (m := 11520000) (n := 576) (by omega) (by omega) (by omega) (by omega)
  omega
/-- two products of 32 bits that are the same, as whole numbers -/
theorem kg_mul32 {a b c d : Int32} (ha : -1200 ≤ a.toInt ∧ a.toInt ≤ 1200) (hb : -24 ≤ b.toInt ∧ b.toInt ≤ 24) (hc : -1200 ≤ c.toInt ∧ c.toInt ≤ 1200) (hd : -24 ≤ d.toInt ∧ d.toInt ≤ 24) (h : a * b = c * d) : a.toInt * b.toInt = c.toInt * d.toInt := by
  have e1 := kg_mulb (a := a.toInt) (b := b.toInt) (m := 1200) (n := 24) (by omega) (by omega) (by omega) (by omega)
  have e2 := kg_mulb (a := c.toInt) (b := d.toInt) (m := 1200) (n := 24) (by omega) (by omega) (by omega) (by omega)
  have t := congrArg Int32.toInt h
  rw [Int32.toInt_mul, Int32.toInt_mul, Int.bmod_eq_of_le (by omega) (by omega), Int.bmod_eq_of_le (by omega) (by omega)] at t
  exact t
/-! ===== members counted and summed ===== -/
def kg_cnt (m : Nat → Int32) (g : Nat) : Nat → Nat
  | 0 => 0
  | n + 1 => if m n = nI g then kg_cnt m g n + 1 else kg_cnt m g n
def kg_sum (m x : Nat → Int32) (g : Nat) : Nat → Int32
  | 0 => 0
  | n + 1 => if m n = nI g then kg_sum m x g n + x n else kg_sum m x g n
def kg_tot (x : Nat → Int32) : Nat → Int32
  | 0 => 0
  | n + 1 => kg_tot x n + x n
theorem kg_cnt_t {m : Nat → Int32} {g n : Nat} (h : m n = nI g) : kg_cnt m g (n + 1) = kg_cnt m g n + 1 := if_pos h
theorem kg_cnt_f {m : Nat → Int32} {g n : Nat} (h : ¬ m n = nI g) : kg_cnt m g (n + 1) = kg_cnt m g n := if_neg h
theorem kg_sum_t {m x : Nat → Int32} {g n : Nat} (h : m n = nI g) : kg_sum m x g (n + 1) = kg_sum m x g n + x n := if_pos h
theorem kg_sum_f {m x : Nat → Int32} {g n : Nat} (h : ¬ m n = nI g) : kg_sum m x g (n + 1) = kg_sum m x g n := if_neg h
theorem kg_cnt_le (m : Nat → Int32) (g n : Nat) : kg_cnt m g n ≤ n := by
  induction n with
  | zero => exact Nat.le_refl 0
  | succ n ih =>
    by_cases h : m n = nI g
    · rw [kg_cnt_t h]; omega
    · rw [kg_cnt_f h]; omega
theorem kg_cnt_congr {m m' : Nat → Int32} (g : Nat) {n : Nat} (h : ∀ j, j < n → m' j = m j) : kg_cnt m' g n = kg_cnt m g n := by
  induction n with
  | zero => rfl
  | succ n ih =>
    have i := ih (fun j hj => h j (by omega))
    have e := h n (by omega)
    show (if m' n = nI g then kg_cnt m' g n + 1 else kg_cnt m' g n) = (if m n = nI g then kg_cnt m g n + 1 else kg_cnt m g n)
    rw [i, e]
theorem kg_sum_congr {m m' x x' : Nat → Int32} (g : Nat) {n : Nat} (h : ∀ j, j < n → m' j = m j) (hx : ∀ j, j < n → x' j = x j) : kg_sum m' x' g n = kg_sum m x g n := by
  induction n with
  | zero => rfl
  | succ n ih =>
    have i := ih (fun j hj => h j (by omega)) (fun j hj => hx j (by omega))
    have e := h n (by omega)
    have e' := hx n (by omega)
    show (if m' n = nI g then kg_sum m' x' g n + x' n else kg_sum m' x' g n) = (if m n = nI g then kg_sum m x g n + x n else kg_sum m x g n)
    rw [i, e, e']
theorem kg_tot_congr {x x' : Nat → Int32} {n : Nat} (hx : ∀ j, j < n → x' j = x j) : kg_tot x' n = kg_tot x n := by
  induction n with
  | zero => rfl
  | succ n ih =>
    show kg_tot x' n + x' n = kg_tot x n + x n
    rw [ih (fun j hj => hx j (by omega)), hx n (by omega)]
theorem kg_sum_b {m x : Nat → Int32} (g : Nat) {n : Nat} (hn : n ≤ 24) (hx : ∀ j, j < n → -50 ≤ (x j).toInt ∧ (x j).toInt ≤ 50) : -(50 * (kg_cnt m g n : Int)) ≤ (kg_sum m x g n).toInt ∧ (kg_sum m x g n).toInt ≤ 50 * (kg_cnt m g n : Int) := by
  induction n with
  | zero =>
    show -(50 * ((0 : Nat) : Int)) ≤ (0 : Int32).toInt ∧ (0 : Int32).toInt ≤ 50 * ((0 : Nat) : Int)
    decide
  | succ n ih =>
    have i := ih (by omega) (fun j hj => hx j (by omega))
    have b := hx n (by omega)
    have c := kg_cnt_le m g n
    by_cases h : m n = nI g
    · rw [kg_cnt_t h, kg_sum_t h, Int32.toInt_add, Int.bmod_eq_of_le (by omega) (by omega)]
      omega
    · rw [kg_cnt_f h, kg_sum_f h]
      exact i
/-- over the first g groups -/
def kg_c4 (m : Nat → Int32) (n : Nat) : Nat → Nat
  | 0 => 0
  | g + 1 => kg_c4 m n g + kg_cnt m g n
def kg_s4 (m x : Nat → Int32) (n : Nat) : Nat → Int32
  | 0 => 0
  | g + 1 => kg_s4 m x n g + kg_sum m x g n
theorem kg_ne {a b : Nat} (ha : a < 4) (hb : b < 4) (h : a ≠ b) : ¬ nI a = nI b := fun z => h ((nI_eq (by omega) (by omega)).mp z)
theorem kg_c4_s (m : Nat → Int32) (n b : Nat) (hm : m n = nI b) (hb : b < 4) : ∀ g, g ≤ 4 → kg_c4 m (n + 1) g = kg_c4 m n g + (if b < g then 1 else 0) := by
  intro g
  induction g with
  | zero => intro _; rfl
  | succ g ih =>
    intro hg
    have i := ih (by omega)
    show kg_c4 m (n + 1) g + kg_cnt m g (n + 1) = kg_c4 m n g + kg_cnt m g n + (if b < g + 1 then 1 else 0)
    rw [i]
    by_cases e : b = g
    · subst e
      rw [kg_cnt_t hm, if_neg (by omega), if_pos (by omega)]
      omega
    · rw [kg_cnt_f (by rw [hm]; exact kg_ne hb (by omega) e)]
      by_cases l : b < g
      · rw [if_pos l, if_pos (by omega)]; omega
      · rw [if_neg l, if_neg (by omega)]; omega
theorem kg_s4_s (m x : Nat → Int32) (n b : Nat) (hm : m n = nI b) (hb : b < 4) : ∀ g, g ≤ 4 → kg_s4 m x (n + 1) g = kg_s4 m x n g + (if b < g then x n else 0) := by
  intro g
  induction g with
  | zero => intro _; rfl
  | succ g ih =>
    intro hg
    have i := ih (by omega)
    show kg_s4 m x (n + 1) g + kg_sum m x g (n + 1) = kg_s4 m x n g + kg_sum m x g n + (if b < g + 1 then x n else 0)
    rw [i]
    by_cases e : b = g
    · subst e
      rw [kg_sum_t hm, if_neg (by omega), if_pos (by omega)]
      grind
    · rw [kg_sum_f (by rw [hm]; exact kg_ne hb (by omega) e)]
      by_cases l : b < g
      · rw [if_pos l, if_pos (by omega)]; grind
      · rw [if_neg l, if_neg (by omega)]; grind
theorem kg_c4_0 (m : Nat → Int32) : ∀ g, kg_c4 m 0 g = 0
  | 0 => rfl
  | g + 1 => by show kg_c4 m 0 g + 0 = 0; rw [kg_c4_0 m g]
theorem kg_s4_0 (m x : Nat → Int32) : ∀ g, kg_s4 m x 0 g = 0
  | 0 => rfl
  | g + 1 => by show kg_s4 m x 0 g + 0 = 0; rw [kg_s4_0 m x g]; rfl
theorem kg_c4_4 {m : Nat → Int32} {n : Nat} (h : ∀ j, j < n → ∃ b, b < 4 ∧ m j = nI b) : kg_c4 m n 4 = n := by
  induction n with
  | zero => exact kg_c4_0 m 4
  | succ n ih =>
    obtain ⟨b, hb, hm⟩ := h n (by omega)
    rw [kg_c4_s m n b hm hb 4 (by omega), ih (fun j hj => h j (by omega)), if_pos hb]
theorem kg_s4_4 {m x : Nat → Int32} {n : Nat} (h : ∀ j, j < n → ∃ b, b < 4 ∧ m j = nI b) : kg_s4 m x n 4 = kg_tot x n := by
  induction n with
  | zero => exact kg_s4_0 m x 4
  | succ n ih =>
    obtain ⟨b, hb, hm⟩ := h n (by omega)
    rw [kg_s4_s m x n b hm hb 4 (by omega), ih (fun j hj => h j (by omega)), if_pos hb]
    rfl
end
section
/-! ===== the picture ===== -/
def kg_U (a1 a2 a5 a6 a7 : Nat → Int32) (p g : Nat) : Int := kg_D (a1 p).toInt (a2 p).toInt (a5 g).toInt (a6 g).toInt (a7 g).toInt
def kg_C (a7 : Nat → Int32) (g : Nat) : Int := (a7 g).toInt * (a7 g).toInt
/-- for point p the middle b is no worse than g -/
def kg_B (a1 a2 a5 a6 a7 : Nat → Int32) (p b g : Nat) : Prop := kg_LE (kg_U a1 a2 a5 a6 a7 p b) (kg_C a7 b) (kg_U a1 a2 a5 a6 a7 p g) (kg_C a7 g) b g
def kg_pt (P : Nat) (a1 a2 : Nat → Int32) : Prop := ∀ j, j < P → (-50 ≤ (a1 j).toInt ∧ (a1 j).toInt ≤ 50) ∧ (-50 ≤ (a2 j).toInt ∧ (a2 j).toInt ≤ 50)
def kg_sd (a3 a4 : Nat → Int32) : Prop := ∀ g, g < 4 → (-50 ≤ (a3 g).toInt ∧ (a3 g).toInt ≤ 50) ∧ (-50 ≤ (a4 g).toInt ∧ (a4 g).toInt ≤ 50)
def kg_md (a5 a6 a7 : Nat → Int32) : Prop := ∀ g, g < 4 → (-1200 ≤ (a5 g).toInt ∧ (a5 g).toInt ≤ 1200) ∧ (-1200 ≤ (a6 g).toInt ∧ (a6 g).toInt ≤ 1200) ∧ (1 ≤ (a7 g).toInt ∧ (a7 g).toInt ≤ 24)
section PICTURE
variable {a1 a2 a5 a6 a7 : Nat → Int32} {P p b g c : Nat}
theorem kg_U_b (h1 : kg_pt P a1 a2) (h5 : kg_md a5 a6 a7) (hp : p < P) (hg : g < 4) : 0 ≤ kg_U a1 a2 a5 a6 a7 p g ∧ kg_U a1 a2 a5 a6 a7 p g ≤ 11520000 :=
  kg_D_b (h1 p hp).1 (h1 p hp).2 (h5 g hg).1 (h5 g hg).2.1 (h5 g hg).2.2
theorem kg_Cb (h5 : kg_md a5 a6 a7) (hg : g < 4) : 0 < kg_C a7 g ∧ kg_C a7 g ≤ 576 := kg_C_b (h5 g hg).2.2
theorem kg_UCb (h1 : kg_pt P a1 a2) (h5 : kg_md a5 a6 a7) (hp : p < P) (hb : b < 4) (hg : g < 4) : -9000000000000000000 ≤ kg_U a1 a2 a5 a6 a7 p b * kg_C a7 g ∧ kg_U a1 a2 a5 a6 a7 p b * kg_C a7 g ≤ 9000000000000000000 :=
  kg_UC (kg_U_b h1 h5 hp hb) (kg_Cb h5 hg)
theorem kg_B_refl : kg_B a1 a2 a5 a6 a7 p b b := kg_LE_refl _ _ _
theorem kg_B_trans (h5 : kg_md a5 a6 a7) (hb : b < 4) (hg : g < 4) (hc : c < 4) (h1 : kg_B a1 a2 a5 a6 a7 p b g) (h2 : kg_B a1 a2 a5 a6 a7 p g c) : kg_B a1 a2 a5 a6 a7 p b c :=
  kg_LE_trans (kg_Cb h5 hb).1 (kg_Cb h5 hg).1 (kg_Cb h5 hc).1 h1 h2
theorem kg_B_anti (h1 : kg_B a1 a2 a5 a6 a7 p b g) (h2 : kg_B a1 a2 a5 a6 a7 p g b) : b = g := kg_LE_anti h1 h2
end PICTURE
/-! ===== measure, farBeyond ===== -/
theorem kg_ofU (a1 a2 a5 a6 a7 : Nat → Int32) (p g : Nat) : Int64.ofInt (kg_U a1 a2 a5 a6 a7 p g) = ((a7 g).toInt64 * (a1 p).toInt64 - (a5 g).toInt64) * ((a7 g).toInt64 * (a1 p).toInt64 - (a5 g).toInt64) + ((a7 g).toInt64 * (a2 p).toInt64 - (a6 g).toInt64) * ((a7 g).toInt64 * (a2 p).toInt64 - (a6 g).toInt64) := by
  unfold kg_U kg_D
  simp only [Int64.ofInt_add, Int64.ofInt_mul, Int64.ofInt_sub, Int64.ofInt_int32ToInt]
theorem kg_ofC (a7 : Nat → Int32) (g : Nat) : Int64.ofInt (kg_C a7 g) = (a7 g).toInt64 * (a7 g).toInt64 := by
  unfold kg_C
  simp only [Int64.ofInt_mul, Int64.ofInt_int32ToInt]
section WALK
variable {fp fk : Int32} {fu fl : Int64} {a1 a2 a3 a4 a5 a6 a7 a8 a9 a10 a11 a12 : Nat → Int32} {P k p b g : Nat}
theorem kg_measure {post : St1 → Prop} (hp : p < 24) (hg : g < 4)
    (H : post (fp, fk, Int64.ofInt (kg_U a1 a2 a5 a6 a7 p g), Int64.ofInt (kg_C a7 g), a1, a2, a3, a4, a5, a6, a7, a8, a9, a10, a11, a12)) :
    wpX_measure post (fp, fk, fu, fl, a1, a2, a3, a4, a5, a6, a7, a8, a9, a10, a11, a12) (nI p) (nI g) := by
  have i1 : vp_in (nI g) 4 := pk_in g 4 hg
  have i2 : vp_in (nI p) 24 := pk_in p 24 hp
  rw [kg_ofU, kg_ofC] at H
  have c1 : (nI g).toNatClampNeg = g := nI_clamp (by omega)
  have c2 : (nI p).toNatClampNeg = p := nI_clamp (by omega)
  unfold wpX_measure
  dsimp only
  rw [c1, c2]
  exact ⟨i1, i2, i1, nm_e ⟨i1, i2, i1, nm_e (nm_e ⟨i1, i1, nm_e H⟩)⟩⟩
theorem kg_ofM (a5 a6 a7 : Nat → Int32) (b g : Nat) : Int64.ofInt (kg_M (a5 b).toInt (a6 b).toInt (a7 b).toInt (a5 g).toInt (a6 g).toInt (a7 g).toInt) = ((a5 b).toInt64 * (a7 g).toInt64 - (a5 g).toInt64 * (a7 b).toInt64) * ((a5 b).toInt64 * (a7 g).toInt64 - (a5 g).toInt64 * (a7 b).toInt64) + ((a6 b).toInt64 * (a7 g).toInt64 - (a6 g).toInt64 * (a7 b).toInt64) * ((a6 b).toInt64 * (a7 g).toInt64 - (a6 g).toInt64 * (a7 b).toInt64) := by
  unfold kg_M
  simp only [Int64.ofInt_add, Int64.ofInt_mul, Int64.ofInt_sub, Int64.ofInt_int32ToInt]
theorem kg_measureM {post : St1 → Prop} (hb : b < 4) (hg : g < 4)
    (H : post (fp, fk, Int64.ofInt (kg_M (a5 b).toInt (a6 b).toInt (a7 b).toInt (a5 g).toInt (a6 g).toInt (a7 g).toInt), Int64.ofInt (((a7 b).toInt * (a7 g).toInt) * ((a7 b).toInt * (a7 g).toInt)), a1, a2, a3, a4, a5, a6, a7, a8, a9, a10, a11, a12)) :
    wpX_measureMiddles post (fp, fk, fu, fl, a1, a2, a3, a4, a5, a6, a7, a8, a9, a10, a11, a12) (nI b) (nI g) := by
  have i1 : vp_in (nI g) 4 := pk_in g 4 hg
  have i2 : vp_in (nI b) 4 := pk_in b 4 hb
  rw [kg_ofM] at H
  simp only [Int64.ofInt_mul, Int64.ofInt_int32ToInt] at H
  have c1 : (nI g).toNatClampNeg = g := nI_clamp (by omega)
  have c2 : (nI b).toNatClampNeg = b := nI_clamp (by omega)
  unfold wpX_measureMiddles
  dsimp only
  rw [c1, c2]
  exact ⟨i2, i1, i1, i2, nm_e ⟨i2, i1, i1, i2, nm_e (nm_e ⟨i2, i1, nm_e (nm_e H)⟩)⟩⟩
theorem kg_farB {post : Int32 → St1 → Prop} (h1 : kg_pt P a1 a2) (h5 : kg_md a5 a6 a7) (hp : p < P) (hb : b < 4) (hg : g < 4)
    (H0 : ∀ u l, post 0 (fp, fk, u, l, a1, a2, a3, a4, a5, a6, a7, a8, a9, a10, a11, a12))
    (H1 : kg_B a1 a2 a5 a6 a7 p b g → ∀ u l, post 1 (fp, fk, u, l, a1, a2, a3, a4, a5, a6, a7, a8, a9, a10, a11, a12)) :
    wpX_farBeyond post (fp, fk, fu, fl, a1, a2, a3, a4, a5, a6, a7, a8, a9, a10, a11, a12) (nI b) (nI g) (Int64.ofInt (kg_U a1 a2 a5 a6 a7 p b)) (Int64.ofInt (kg_C a7 b)) := by
  unfold wpX_farBeyond
  dsimp only
  refine kg_measureM hb hg ?_
  dsimp only
  refine br_c (fun _ => H0 _ _) (fun hn => H1 (Or.inl ?_) _ _)
  have bU := kg_U_b h1 h5 hp hb
  have bC := kg_Cb h5 hb
  have bM := kg_M_b (h5 b hb).1 (h5 b hb).2.1 (h5 b hb).2.2 (h5 g hg).1 (h5 g hg).2.1 (h5 g hg).2.2
  have b7 := (h5 b hb).2.2
  have g7 := (h5 g hg).2.2
  have bn := kg_mulb (a := (a7 b).toInt) (b := (a7 g).toInt) (m := 24) (n := 24) (by omega) (by omega) (by omega) (by omega)
  have bl := kg_mulb (a := (a7 b).toInt * (a7 g).toInt) (b := (a7 b).toInt * (a7 g).toInt) (m := 576) (n := 576) (by omega) (by omega) (by omega) (by omega)
  have l1 := kg_mulb (a := 4 * kg_U a1 a2 a5 a6 a7 p b) (b := ((a7 b).toInt * (a7 g).toInt) * ((a7 b).toInt * (a7 g).toInt)) (m := 46080000) (n := 331776) (by omega) (by omega) (by omega) (by omega)
  have l2 := kg_mulb (a := kg_M (a5 b).toInt (a6 b).toInt (a7 b).toInt (a5 g).toInt (a6 g).toInt (a7 g).toInt) (b := kg_C a7 b) (m := 6635520000) (n := 576) (by omega) (by omega) (by omega) (by omega)
  have e4 : (4 : Int64) = Int64.ofInt 4 := by decide
  rw [e4, ← Int64.ofInt_mul, ← Int64.ofInt_mul, ← Int64.ofInt_mul, kg_le (by omega) (by omega)] at hn
  exact kg_far (by omega) (Int.lt_of_not_ge hn)
/-! ===== nearestGroup ===== -/
/-- one turn of the loop -/
theorem kg_ng95 {post : Int32 → St1 → Prop} {J : Int32 → Int64 → Int64 → Int32 → Int32 → Int32 → Int64 → Int64 → (Nat → Int32) → (Nat → Int32) → (Nat → Int32) → (Nat → Int32) → (Nat → Int32) → (Nat → Int32) → (Nat → Int32) → (Nat → Int32) → (Nat → Int32) → (Nat → Int32) → (Nat → Int32) → (Nat → Int32) → Prop} {x8 z0 : Int32}
    (hP : P ≤ 24) (h1 : kg_pt P a1 a2) (h5 : kg_md a5 a6 a7) (hp : p < P) (hb : b < k) (hg : g < k) (hk : k ≤ 4) (hz : z0 = 0 ∨ (¬ z0 = 0 ∧ kg_B a1 a2 a5 a6 a7 p b g))
    (HJ : ∀ c u l, c < k → kg_B a1 a2 a5 a6 a7 p c b → kg_B a1 a2 a5 a6 a7 p c g → J (nI c) (Int64.ofInt (kg_U a1 a2 a5 a6 a7 p c)) (Int64.ofInt (kg_C a7 c)) (nI (g + 1)) fp fk u l a1 a2 a3 a4 a5 a6 a7 a8 a9 a10 a11 a12) :
    wX_nearestGroup_95 post J (nI p) (nI b) (Int64.ofInt (kg_U a1 a2 a5 a6 a7 p b)) (Int64.ofInt (kg_C a7 b)) x8 (nI g) z0 fp fk fu fl a1 a2 a3 a4 a5 a6 a7 a8 a9 a10 a11 a12 := by
  unfold wX_nearestGroup_95
  refine pk_eq g b (fun e => nm_r (nI_1 g) (HJ b _ _ hb kg_B_refl (by rw [e]; exact kg_B_refl))) (fun ne => ?_)
  rcases hz with hz | ⟨hz, hB⟩
  · refine br_t hz (kg_farB h1 h5 hp (by omega) (by omega) (fun u l => ?_) (fun hB u l => ?_))
    · refine br_t rfl (kg_measure (by omega) (by omega) ?_)
      dsimp only
      rw [← Int64.ofInt_mul, ← Int64.ofInt_mul]
      refine nm_e (nm_e ?_)
      have r1 := kg_UCb h1 h5 hp (show g < 4 by omega) (show b < 4 by omega)
      have r2 := kg_UCb h1 h5 hp (show b < 4 by omega) (show g < 4 by omega)
      refine ek_if (kg_lt r1 r2) (fun hl => ?_) (fun hl => ?_)
      · exact nm_r (nI_1 g) (HJ g _ _ hg (Or.inl hl) kg_B_refl)
      · refine ek_if (kg_eq r1 r2) (fun he => ?_) (fun he => ?_)
        · refine pk_le b g (fun hbg => nm_r (nI_1 g) (HJ b _ _ hb kg_B_refl (Or.inr ⟨he.symm, hbg⟩))) (fun hbg => ?_)
          exact nm_r (nI_1 g) (HJ g _ _ hg (Or.inr ⟨he, by omega⟩) kg_B_refl)
        · exact nm_r (nI_1 g) (HJ b _ _ hb kg_B_refl (Or.inl (by omega)))
    · exact br_f (by decide) (nm_r (nI_1 g) (HJ b _ _ hb kg_B_refl hB))
  · exact br_f hz (nm_r (nI_1 g) (HJ b _ _ hb kg_B_refl hB))
/-- the loop: own group o; x8: 'stays' -/
theorem kg_ng66 {post : Int32 → St1 → Prop} {x8 : Int32} {o : Nat}
    (hP : P ≤ 24) (h1 : kg_pt P a1 a2) (h5 : kg_md a5 a6 a7) (hp : p < P) (hk : k ≤ 4) (ho : o < k) (h8 : ¬ x8 = 0 → ∀ g, g < k → a8 g = 0 → kg_B a1 a2 a5 a6 a7 p o g)
    (H : ∀ c u l, c < k → (∀ g, g < k → kg_B a1 a2 a5 a6 a7 p c g) → post (nI c) (fp, nI k, u, l, a1, a2, a3, a4, a5, a6, a7, a8, a9, a10, a11, a12)) :
    ∀ n i b fu fl, i + n = k → b < k → kg_B a1 a2 a5 a6 a7 p b o → (∀ g, g < i → kg_B a1 a2 a5 a6 a7 p b g) →
      wX_nearestGroup_66 post (nI p) x8 (n + 1) (nI b) (Int64.ofInt (kg_U a1 a2 a5 a6 a7 p b)) (Int64.ofInt (kg_C a7 b)) (nI i) fp (nI k) fu fl a1 a2 a3 a4 a5 a6 a7 a8 a9 a10 a11 a12 := by
  intro n
  induction n with
  | zero =>
    intro i b fu fl hi hb hbo hI
    have e : i = k := by omega
    subst e
    exact pk_le i i (fun _ => H b _ _ hb hI) (fun z => absurd z (by omega))
  | succ n ih =>
    intro i b fu fl hi hb hbo hI
    have HJ : ∀ c u l, c < k → kg_B a1 a2 a5 a6 a7 p c b → kg_B a1 a2 a5 a6 a7 p c i → wX_nearestGroup_66 post (nI p) x8 (n + 1) (nI c) (Int64.ofInt (kg_U a1 a2 a5 a6 a7 p c)) (Int64.ofInt (kg_C a7 c)) (nI (i + 1)) fp (nI k) u l a1 a2 a3 a4 a5 a6 a7 a8 a9 a10 a11 a12 :=
      fun c u l hc hcb hci => ih (i + 1) c u l (by omega) hc (kg_B_trans h5 (by omega) (by omega) (by omega) hcb hbo) (lt_s (fun g hg => kg_B_trans h5 (by omega) (by omega) (by omega) hcb (hI g hg)) hci)
    refine pk_le k i (fun z => absurd z (by omega)) (fun _ => ?_)
    refine br_c (fun _ => kg_ng95 hP h1 h5 hp hb (by omega) hk (Or.inl rfl) HJ) (fun hx => ⟨pk_in i 4 (by omega), ?_⟩)
    rw [nI_clamp (show i < 2 ^ 31 by omega)]
    refine br_c (fun h0 => kg_ng95 hP h1 h5 hp hb (by omega) hk (Or.inr ⟨by decide, kg_B_trans h5 (by omega) (by omega) (by omega) hbo (h8 hx i (by omega) h0)⟩) HJ) (fun _ => kg_ng95 hP h1 h5 hp hb (by omega) hk (Or.inl rfl) HJ)
theorem kg_ng24 {post : Int32 → St1 → Prop} {x2 : Int32} {o : Nat}
    (hP : P ≤ 24) (h1 : kg_pt P a1 a2) (h5 : kg_md a5 a6 a7) (hp : p < P) (hk : k ≤ 4) (ho : o < k) (h8 : ¬ x2 < 0 → a8 o = 0 → ∀ g, g < k → a8 g = 0 → kg_B a1 a2 a5 a6 a7 p o g)
    (H : ∀ c u l, c < k → (∀ g, g < k → kg_B a1 a2 a5 a6 a7 p c g) → post (nI c) (fp, nI k, u, l, a1, a2, a3, a4, a5, a6, a7, a8, a9, a10, a11, a12)) :
    wX_nearestGroup_24 post (nI p) x2 (nI o) fp (nI k) fu fl a1 a2 a3 a4 a5 a6 a7 a8 a9 a10 a11 a12 := by
  unfold wX_nearestGroup_24
  refine kg_measure (by omega) (by omega) ?_
  dsimp only
  have run : ∀ (x8 : Int32) (u l : Int64), (¬ x8 = 0 → ∀ g, g < k → a8 g = 0 → kg_B a1 a2 a5 a6 a7 p o g) → ∃ fu66, wX_nearestGroup_66 post (nI p) x8 fu66 (nI o) (Int64.ofInt (kg_U a1 a2 a5 a6 a7 p o)) (Int64.ofInt (kg_C a7 o)) 0 fp (nI k) u l a1 a2 a3 a4 a5 a6 a7 a8 a9 a10 a11 a12 := by
    intro x8 u l hx
    have r := kg_ng66 (a3 := a3) (a4 := a4) (a9 := a9) (a10 := a10) (a11 := a11) (a12 := a12) hP h1 h5 hp hk ho hx H k 0 o u l (by omega) ho kg_B_refl lt_0
    rw [nI_0] at r
    exact ⟨_, r⟩
  refine br_c (fun _ => run 0 _ _ (fun z => absurd rfl z)) (fun hx => ⟨pk_in o 4 (by omega), ?_⟩)
  rw [nI_clamp (show o < 2 ^ 31 by omega)]
  exact br_c (fun h0 => run 1 _ _ (fun _ => h8 hx h0)) (fun _ => run 0 _ _ (fun z => absurd rfl z))
/-- a member: none yet, or a group that stays behind no other one that has not moved, if it has not moved either -/
def kg_m1 (k : Nat) (a1 a2 a5 a6 a7 a8 : Nat → Int32) (p : Nat) (x : Int32) : Prop := x = -1 ∨ ∃ b, b < k ∧ x = nI b ∧ (a8 b = 0 → ∀ g, g < k → a8 g = 0 → kg_B a1 a2 a5 a6 a7 p b g)
theorem kg_ng {post : Int32 → St1 → Prop}
    (hP : P ≤ 24) (h1 : kg_pt P a1 a2) (h5 : kg_md a5 a6 a7) (hp : p < P) (hk : k ≤ 4) (h0 : 1 ≤ k) (hm : kg_m1 k a1 a2 a5 a6 a7 a8 p (a9 p))
    (H : ∀ c u l, c < k → (∀ g, g < k → kg_B a1 a2 a5 a6 a7 p c g) → post (nI c) (fp, nI k, u, l, a1, a2, a3, a4, a5, a6, a7, a8, a9, a10, a11, a12)) :
    wpX_nearestGroup post (fp, nI k, fu, fl, a1, a2, a3, a4, a5, a6, a7, a8, a9, a10, a11, a12) (nI p) := by
  unfold wpX_nearestGroup
  dsimp only
  refine ⟨pk_in p 24 (by omega), ?_⟩
  rw [nI_clamp (show p < 2 ^ 31 by omega)]
  intro x2 e2
  rcases hm with hm | ⟨b, hb, hm, h8⟩
  · rw [hm] at e2
    subst e2
    refine br_t (by decide) ?_
    exact kg_ng24 (o := 0) hP h1 h5 hp hk (by omega) (fun z => absurd (by decide) z) H
  · rw [hm] at e2
    subst e2
    refine br_f (nI_pos (by omega)) (br_t (nI_lt hb (by omega)) ?_)
    exact kg_ng24 (o := b) hP h1 h5 hp hk hb (fun _ => h8) H
/-! ===== reset ===== -/
theorem kg_reset {post : St1 → Prop}
    (H : ∀ b5 b6 b7 b8 b9, (∀ g, g < 4 → b5 g = a3 g ∧ b6 g = a4 g ∧ b7 g = 1) → (∀ j, j < 24 → b9 j = -1) → post (fp, fk, fu, fl, a1, a2, a3, a4, b5, b6, b7, b8, b9, a10, a11, a12)) :
    wpX_reset post (fp, fk, fu, fl, a1, a2, a3, a4, a5, a6, a7, a8, a9, a10, a11, a12) := by
  unfold wpX_reset
  dsimp only
  refine pk_loop (σ := (Nat → Int32) × (Nat → Int32) × (Nat → Int32) × (Nat → Int32)) (fun n i s => wX_reset_2 post fp fk fu fl n (nI i) a1 a2 a3 a4 s.1 s.2.1 s.2.2.1 s.2.2.2 a9 a10 a11 a12) (fun i s => ∀ g, g < i → s.1 g = a3 g ∧ s.2.1 g = a4 g ∧ s.2.2.1 g = 1) 4 0 (a5, a6, a7, a8) (by omega) lt_0 ?_ ?_
  · rintro n ⟨b5, b6, b7, b8⟩ h
    refine pk_le 4 4 (fun _ => ?_) (fun z => absurd z (by omega))
    refine pk_loop (fun n i s => wX_reset_53 post fp fk fu fl n (nI i) a1 a2 a3 a4 b5 b6 b7 b8 s a10 a11 a12) (fun i s => ∀ j, j < i → s j = -1) 24 0 a9 (by omega) lt_0 ?_ ?_
    · intro n s hs
      exact pk_le 24 24 (fun _ => H b5 b6 b7 b8 s h hs) (fun z => absurd z (by omega))
    · intro n i s hi hs hw
      refine pk_le 24 i (fun z => absurd z (by omega)) (fun _ => ⟨pk_in i 24 hi, ?_⟩)
      rw [nI_clamp (show i < 2 ^ 31 by omega)]
      refine nm_e (nm_r (nI_1 i) (hw _ ?_))
      exact lt_s (fun j hj => by rw [pk_un (by omega)]; exact hs j hj) pk_us
  · rintro n i ⟨b5, b6, b7, b8⟩ hi h hw
    have i4 : vp_in (nI i) 4 := pk_in i 4 hi
    refine pk_le 4 i (fun z => absurd z (by omega)) (fun _ => ⟨i4, i4, ?_⟩)
    rw [nI_clamp (show i < 2 ^ 31 by omega)]
    refine nm_e ⟨i4, i4, nm_e ⟨i4, nm_e ⟨i4, nm_e (nm_r (nI_1 i) (hw (upd b5 i (a3 i), upd b6 i (a4 i), upd b7 i 1, upd b8 i 1) ?_))⟩⟩⟩
    refine lt_s (fun g hg => ?_) ⟨pk_us, pk_us, pk_us⟩
    have e := h g hg
    exact ⟨(pk_un (by omega)).trans e.1, (pk_un (by omega)).trans e.2.1, (pk_un (by omega)).trans e.2.2⟩
end WALK
end
section
/-! ===== moveMiddles ===== -/
/-- group g behind moveMiddles: b5 .. b8, ahead of it m5 m6 m7; a9: the members -/
def kg_Q (P : Nat) (a1 a2 a9 m5 m6 m7 b5 b6 b7 b8 : Nat → Int32) (g : Nat) : Prop :=
  (kg_cnt a9 g P = 0 → b5 g = m5 g ∧ b6 g = m6 g ∧ b7 g = m7 g) ∧
  (0 < kg_cnt a9 g P → b5 g = kg_sum a9 a1 g P ∧ b6 g = kg_sum a9 a2 g P ∧ b7 g = nI (kg_cnt a9 g P)) ∧
  (b8 g = 0 → (b5 g).toInt * (m7 g).toInt = (m5 g).toInt * (b7 g).toInt ∧ (b6 g).toInt * (m7 g).toInt = (m6 g).toInt * (b7 g).toInt)
theorem kg_Q_keep {P : Nat} {a1 a2 a9 m5 m6 m7 b5 b6 b7 b8 c5 c6 c7 c8 : Nat → Int32} {g : Nat} (h5 : c5 g = b5 g) (h6 : c6 g = b6 g) (h7 : c7 g = b7 g) (h8 : c8 g = b8 g) (h : kg_Q P a1 a2 a9 m5 m6 m7 b5 b6 b7 b8 g) : kg_Q P a1 a2 a9 m5 m6 m7 c5 c6 c7 c8 g := by
  unfold kg_Q
  rw [h5, h6, h7, h8]
  exact h
section MOVE
variable {fp fk : Int32} {fu fl : Int64} {a1 a2 a3 a4 a5 a6 a7 a8 a9 a10 a11 a12 : Nat → Int32} {P k i : Nat}
  {J : Int32 → (Nat → Int32) → (Nat → Int32) → (Nat → Int32) → (Nat → Int32) → (Nat → Int32) → (Nat → Int32) → (Nat → Int32) → (Nat → Int32) → (Nat → Int32) → (Nat → Int32) → (Nat → Int32) → (Nat → Int32) → Prop}
theorem kg_mm211 {post : St1 → Prop} {z : Int32} (hi : i < 4) (HJ : J (nI (i + 1)) a1 a2 a3 a4 (upd a5 i (a10 i)) (upd a6 i (a11 i)) (upd a7 i (a12 i)) (upd a8 i (vp_nar .boolean z)) a9 a10 a11 a12) :
    wX_moveMiddles_211 post J (nI i) z (nI i) fp fk fu fl a1 a2 a3 a4 a5 a6 a7 a8 a9 a10 a11 a12 := by
  have i4 : vp_in (nI i) 4 := pk_in i 4 hi
  unfold wX_moveMiddles_211
  rw [nI_clamp (show i < 2 ^ 31 by omega)]
  exact ⟨i4, nm_e ⟨i4, i4, nm_e ⟨i4, i4, nm_e ⟨i4, i4, nm_e (nm_r (nI_1 i) HJ)⟩⟩⟩⟩
theorem kg_nar1 : ¬ vp_nar .boolean 1 = 0 := by decide
theorem kg_mm157 {post : St1 → Prop} {x : Int32} (hi : i < 4)
    (HJ : ∀ y : Int32, (y = 0 → ¬ x = 0 ∧ a11 i * a7 i = a6 i * a12 i) → J (nI (i + 1)) a1 a2 a3 a4 (upd a5 i (a10 i)) (upd a6 i (a11 i)) (upd a7 i (a12 i)) (upd a8 i y) a9 a10 a11 a12) :
    wX_moveMiddles_157 post J (nI i) x fp fk fu fl a1 a2 a3 a4 a5 a6 a7 a8 a9 a10 a11 a12 := by
  have i4 : vp_in (nI i) 4 := pk_in i 4 hi
  have no : wX_moveMiddles_206 post J (nI i) (nI i) fp fk fu fl a1 a2 a3 a4 a5 a6 a7 a8 a9 a10 a11 a12 := kg_mm211 hi (HJ _ (fun z => absurd z kg_nar1))
  unfold wX_moveMiddles_157
  rw [nI_clamp (show i < 2 ^ 31 by omega)]
  refine ⟨i4, i4, i4, i4, br_c (fun hy => ?_) (fun hy => ?_)⟩
  · exact br_c (fun _ => no) (fun hx => br_f (by decide) (kg_mm211 hi (HJ _ (fun _ => ⟨hx, hy⟩))))
  · exact br_c (fun _ => no) (fun hx => br_t rfl no)
/-- the last loop -/
theorem kg_mm99 {post : St1 → Prop} (hP : P ≤ 24) (hk : k ≤ 4) (h1 : kg_pt P a1 a2) (h5 : kg_md a5 a6 a7)
    (hs : ∀ g, g < 4 → a10 g = kg_sum a9 a1 g P ∧ a11 g = kg_sum a9 a2 g P ∧ a12 g = nI (kg_cnt a9 g P))
    (H : ∀ b5 b6 b7 b8, (∀ g, g < k → kg_Q P a1 a2 a9 a5 a6 a7 b5 b6 b7 b8 g) → (∀ g, k ≤ g → b5 g = a5 g ∧ b6 g = a6 g ∧ b7 g = a7 g) → post (fp, nI k, fu, fl, a1, a2, a3, a4, b5, b6, b7, b8, a9, a10, a11, a12)) :
    ∃ n, wX_moveMiddles_99 post fp (nI k) fu fl n 0 a1 a2 a3 a4 a5 a6 a7 a8 a9 a10 a11 a12 := by
  refine pk_loop (σ := (Nat → Int32) × (Nat → Int32) × (Nat → Int32) × (Nat → Int32)) (fun n i s => wX_moveMiddles_99 post fp (nI k) fu fl n (nI i) a1 a2 a3 a4 s.1 s.2.1 s.2.2.1 s.2.2.2 a9 a10 a11 a12) (fun i s => (∀ g, g < i → kg_Q P a1 a2 a9 a5 a6 a7 s.1 s.2.1 s.2.2.1 s.2.2.2 g) ∧ (∀ g, i ≤ g → s.1 g = a5 g ∧ s.2.1 g = a6 g ∧ s.2.2.1 g = a7 g)) k 0 (a5, a6, a7, a8) (by omega) ⟨lt_0, fun g _ => ⟨rfl, rfl, rfl⟩⟩ ?_ ?_
  · rintro n ⟨b5, b6, b7, b8⟩ ⟨q1, q2⟩
    exact pk_le k k (fun _ => H b5 b6 b7 b8 q1 q2) (fun z => absurd z (by omega))
  · rintro n i ⟨b5, b6, b7, b8⟩ hi ⟨q1, q2⟩ hw
    dsimp only at q1 q2 hw
    have i4 : vp_in (nI i) 4 := pk_in i 4 (by omega)
    obtain ⟨s1, s2, s3⟩ := hs i (by omega)
    obtain ⟨o5, o6, o7⟩ := q2 i (Nat.le_refl i)
    refine pk_le k i (fun z => absurd z (by omega)) (fun _ => ⟨i4, ?_⟩)
    dsimp only
    rw [nI_clamp (show i < 2 ^ 31 by omega)]
    refine nm_e ⟨i4, ?_⟩
    have cle := kg_cnt_le a9 i P
    rw [s3]
    refine pk_le (kg_cnt a9 i P) 0 (fun hc => nm_r (nI_1 i) ?_) (fun hc => ⟨i4, i4, i4, i4, ?_⟩)
    · refine hw (b5, b6, b7, upd b8 i 0) ⟨lt_s (fun g hg => kg_Q_keep rfl rfl rfl (pk_un (by omega)) (q1 g hg)) ?_, fun g hg => q2 g (by omega)⟩
      refine ⟨fun _ => ⟨o5, o6, o7⟩, fun z => absurd z (by omega), fun _ => ?_⟩
      dsimp only
      rw [o5, o6, o7]
      exact ⟨rfl, rfl⟩
    · have b1 := kg_sum_b (m := a9) i hP (fun j hj => (h1 j hj).1)
      have b2 := kg_sum_b (m := a9) i hP (fun j hj => (h1 j hj).2)
      have tc : (nI (kg_cnt a9 i P)).toInt = (kg_cnt a9 i P : Int) := nI_toInt (by omega)
      obtain ⟨m5, m6, m7⟩ := h5 i (by omega)
      have J1 : ∀ (x y : Int32), (¬ x = 0 → a10 i * b7 i = b5 i * nI (kg_cnt a9 i P)) → (y = 0 → ¬ x = 0 ∧ a11 i * b7 i = b6 i * a12 i) → wX_moveMiddles_99 post fp (nI k) fu fl n (nI (i + 1)) a1 a2 a3 a4 (upd b5 i (a10 i)) (upd b6 i (a11 i)) (upd b7 i (a12 i)) (upd (upd b8 i 0) i y) a9 a10 a11 a12 := by
        intro x y hx hy
        refine hw (upd b5 i (a10 i), upd b6 i (a11 i), upd b7 i (a12 i), upd (upd b8 i 0) i y) ⟨lt_s (fun g hg => kg_Q_keep (pk_un (by omega)) (pk_un (by omega)) (pk_un (by omega)) ((pk_un (by omega)).trans (pk_un (by omega))) (q1 g hg)) ?_, fun g hg => ?_⟩
        · refine ⟨fun z => absurd z (by omega), fun _ => ⟨pk_us.trans s1, pk_us.trans s2, pk_us.trans s3⟩, fun z => ?_⟩
          dsimp only at z ⊢
          rw [pk_us] at z
          obtain ⟨y1, y2⟩ := hy z
          have x1 := hx y1
          rw [pk_us, pk_us, pk_us, s1, s2, s3]
          rw [s1, o7, o5] at x1
          rw [s2, o7, o6, s3] at y2
          exact ⟨kg_mul32 (by omega) (by omega) (by omega) (by omega) x1, kg_mul32 (by omega) (by omega) (by omega) (by omega) y2⟩
        · have e := q2 g (by omega)
          exact ⟨(pk_un (by omega)).trans e.1, (pk_un (by omega)).trans e.2.1, (pk_un (by omega)).trans e.2.2⟩
      refine br_c (fun hx => kg_mm157 (by omega) (fun y hy => J1 1 y (fun _ => hx) hy)) (fun hx => kg_mm157 (by omega) (fun y hy => J1 0 y (fun z => absurd rfl z) hy))
theorem kg_mm36 {post : St1 → Prop} (hP : P ≤ 24) (hm : ∀ j, j < P → ∃ b, b < 4 ∧ a9 j = nI b) (h0 : ∀ g, g < 4 → a10 g = 0 ∧ a11 g = 0 ∧ a12 g = 0)
    (H : ∀ b10 b11 b12, (∀ g, g < 4 → b10 g = kg_sum a9 a1 g P ∧ b11 g = kg_sum a9 a2 g P ∧ b12 g = nI (kg_cnt a9 g P)) → ∃ n, wX_moveMiddles_99 post (nI P) fk fu fl n 0 a1 a2 a3 a4 a5 a6 a7 a8 a9 b10 b11 b12) :
    ∃ n, wX_moveMiddles_36 post (nI P) fk fu fl n 0 a1 a2 a3 a4 a5 a6 a7 a8 a9 a10 a11 a12 := by
  refine pk_loop (σ := (Nat → Int32) × (Nat → Int32) × (Nat → Int32)) (fun n i s => wX_moveMiddles_36 post (nI P) fk fu fl n (nI i) a1 a2 a3 a4 a5 a6 a7 a8 a9 s.1 s.2.1 s.2.2) (fun i s => ∀ g, g < 4 → s.1 g = kg_sum a9 a1 g i ∧ s.2.1 g = kg_sum a9 a2 g i ∧ s.2.2 g = nI (kg_cnt a9 g i)) P 0 (a10, a11, a12) (by omega) (fun g hg => h0 g hg) ?_ ?_
  · rintro n ⟨b10, b11, b12⟩ h
    exact pk_le P P (fun _ => H b10 b11 b12 h) (fun z => absurd z (by omega))
  · rintro n i ⟨b10, b11, b12⟩ hi h hw
    dsimp only at h hw
    have i24 : vp_in (nI i) 24 := pk_in i 24 (by omega)
    obtain ⟨b, hb, eb⟩ := hm i hi
    have b4 : vp_in (nI b) 4 := pk_in b 4 hb
    refine pk_le P i (fun z => absurd z (by omega)) (fun _ => ⟨i24, ?_⟩)
    dsimp only
    rw [nI_clamp (show i < 2 ^ 31 by omega)]
    refine nm_r eb ?_
    rw [nI_clamp (show b < 2 ^ 31 by omega)]
    refine ⟨b4, i24, b4, nm_e ⟨b4, i24, b4, nm_e ⟨b4, b4, nm_e (nm_r (nI_1 i) (hw (upd b10 b (b10 b + a1 i), upd b11 b (b11 b + a2 i), upd b12 b (b12 b + 1)) (fun g hg => ?_)))⟩⟩⟩
    dsimp only
    obtain ⟨e1, e2, e3⟩ := h g hg
    by_cases e : g = b
    · subst e
      rw [pk_us, pk_us, pk_us, e1, e2, e3, kg_sum_t eb, kg_sum_t eb, kg_cnt_t eb]
      exact ⟨rfl, rfl, nI_1 _⟩
    · have ne : ¬ a9 i = nI g := by rw [eb]; exact kg_ne hb hg (fun z => e z.symm)
      rw [pk_un e, pk_un e, pk_un e, kg_sum_f ne, kg_sum_f ne, kg_cnt_f ne]
      exact ⟨e1, e2, e3⟩
theorem kg_move {post : St1 → Prop} (hP : P ≤ 24) (hk : k ≤ 4) (h1 : kg_pt P a1 a2) (h5 : kg_md a5 a6 a7) (hm : ∀ j, j < P → ∃ b, b < 4 ∧ a9 j = nI b)
    (H : ∀ b5 b6 b7 b8 b10 b11 b12, (∀ g, g < k → kg_Q P a1 a2 a9 a5 a6 a7 b5 b6 b7 b8 g) → (∀ g, k ≤ g → b5 g = a5 g ∧ b6 g = a6 g ∧ b7 g = a7 g) → post (nI P, nI k, fu, fl, a1, a2, a3, a4, b5, b6, b7, b8, a9, b10, b11, b12)) :
    wpX_moveMiddles post (nI P, nI k, fu, fl, a1, a2, a3, a4, a5, a6, a7, a8, a9, a10, a11, a12) := by
  unfold wpX_moveMiddles
  dsimp only
  refine pk_loop (σ := (Nat → Int32) × (Nat → Int32) × (Nat → Int32)) (fun n i s => wX_moveMiddles_2 post (nI P) (nI k) fu fl n (nI i) a1 a2 a3 a4 a5 a6 a7 a8 a9 s.1 s.2.1 s.2.2) (fun i s => ∀ g, g < i → s.1 g = 0 ∧ s.2.1 g = 0 ∧ s.2.2 g = 0) 4 0 (a10, a11, a12) (by omega) lt_0 ?_ ?_
  · rintro n ⟨b10, b11, b12⟩ h
    exact pk_le 4 4 (fun _ => kg_mm36 hP hm h (fun c10 c11 c12 hc => kg_mm99 hP hk h1 h5 hc (fun b5 b6 b7 b8 => H b5 b6 b7 b8 c10 c11 c12))) (fun z => absurd z (by omega))
  · rintro n i ⟨b10, b11, b12⟩ hi h hw
    dsimp only at h hw
    have i4 : vp_in (nI i) 4 := pk_in i 4 hi
    refine pk_le 4 i (fun z => absurd z (by omega)) (fun _ => ⟨i4, ?_⟩)
    dsimp only
    rw [nI_clamp (show i < 2 ^ 31 by omega)]
    refine nm_e ⟨i4, nm_e ⟨i4, nm_e (nm_r (nI_1 i) (hw (upd b10 i 0, upd b11 i 0, upd b12 i 0) ?_))⟩⟩
    refine lt_s (fun g hg => ?_) ⟨pk_us, pk_us, pk_us⟩
    have e := h g hg
    exact ⟨(pk_un (by omega)).trans e.1, (pk_un (by omega)).trans e.2.1, (pk_un (by omega)).trans e.2.2⟩
end MOVE
end
section
/-! ===== the invariant ===== -/
/-- a group with members: its middle is that of its members -/
def kg_J (P k : Nat) (a1 a2 a5 a6 a7 a9 : Nat → Int32) : Prop := ∀ g, g < k → 0 < kg_cnt a9 g P → a5 g = kg_sum a9 a1 g P ∧ a6 g = kg_sum a9 a2 g P ∧ a7 g = nI (kg_cnt a9 g P)
def kg_inv (P k : Nat) (a1 a2 a3 a4 a5 a6 a7 a8 a9 : Nat → Int32) : Prop :=
  P ≤ 24 ∧ 1 ≤ k ∧ k ≤ 4 ∧ kg_pt P a1 a2 ∧ kg_sd a3 a4 ∧ kg_md a5 a6 a7 ∧ (∀ j, j < P → kg_m1 k a1 a2 a5 a6 a7 a8 j (a9 j)) ∧ kg_J P k a1 a2 a5 a6 a7 a9
/-- every point's member is its nearest middle -/
def kg_all (P k : Nat) (a1 a2 a5 a6 a7 a9 : Nat → Int32) : Prop := ∀ j, j < P → ∃ b, b < k ∧ a9 j = nI b ∧ ∀ g, g < k → kg_B a1 a2 a5 a6 a7 j b g
theorem kg_m1n : ∀ g, g < 4 → ¬ (-1 : Int32) = nI g := by decide
theorem kg_cnt_none {m : Nat → Int32} {g n : Nat} (hg : g < 4) (h : ∀ j, j < n → m j = -1) : kg_cnt m g n = 0 := by
  induction n with
  | zero => rfl
  | succ n ih =>
    rw [kg_cnt_f (by rw [h n (by omega)]; exact kg_m1n g hg)]
    exact ih (fun j hj => h j (by omega))
theorem kg_inv_reset {P k : Nat} {a1 a2 a3 a4 b5 b6 b7 b8 b9 : Nat → Int32} (hP : P ≤ 24) (hk0 : 1 ≤ k) (hk : k ≤ 4) (h1 : kg_pt P a1 a2) (h3 : kg_sd a3 a4)
    (hr : ∀ g, g < 4 → b5 g = a3 g ∧ b6 g = a4 g ∧ b7 g = 1) (h9 : ∀ j, j < 24 → b9 j = -1) : kg_inv P k a1 a2 a3 a4 b5 b6 b7 b8 b9 := by
  refine ⟨hP, hk0, hk, h1, h3, fun g hg => ?_, fun j hj => Or.inl (h9 j (by omega)), fun g hg hc => ?_⟩
  · obtain ⟨e5, e6, e7⟩ := hr g hg
    have b := h3 g hg
    have one : (1 : Int32).toInt = 1 := by decide
    rw [e5, e6, e7, one]
    omega
  · rw [kg_cnt_none (by omega) (fun j hj => h9 j (by omega))] at hc
    omega
theorem kg_B_congr {a1 a2 a5 a6 a7 b5 b6 b7 : Nat → Int32} {p b g : Nat} (hb : b5 b = a5 b ∧ b6 b = a6 b ∧ b7 b = a7 b) (hg : b5 g = a5 g ∧ b6 g = a6 g ∧ b7 g = a7 g) (h : kg_B a1 a2 a5 a6 a7 p b g) : kg_B a1 a2 b5 b6 b7 p b g := by
  unfold kg_B kg_U kg_C at h ⊢
  rw [hb.1, hb.2.1, hb.2.2, hg.1, hg.2.1, hg.2.2]
  exact h
section PURE
variable {P k : Nat} {a1 a2 a5 a6 a7 a9 b5 b6 b7 b8 b9 : Nat → Int32}
theorem kg_md_move (hP : P ≤ 24) (hk : k ≤ 4) (h1 : kg_pt P a1 a2) (h5 : kg_md a5 a6 a7) (hQ : ∀ g, g < k → kg_Q P a1 a2 b9 a5 a6 a7 b5 b6 b7 b8 g) (hU : ∀ g, k ≤ g → b5 g = a5 g ∧ b6 g = a6 g ∧ b7 g = a7 g) : kg_md b5 b6 b7 := by
  intro g hg
  have old := h5 g hg
  by_cases hgk : g < k
  · obtain ⟨q1, q2, q3⟩ := hQ g hgk
    by_cases hc : kg_cnt b9 g P = 0
    · obtain ⟨e5, e6, e7⟩ := q1 hc
      rw [e5, e6, e7]
      exact old
    · obtain ⟨e5, e6, e7⟩ := q2 (by omega)
      have b1 := kg_sum_b (m := b9) g hP (fun j hj => (h1 j hj).1)
      have b2 := kg_sum_b (m := b9) g hP (fun j hj => (h1 j hj).2)
      have cle := kg_cnt_le b9 g P
      rw [e5, e6, e7, nI_toInt (by omega)]
      omega
  · obtain ⟨e5, e6, e7⟩ := hU g (by omega)
    rw [e5, e6, e7]
    exact old
theorem kg_m1_move (hk : k ≤ 4) (h5 : kg_md a5 a6 a7) (h5' : kg_md b5 b6 b7) (hQ : ∀ g, g < k → kg_Q P a1 a2 b9 a5 a6 a7 b5 b6 b7 b8 g) (ha : kg_all P k a1 a2 a5 a6 a7 b9) : ∀ j, j < P → kg_m1 k a1 a2 b5 b6 b7 b8 j (b9 j) := by
  intro j hj
  obtain ⟨b, hb, eb, hB⟩ := ha j hj
  refine Or.inr ⟨b, hb, eb, fun zb g hg zg => ?_⟩
  obtain ⟨xb, yb⟩ := (hQ b hb).2.2 zb
  obtain ⟨xg, yg⟩ := (hQ g hg).2.2 zg
  exact kg_LE_same (kg_Cb h5 (by omega)).1 (kg_Cb h5 (by omega)).1 (kg_Cb h5' (by omega)).1 (kg_Cb h5' (by omega)).1 (kg_same xb yb) (kg_same xg yg) (hB g hg)
theorem kg_stay (hQ : ∀ g, g < k → kg_Q P a1 a2 b9 a5 a6 a7 b5 b6 b7 b8 g) (hJ : kg_J P k a1 a2 a5 a6 a7 a9) (hs : ∀ j, j < P → b9 j = a9 j) (ha : kg_all P k a1 a2 a5 a6 a7 b9) : kg_all P k a1 a2 b5 b6 b7 b9 := by
  have same : ∀ g, g < k → b5 g = a5 g ∧ b6 g = a6 g ∧ b7 g = a7 g := by
    intro g hg
    obtain ⟨q1, q2, q3⟩ := hQ g hg
    by_cases hc : kg_cnt b9 g P = 0
    · exact q1 hc
    · obtain ⟨e5, e6, e7⟩ := q2 (by omega)
      have ec := kg_cnt_congr g hs
      obtain ⟨f5, f6, f7⟩ := hJ g hg (by omega)
      rw [e5, e6, e7, f5, f6, f7, kg_sum_congr g hs (fun _ _ => rfl), kg_sum_congr g hs (fun _ _ => rfl), ec]
      exact ⟨rfl, rfl, rfl⟩
  intro j hj
  obtain ⟨b, hb, eb, hB⟩ := ha j hj
  exact ⟨b, hb, eb, fun g hg => kg_B_congr (same b hb) (same g hg) (hB g hg)⟩
end PURE
/-! ===== round, settle ===== -/
section ROUND
variable {fp fk : Int32} {fu fl : Int64} {a1 a2 a3 a4 a5 a6 a7 a8 a9 a10 a11 a12 : Nat → Int32} {P k : Nat}
theorem kg_round {post : Int32 → St1 → Prop} (h : kg_inv P k a1 a2 a3 a4 a5 a6 a7 a8 a9)
    (H : ∀ c u l b5 b6 b7 b8 b9 b10 b11 b12, c ≤ P → kg_inv P k a1 a2 a3 a4 b5 b6 b7 b8 b9 → (∀ j, j < P → ∃ b, b < 4 ∧ b9 j = nI b) → (c = 0 → kg_all P k a1 a2 b5 b6 b7 b9) → (kg_all P k a1 a2 a5 a6 a7 a9 → c = 0) →
      post (nI c) (nI P, nI k, u, l, a1, a2, a3, a4, b5, b6, b7, b8, b9, b10, b11, b12)) :
    wpX_round post (nI P, nI k, fu, fl, a1, a2, a3, a4, a5, a6, a7, a8, a9, a10, a11, a12) := by
  obtain ⟨hP, hk0, hk, h1, h3, h5, hm, hJ⟩ := h
  unfold wpX_round
  dsimp only
  refine pk_loop (σ := Nat × Int64 × Int64 × (Nat → Int32)) (fun n i s => wX_round_4 post n (nI s.1) (nI i) (nI P) (nI k) s.2.1 s.2.2.1 a1 a2 a3 a4 a5 a6 a7 a8 s.2.2.2 a10 a11 a12)
    (fun i s => s.1 ≤ i ∧ (∀ j, j < i → ∃ b, b < k ∧ s.2.2.2 j = nI b ∧ ∀ g, g < k → kg_B a1 a2 a5 a6 a7 j b g) ∧ (∀ j, i ≤ j → s.2.2.2 j = a9 j) ∧ (s.1 = 0 → ∀ j, j < i → s.2.2.2 j = a9 j) ∧ (kg_all P k a1 a2 a5 a6 a7 a9 → s.1 = 0))
    P 0 (0, fu, fl, a9) (by omega) ⟨by omega, lt_0, fun _ _ => rfl, fun _ => lt_0, fun _ => rfl⟩ ?_ ?_
  · rintro n ⟨c, u, l, b9⟩ ⟨hc, q1, q2, q3, q4⟩
    dsimp only at hc q1 q2 q3 q4
    refine pk_le P P (fun _ => ?_) (fun z => absurd z (by omega))
    have hm4 : ∀ j, j < P → ∃ b, b < 4 ∧ b9 j = nI b := fun j hj => by
      obtain ⟨b, hb, eb, _⟩ := q1 j hj
      exact ⟨b, by omega, eb⟩
    refine kg_move hP hk h1 h5 hm4 (fun b5 b6 b7 b8 b10 b11 b12 hQ hU => ?_)
    have h5' := kg_md_move hP hk h1 h5 hQ hU
    exact H c u l b5 b6 b7 b8 b9 b10 b11 b12 hc ⟨hP, hk0, hk, h1, h3, h5', kg_m1_move hk h5 h5' hQ q1, fun g hg => (hQ g hg).2.1⟩ hm4 (fun z => kg_stay hQ hJ (q3 z) q1) q4
  · rintro n i ⟨c, u, l, b9⟩ hi ⟨hc, q1, q2, q3, q4⟩ hw
    dsimp only at hc q1 q2 q3 q4 hw
    have i24 : vp_in (nI i) 24 := pk_in i 24 (by omega)
    have ei := q2 i (Nat.le_refl i)
    refine pk_le P i (fun z => absurd z (by omega)) (fun _ => ?_)
    have hmi : kg_m1 k a1 a2 a5 a6 a7 a8 i (b9 i) := by rw [ei]; exact hm i hi
    refine kg_ng hP h1 h5 hi hk hk0 hmi (fun b u' l' hb hB => ⟨i24, ?_⟩)
    rw [nI_clamp (show i < 2 ^ 31 by omega)]
    have old : ∀ j, j < i → upd b9 i (nI b) j = b9 j := fun j hj => pk_un (by omega)
    have r1 : ∀ j, j < i + 1 → ∃ b', b' < k ∧ upd b9 i (nI b) j = nI b' ∧ ∀ g, g < k → kg_B a1 a2 a5 a6 a7 j b' g :=
      lt_s (fun j hj => by rw [old j hj]; exact q1 j hj) ⟨b, hb, pk_us, hB⟩
    have r2 : ∀ j, i + 1 ≤ j → upd b9 i (nI b) j = a9 j := fun j hj => (pk_un (by omega)).trans (q2 j (by omega))
    refine br_c (fun he => ?_) (fun he => ?_)
    · unfold wX_round_34
      rw [nI_clamp (show i < 2 ^ 31 by omega)]
      refine nm_r (Int32.add_zero _) ⟨i24, nm_e (nm_r (nI_1 i) (hw (c, u', l', upd b9 i (nI b)) ⟨by omega, r1, r2, fun z => ?_, q4⟩))⟩
      exact lt_s (fun j hj => (old j hj).trans (q3 z j hj)) (pk_us.trans (he.trans ei))
    · unfold wX_round_34
      rw [nI_clamp (show i < 2 ^ 31 by omega)]
      refine nm_r (nI_1 c) ⟨i24, nm_e (nm_r (nI_1 i) (hw (c + 1, u', l', upd b9 i (nI b)) ⟨Nat.succ_le_succ hc, r1, r2, fun z => absurd z (Nat.succ_ne_zero c), fun z => ?_⟩))⟩
      obtain ⟨b', hb', eb', hB'⟩ := z i hi
      have e := kg_B_anti (hB b' hb') (hB' b hb)
      subst e
      exact absurd (eb'.symm.trans ei.symm) he
theorem kg_settle {post : Int32 → St1 → Prop} (h : kg_inv P k a1 a2 a3 a4 a5 a6 a7 a8 a9)
    (H : ∀ r u l b5 b6 b7 b8 b9 b10 b11 b12, 1 ≤ r → r ≤ 40 → kg_inv P k a1 a2 a3 a4 b5 b6 b7 b8 b9 → (∀ j, j < P → ∃ b, b < 4 ∧ b9 j = nI b) → (r < 40 → kg_all P k a1 a2 b5 b6 b7 b9) →
      post (nI r) (nI P, nI k, u, l, a1, a2, a3, a4, b5, b6, b7, b8, b9, b10, b11, b12)) :
    wpX_settle post (nI P, nI k, fu, fl, a1, a2, a3, a4, a5, a6, a7, a8, a9, a10, a11, a12) := by
  obtain ⟨hP, hk0, hk, h1, h3, _⟩ := h
  unfold wpX_settle
  dsimp only
  refine kg_reset (fun b5 b6 b7 b8 b9 hr h9 => ?_)
  dsimp only
  have key : ∀ n i u l b5 b6 b7 b8 b9 b10 b11 b12, i + n = 41 → 1 ≤ i → kg_inv P k a1 a2 a3 a4 b5 b6 b7 b8 b9 → (1 < i → ∀ j, j < P → ∃ b, b < 4 ∧ b9 j = nI b) →
      wX_settle_6 post (n + 1) (nI i) (nI P) (nI k) u l a1 a2 a3 a4 b5 b6 b7 b8 b9 b10 b11 b12 := by
    intro n
    induction n with
    | zero =>
      intro i u l b5 b6 b7 b8 b9 b10 b11 b12 hi hi1 hI hA
      exact pk_lt 40 i (fun _ => H 40 u l b5 b6 b7 b8 b9 b10 b11 b12 (by omega) (by omega) hI (hA (by omega)) (fun z => absurd z (by omega))) (fun z => absurd z (by omega))
    | succ n ih =>
      intro i u l b5 b6 b7 b8 b9 b10 b11 b12 hi hi1 hI hA
      refine pk_lt 40 i (fun z => absurd z (by omega)) (fun _ => ?_)
      refine kg_round hI (fun c u' l' c5 c6 c7 c8 c9 c10 c11 c12 hc hI' hA' hz _ => ?_)
      refine pk_eq c 0 (fun e => H i u' l' c5 c6 c7 c8 c9 c10 c11 c12 (by omega) (by omega) hI' hA' (fun _ => hz e)) (fun _ => nm_r (nI_1 i) ?_)
      exact ih (i + 1) u' l' c5 c6 c7 c8 c9 c10 c11 c12 (by omega) (by omega) hI' (fun _ => hA')
  exact ⟨41, key 40 1 _ _ _ _ _ _ _ _ _ _ (by omega) (by omega) (kg_inv_reset hP hk0 hk h1 h3 hr h9) (fun z => absurd z (by omega))⟩
end ROUND
end
section
/-! ===== size, sum, whole ===== -/
section LOOKS
variable {fp fk : Int32} {fu fl : Int64} {a1 a2 a3 a4 a5 a6 a7 a8 a9 a10 a11 a12 : Nat → Int32} {P k g : Nat}
theorem kg_size {post : Int32 → Prop} (hP : P ≤ 24) (hg : g < 4) (H : post (nI (kg_cnt a9 g P))) :
    wpX_size post (nI P, fk, fu, fl, a1, a2, a3, a4, a5, a6, a7, a8, a9, a10, a11, a12) (nI g) := by
  unfold wpX_size
  dsimp only
  refine pk_loop (σ := Unit) (fun n i _ => wX_size_4 post (nI g) (nI P) fk fu fl a1 a2 a3 a4 a5 a6 a7 a8 a9 a10 a11 a12 n (nI (kg_cnt a9 g i)) (nI i)) (fun _ _ => True) P 0 () (by omega) trivial ?_ ?_
  · intro n _ _
    exact pk_le P P (fun _ => H) (fun z => absurd z (by omega))
  · intro n i _ hi _ hw
    refine pk_le P i (fun z => absurd z (by omega)) (fun _ => br_f (nI_pos (by omega)) ⟨pk_in i 24 (by omega), ?_⟩)
    rw [nI_clamp (show i < 2 ^ 31 by omega)]
    have t := hw () trivial
    refine br_c (fun e => nm_r (nI_1 _) (nm_r (nI_1 i) ?_)) (fun e => nm_r (Int32.add_zero _) (nm_r (nI_1 i) ?_))
    · rw [kg_cnt_t e] at t
      exact t
    · rw [kg_cnt_f e] at t
      exact t
theorem kg_sum0 {post : Int32 → Prop} (hP : P ≤ 24) (hg : g < 4) (H : post (kg_sum a9 a1 g P)) :
    wpX_sum post (nI P, fk, fu, fl, a1, a2, a3, a4, a5, a6, a7, a8, a9, a10, a11, a12) (nI g) 0 := by
  unfold wpX_sum
  dsimp only
  refine pk_loop (σ := Unit) (fun n i _ => wX_sum_5 post (nI g) 0 (nI P) fk fu fl a1 a2 a3 a4 a5 a6 a7 a8 a9 a10 a11 a12 n (kg_sum a9 a1 g i) (nI i)) (fun _ _ => True) P 0 () (by omega) trivial ?_ ?_
  · intro n _ _
    exact pk_le P P (fun _ => H) (fun z => absurd z (by omega))
  · intro n i _ hi _ hw
    have i24 : vp_in (nI i) 24 := pk_in i 24 (by omega)
    refine pk_le P i (fun z => absurd z (by omega)) (fun _ => br_f (nI_pos (by omega)) ⟨i24, ?_⟩)
    rw [nI_clamp (show i < 2 ^ 31 by omega)]
    have t := hw () trivial
    refine br_c (fun e => br_t rfl ⟨i24, nm_e (nm_r (nI_1 i) ?_)⟩) (fun e => nm_r (nI_1 i) ?_)
    · rw [kg_sum_t e] at t
      exact t
    · rw [kg_sum_f e] at t
      exact t
theorem kg_sum1 {post : Int32 → Prop} (hP : P ≤ 24) (hg : g < 4) (H : post (kg_sum a9 a2 g P)) :
    wpX_sum post (nI P, fk, fu, fl, a1, a2, a3, a4, a5, a6, a7, a8, a9, a10, a11, a12) (nI g) 1 := by
  unfold wpX_sum
  dsimp only
  refine pk_loop (σ := Unit) (fun n i _ => wX_sum_5 post (nI g) 1 (nI P) fk fu fl a1 a2 a3 a4 a5 a6 a7 a8 a9 a10 a11 a12 n (kg_sum a9 a2 g i) (nI i)) (fun _ _ => True) P 0 () (by omega) trivial ?_ ?_
  · intro n _ _
    exact pk_le P P (fun _ => H) (fun z => absurd z (by omega))
  · intro n i _ hi _ hw
    have i24 : vp_in (nI i) 24 := pk_in i 24 (by omega)
    refine pk_le P i (fun z => absurd z (by omega)) (fun _ => br_f (nI_pos (by omega)) ⟨i24, ?_⟩)
    rw [nI_clamp (show i < 2 ^ 31 by omega)]
    have t := hw () trivial
    refine br_c (fun e => br_f (by decide) (br_t rfl ⟨i24, nm_e (nm_r (nI_1 i) ?_)⟩)) (fun e => nm_r (nI_1 i) ?_)
    · rw [kg_sum_t e] at t
      exact t
    · rw [kg_sum_f e] at t
      exact t
theorem kg_whole {post : Int32 → Prop} (hP : P ≤ 24) (hm : ∀ j, j < P → ∃ b, b < 4 ∧ a9 j = nI b) (H : post 1) :
    wpL_whole post (nI P, fk, fu, fl, a1, a2, a3, a4, a5, a6, a7, a8, a9, a10, a11, a12) (nI P) (kg_tot a1 P) (kg_tot a2 P) := by
  unfold wpL_whole
  dsimp only
  refine pk_loop (σ := Unit) (fun n i _ => wL_whole_12 post (nI P) (kg_tot a1 P) (kg_tot a2 P) (nI P) fk fu fl a1 a2 a3 a4 a5 a6 a7 a8 a9 a10 a11 a12 n (nI (kg_c4 a9 P i)) (kg_s4 a9 a1 P i) (kg_s4 a9 a2 P i) (nI i)) (fun _ _ => True) 4 0 () (by omega) trivial ?_ ?_
  · intro n _ _
    refine pk_le 4 4 (fun _ => ?_) (fun z => absurd z (by omega))
    exact br_t (by rw [kg_c4_4 hm]) (br_t (kg_s4_4 hm) (br_t (kg_s4_4 hm) H))
  · intro n i _ hi _ hw
    refine pk_le 4 i (fun z => absurd z (by omega)) (fun _ => ?_)
    exact kg_size hP hi (nm_r (nI_add _ _) (kg_sum0 hP hi (nm_e (kg_sum1 hP hi (nm_e (nm_r (nI_1 i) (hw () trivial)))))))
/-! ===== near ===== -/
theorem kg_isN {post : Int32 → St1 → Prop} {p b : Nat} (hP : P ≤ 24) (h1 : kg_pt P a1 a2) (h5 : kg_md a5 a6 a7) (hp : p < P) (hk : k ≤ 4) (hb : b < k)
    (H0 : ¬ (∀ g, g < k → kg_B a1 a2 a5 a6 a7 p b g) → ∀ u l, post 0 (fp, nI k, u, l, a1, a2, a3, a4, a5, a6, a7, a8, a9, a10, a11, a12))
    (H1 : ∀ u l, post 1 (fp, nI k, u, l, a1, a2, a3, a4, a5, a6, a7, a8, a9, a10, a11, a12)) :
    wpX_isNearest post (fp, nI k, fu, fl, a1, a2, a3, a4, a5, a6, a7, a8, a9, a10, a11, a12) (nI p) (nI b) := by
  unfold wpX_isNearest
  dsimp only
  refine kg_measure (by omega) (by omega) ?_
  dsimp only
  refine pk_loop (σ := Int64 × Int64) (fun n i s => wX_isNearest_20 post (nI p) (Int64.ofInt (kg_U a1 a2 a5 a6 a7 p b)) (Int64.ofInt (kg_C a7 b)) n (nI i) fp (nI k) s.1 s.2 a1 a2 a3 a4 a5 a6 a7 a8 a9 a10 a11 a12) (fun _ _ => True) k 0 (_, _) (by omega) trivial ?_ ?_
  · intro n s _
    exact pk_le k k (fun _ => H1 _ _) (fun z => absurd z (by omega))
  · intro n i s hi _ hw
    refine pk_le k i (fun z => absurd z (by omega)) (fun _ => kg_measure (by omega) (by omega) ?_)
    dsimp only
    rw [← Int64.ofInt_mul, ← Int64.ofInt_mul]
    have r1 := kg_UCb h1 h5 hp (show b < 4 by omega) (show i < 4 by omega)
    have r2 := kg_UCb h1 h5 hp (show i < 4 by omega) (show b < 4 by omega)
    refine ek_if (kg_le r1 r2) (fun _ => nm_r (nI_1 i) (hw (_, _) trivial)) (fun hn => H0 (fun z => ?_) _ _)
    have e : kg_LE _ _ _ _ _ _ := z i hi
    unfold kg_LE at e
    omega
/-- near: none for a number beyond k; else no fewer than the group's members, where all members are nearest -/
theorem kg_near {post : Int32 → St1 → Prop} (hP : P ≤ 24) (h1 : kg_pt P a1 a2) (h5 : kg_md a5 a6 a7) (hk : k ≤ 4) (hg : g < 4)
    (Hn : k ≤ g → ∀ u l, post (-1) (nI P, nI k, u, l, a1, a2, a3, a4, a5, a6, a7, a8, a9, a10, a11, a12))
    (H : g < k → ∀ c u l, c ≤ P → (kg_all P k a1 a2 a5 a6 a7 a9 → kg_cnt a9 g P ≤ c) → post (nI c) (nI P, nI k, u, l, a1, a2, a3, a4, a5, a6, a7, a8, a9, a10, a11, a12)) :
    wpX_near post (nI P, nI k, fu, fl, a1, a2, a3, a4, a5, a6, a7, a8, a9, a10, a11, a12) (nI g) := by
  unfold wpX_near
  dsimp only
  refine br_f (nI_pos (by omega)) (pk_lt g k (fun hgk => ?_) (fun hgk => Hn hgk _ _))
  refine pk_loop (σ := Nat × Int64 × Int64) (fun n i s => wX_near_18 post (nI g) n (nI s.1) (nI i) (nI P) (nI k) s.2.1 s.2.2 a1 a2 a3 a4 a5 a6 a7 a8 a9 a10 a11 a12) (fun i s => s.1 ≤ i ∧ (kg_all P k a1 a2 a5 a6 a7 a9 → kg_cnt a9 g i ≤ s.1)) P 0 (0, fu, fl) (by omega) ⟨by omega, fun _ => Nat.le_refl 0⟩ ?_ ?_
  · rintro n ⟨c, u, l⟩ ⟨hc, hl⟩
    exact pk_le P P (fun _ => H hgk c u l hc hl) (fun z => absurd z (by omega))
  · rintro n i ⟨c, u, l⟩ hi ⟨hc, hl⟩ hw
    dsimp only at hc hl hw
    refine pk_le P i (fun z => absurd z (by omega)) (fun _ => ?_)
    refine kg_isN hP h1 h5 hi hk hgk (fun hno u' l' => ?_) (fun u' l' => ?_)
    · refine br_t rfl (nm_r (Int32.add_zero _) (nm_r (nI_1 i) (hw (c, u', l') ⟨by omega, fun ha => ?_⟩)))
      obtain ⟨b, hb, eb, hB⟩ := ha i hi
      by_cases e : b = g
      · subst e
        exact absurd hB hno
      · rw [kg_cnt_f (by rw [eb]; exact kg_ne (by omega) hg e)]
        exact hl ha
    · refine br_f (by decide) (nm_r (nI_1 c) (nm_r (nI_1 i) (hw (c + 1, u', l') ⟨Nat.succ_le_succ hc, fun ha => ?_⟩)))
      have := hl ha
      dsimp only
      by_cases e : a9 i = nI g
      · rw [kg_cnt_t e]; omega
      · rw [kg_cnt_f e]; omega
/-! ===== settled ===== -/
theorem kg_settled {post : Int32 → St1 → Prop} (h : kg_inv P k a1 a2 a3 a4 a5 a6 a7 a8 a9)
    (H : ∀ u l b5 b6 b7 b8 b9 b10 b11 b12, kg_inv P k a1 a2 a3 a4 b5 b6 b7 b8 b9 → post 1 (nI P, nI k, u, l, a1, a2, a3, a4, b5, b6, b7, b8, b9, b10, b11, b12)) :
    wpL_settled post (nI P, nI k, fu, fl, a1, a2, a3, a4, a5, a6, a7, a8, a9, a10, a11, a12) (nI P) (kg_tot a1 P) (kg_tot a2 P) (nI k) := by
  unfold wpL_settled
  dsimp only
  refine kg_settle h (fun r u l b5 b6 b7 b8 b9 b10 b11 b12 hr1 hr2 hI hA hN => ?_)
  have hP := hI.1
  refine pk_lt r 1 (fun z => absurd z (by omega)) (fun _ => pk_lt 40 r (fun z => absurd z (by omega)) (fun _ => ?_))
  refine kg_whole hP hA (br_f (by decide) (pk_eq r 40 (fun _ => H u l b5 b6 b7 b8 b9 b10 b11 b12 hI) (fun hr => ?_)))
  have hN' := hN (by omega)
  obtain ⟨_, hk0, hk, h1, h3, h5, hm, hJ⟩ := hI
  refine pk_loop (σ := Int64 × Int64) (fun n i s => wL_settled_43 post (nI P) (kg_tot a1 P) (kg_tot a2 P) (nI k) n (nI i) (nI P) (nI k) s.1 s.2 a1 a2 a3 a4 b5 b6 b7 b8 b9 b10 b11 b12) (fun _ _ => True) 4 0 (u, l) (by omega) trivial ?_ ?_
  · rintro n ⟨u', l'⟩ _
    refine pk_le 4 4 (fun _ => ?_) (fun z => absurd z (by omega))
    refine kg_round ⟨hP, hk0, hk, h1, h3, h5, hm, hJ⟩ (fun c u2 l2 c5 c6 c7 c8 c9 c10 c11 c12 hc hI' hA' _ hz => ?_)
    have e := hz hN'
    subst e
    exact br_t rfl (kg_whole hP hA' (br_f (by decide) (H u2 l2 c5 c6 c7 c8 c9 c10 c11 c12 hI')))
  · rintro n i ⟨u', l'⟩ hi _ hw
    refine pk_le 4 i (fun z => absurd z (by omega)) (fun _ => ?_)
    refine kg_near hP h1 h5 hk hi (fun hki u2 l2 => ?_) (fun hik c u2 l2 hc hl => ?_)
    · exact pk_le k i (fun _ => br_t rfl (nm_r (nI_1 i) (hw (u2, l2) trivial))) (fun z => absurd z (by omega))
    · have cle := hl hN'
      have cP := kg_cnt_le b9 i P
      refine pk_le k i (fun z => absurd z (by omega)) (fun _ => kg_size hP hi ?_)
      exact pk_le (kg_cnt b9 i P) c (fun _ => nm_r (nI_1 i) (hw (u2, l2) trivial)) (fun z => absurd z (by omega))
end LOOKS
end
section
/-! ===== groups, seed, add ===== -/
section TOP
variable {fp fk : Int32} {fu fl : Int64} {a1 a2 a3 a4 a5 a6 a7 a8 a9 a10 a11 a12 : Nat → Int32} {P k g : Nat}
theorem kg_groups {post : St1 → Prop} {k' : Nat} (h : kg_inv P k a1 a2 a3 a4 a5 a6 a7 a8 a9) (h0 : 1 ≤ k') (h4 : k' ≤ 4)
    (H : ∀ b5 b6 b7 b8 b9, kg_inv P k' a1 a2 a3 a4 b5 b6 b7 b8 b9 → post (nI P, nI k', fu, fl, a1, a2, a3, a4, b5, b6, b7, b8, b9, a10, a11, a12)) :
    wpX_groups post (nI P, nI k, fu, fl, a1, a2, a3, a4, a5, a6, a7, a8, a9, a10, a11, a12) (nI k') := by
  obtain ⟨hP, hk0, hk, h1, h3, _⟩ := h
  unfold wpX_groups
  dsimp only
  refine pk_le 1 k' (fun _ => pk_le k' 4 (fun _ => ?_) (fun z => absurd z (by omega))) (fun z => absurd z (by omega))
  unfold wX_groups_20
  exact kg_reset (fun b5 b6 b7 b8 b9 hr h9 => H b5 b6 b7 b8 b9 (kg_inv_reset hP h0 h4 h1 h3 hr h9))
theorem kg_inR {post : Int32 → Prop} {x : Int32} (hx : -50 ≤ x.toInt ∧ x.toInt ≤ 50) (H : post 1) : wpX_inRange post () x := by
  unfold wpX_inRange
  have c1 : (-50 : Int32).toInt = -50 := by decide
  have c2 : (50 : Int32).toInt = 50 := by decide
  refine br_f ?_ (br_f ?_ H)
  · rw [Int32.lt_iff_toInt_lt, c1]; omega
  · rw [Int32.lt_iff_toInt_lt, c2]; omega
theorem kg_seed {post : Int32 → St1 → Prop} {x y : Int32} (h : kg_inv P k a1 a2 a3 a4 a5 a6 a7 a8 a9) (hg : g < 4) (hx : -50 ≤ x.toInt ∧ x.toInt ≤ 50) (hy : -50 ≤ y.toInt ∧ y.toInt ≤ 50)
    (H : ∀ r b3 b4 b5 b6 b7 b8 b9, kg_inv P k a1 a2 b3 b4 b5 b6 b7 b8 b9 → post r (nI P, nI k, fu, fl, a1, a2, b3, b4, b5, b6, b7, b8, b9, a10, a11, a12)) :
    wpX_seed post (nI P, nI k, fu, fl, a1, a2, a3, a4, a5, a6, a7, a8, a9, a10, a11, a12) (nI g) x y := by
  obtain ⟨hP, hk0, hk, h1, h3, _⟩ := h
  have i4 : vp_in (nI g) 4 := pk_in g 4 hg
  unfold wpX_seed
  dsimp only
  have hsd : kg_sd (upd a3 g x) (upd a4 g y) := by
    intro j hj
    by_cases e : j = g
    · rw [e, pk_us, pk_us]
      exact ⟨hx, hy⟩
    · rw [pk_un e, pk_un e]
      exact h3 j hj
  refine br_f (nI_pos (by omega)) (pk_lt 3 g (fun z => absurd z (by omega)) (fun _ => kg_inR hx (br_f (by decide) (kg_inR hy (br_f (by decide) ⟨i4, ?_⟩)))))
  rw [nI_clamp (show g < 2 ^ 31 by omega)]
  exact nm_e ⟨i4, nm_e (kg_reset (fun b5 b6 b7 b8 b9 hr h9 => H 0 _ _ b5 b6 b7 b8 b9 (kg_inv_reset hP hk0 hk h1 hsd hr h9)))⟩
theorem kg_add {post : Int32 → St1 → Prop} {x y : Int32} (h : kg_inv P k a1 a2 a3 a4 a5 a6 a7 a8 a9) (hx : -50 ≤ x.toInt ∧ x.toInt ≤ 50) (hy : -50 ≤ y.toInt ∧ y.toInt ≤ 50)
    (H0 : post (-1) (nI P, nI k, fu, fl, a1, a2, a3, a4, a5, a6, a7, a8, a9, a10, a11, a12))
    (H1 : P < 24 → ∀ b1 b2 b5 b6 b7 b8 b9, kg_tot b1 (P + 1) = kg_tot a1 P + x → kg_tot b2 (P + 1) = kg_tot a2 P + y → kg_inv (P + 1) k b1 b2 a3 a4 b5 b6 b7 b8 b9 → post (nI (P + 1)) (nI (P + 1), nI k, fu, fl, b1, b2, a3, a4, b5, b6, b7, b8, b9, a10, a11, a12)) :
    wpX_add post (nI P, nI k, fu, fl, a1, a2, a3, a4, a5, a6, a7, a8, a9, a10, a11, a12) x y := by
  obtain ⟨hP, hk0, hk, h1, h3, _⟩ := h
  unfold wpX_add
  dsimp only
  refine kg_inR hx (br_f (by decide) (kg_inR hy (br_f (by decide) (pk_lt P 24 (fun hl => ?_) (fun _ => H0)))))
  have i24 : vp_in (nI P) 24 := pk_in P 24 hl
  have hpt : kg_pt (P + 1) (upd a1 P x) (upd a2 P y) := by
    refine lt_s (fun j hj => ?_) ?_
    · have n : j ≠ P := by omega
      rw [pk_un n, pk_un n]
      exact h1 j hj
    · rw [pk_us, pk_us]
      exact ⟨hx, hy⟩
  have t1 : kg_tot (upd a1 P x) (P + 1) = kg_tot a1 P + x := by
    show kg_tot (upd a1 P x) P + upd a1 P x P = kg_tot a1 P + x
    rw [pk_us, kg_tot_congr (fun j hj => pk_un (show j ≠ P by omega))]
  have t2 : kg_tot (upd a2 P y) (P + 1) = kg_tot a2 P + y := by
    show kg_tot (upd a2 P y) P + upd a2 P y P = kg_tot a2 P + y
    rw [pk_us, kg_tot_congr (fun j hj => pk_un (show j ≠ P by omega))]
  rw [nI_clamp (show P < 2 ^ 31 by omega)]
  exact ⟨i24, nm_e ⟨i24, nm_e (nm_r (nI_1 P) (kg_reset (fun b5 b6 b7 b8 b9 hr h9 => H1 hl _ _ b5 b6 b7 b8 b9 t1 t2 (kg_inv_reset (by omega) hk0 hk hpt h3 hr h9))))⟩⟩
/-! ===== the law ===== -/
theorem kg_arg (x : Int32) : ∃ v : Int32, (-50 ≤ v.toInt ∧ v.toInt ≤ 50) ∧ ((x &&& 255) - (x &&& 255) / 101 * 101) - 50 = v := by
  obtain ⟨j, hj, e⟩ := pk_andE x (m := 255) 8 (by decide)
  refine ⟨_, ?_, rfl⟩
  have r : nI j - nI j / 101 * 101 = nI (j % 101) := pk_rem (d := 101) (by omega) (by omega) (by omega)
  have t : (nI (j % 101) - 50).toInt = ((j % 101 : Nat) : Int) - 50 := pk_sub_toInt (b := 50) (by omega) (by omega)
  rw [e, r, t]
  omega
theorem kg_law {xs : Nat → Int32} {L kc ks : Nat} (hL : L ≤ 260) : ∀ n i P k u l (a1 a2 a3 a4 a5 a6 a7 a8 a9 a10 a11 a12 : Nat → Int32), i ≤ L → L - i < n → kg_inv P k a1 a2 a3 a4 a5 a6 a7 a8 a9 →
    wL_law_21 (fun r => r = 1) L xs kc ks n (nI P) (kg_tot a1 P) (kg_tot a2 P) (nI k) (nI i) (nI P) (nI k) u l a1 a2 a3 a4 a5 a6 a7 a8 a9 a10 a11 a12 := by
  intro n
  induction n with
  | zero => intro i P k u l a1 a2 a3 a4 a5 a6 a7 a8 a9 a10 a11 a12 _ z; omega
  | succ n ih =>
    intro i P k u l a1 a2 a3 a4 a5 a6 a7 a8 a9 a10 a11 a12 hi hn hI
    have e4 : nI i + 4 = nI (i + 4) := nI_add i 4
    refine pk_lt L (i + 4) (fun _ => kg_settled hI (fun u l b5 b6 b7 b8 b9 b10 b11 b12 _ => rfl)) (fun hl => ⟨pk_in i L (by omega), nm_e ⟨pk_in (i + 1) L (by omega) (nI_1 i), by decide, ?_⟩⟩) rfl e4
    obtain ⟨x, hx, ex⟩ := kg_arg (xs (nI i + 1).toNatClampNeg)
    refine nm_r ex ⟨pk_in (i + 2) L (by omega) (nI_add i 2), by decide, ?_⟩
    obtain ⟨y, hy, ey⟩ := kg_arg (xs (nI i + 2).toNatClampNeg)
    refine nm_r ey ?_
    refine br_c (fun _ => br_c (fun _ => br_c (fun _ => ?_) (fun _ => br_c (fun _ => ?_) (fun _ => br_c (fun _ => ?_) (fun _ => ?_)))) (fun _ => ⟨pk_in (i + 3) L (by omega) (nI_add i 3), ?_⟩)) (fun _ => ?_)
    · obtain ⟨j, hj, ej⟩ := pk_andE x (m := 3) 2 (by decide)
      have e5 : 1 + (x &&& 3) = nI (1 + j) := by rw [ej]; exact nI_add 1 j
      refine nm_r e5 (kg_groups hI (by omega) (by omega) (fun b5 b6 b7 b8 b9 hI' => nm_r e4 ?_))
      exact ih (i + 4) P (1 + j) _ _ _ _ _ _ _ _ _ _ _ _ _ _ (by omega) (by omega) hI'
    · obtain ⟨hP, hk0, hk, h1, h3, _⟩ := hI
      refine kg_reset (fun b5 b6 b7 b8 b9 hr h9 => nm_r e4 ?_)
      exact ih (i + 4) P k _ _ _ _ _ _ _ _ _ _ _ _ _ _ (by omega) (by omega) (kg_inv_reset hP hk0 hk h1 h3 hr h9)
    · refine kg_settled hI (fun u l b5 b6 b7 b8 b9 b10 b11 b12 hI' => br_f (by decide) (nm_r e4 ?_))
      exact ih (i + 4) P k _ _ _ _ _ _ _ _ _ _ _ _ _ _ (by omega) (by omega) hI'
    · refine kg_round hI (fun c u l b5 b6 b7 b8 b9 b10 b11 b12 hc hI' hA _ _ => kg_whole hI'.1 hA (br_f (by decide) (nm_r e4 ?_)))
      exact ih (i + 4) P k _ _ _ _ _ _ _ _ _ _ _ _ _ _ (by omega) (by omega) hI'
    · obtain ⟨j, hj, ej⟩ := pk_andE (xs (nI i + 3).toNatClampNeg) (m := 3) 2 (by decide)
      rw [ej]
      refine kg_seed hI (by omega) hx hy (fun r b3 b4 b5 b6 b7 b8 b9 hI' => nm_r e4 ?_)
      exact ih (i + 4) P k _ _ _ _ _ _ _ _ _ _ _ _ _ _ (by omega) (by omega) hI'
    · refine kg_add hI hx hy (br_t (by decide) (nm_r e4 ?_)) (fun hl b1 b2 b5 b6 b7 b8 b9 t1 t2 hI' => br_f (nI_pos (by omega)) ?_)
      · exact ih (i + 4) P k _ _ _ _ _ _ _ _ _ _ _ _ _ _ (by omega) (by omega) hI
      · refine nm_r (nI_1 P) (nm_r t1.symm (nm_r t2.symm (nm_r e4 ?_)))
        exact ih (i + 4) (P + 1) k _ _ _ _ _ _ _ _ _ _ _ _ _ _ (by omega) (by omega) hI'
end TOP
theorem kg_sd0 : kg_sd (fun _ => 0) (fun _ => 0) := fun g _ => show (-50 ≤ (0 : Int32).toInt ∧ (0 : Int32).toInt ≤ 50) ∧ (-50 ≤ (0 : Int32).toInt ∧ (0 : Int32).toInt ≤ 50) from by decide
theorem i_vc (xs : Nat → Int32) (L : Nat) (hL : L ≤ 260) : wpL_law (fun r => r = 1) L xs := by
  refine ⟨12, 108, by decide, by decide, ?_⟩
  unfold wpX_init
  dsimp only
  refine ⟨by decide, by decide, by decide, by decide, by decide, by decide, by decide, by decide, by decide, by decide, by decide, by decide, by decide, by decide, by decide, by decide, by decide, by decide, by decide, by decide, by decide, by decide, by decide, by decide, ?_⟩
  refine kg_reset (fun b5 b6 b7 b8 b9 hr h9 => ?_)
  exact ⟨L + 1, kg_law hL (L + 1) 0 0 2 _ _ _ _ _ _ _ _ _ _ _ _ _ _ (by omega) (by omega) (kg_inv_reset (by omega) (by omega) (by omega) (fun j hj => absurd hj (by omega)) kg_sd0 hr h9)⟩
end
