section
/-! small ints as integers -/
theorem od_lg (a b : Int) : a < b ∨ b ≤ a := by omega
theorem od_add {x y : Int32} (h1 : -2147483648 ≤ x.toInt + y.toInt) (h2 : x.toInt + y.toInt < 2147483648) : (x + y).toInt = x.toInt + y.toInt := by
  rw [Int32.toInt_add]
  exact Int.bmod_eq_of_le (by omega) (by omega)
theorem od_sub {x y : Int32} (h1 : -2147483648 ≤ x.toInt - y.toInt) (h2 : x.toInt - y.toInt < 2147483648) : (x - y).toInt = x.toInt - y.toInt := by
  rw [Int32.toInt_sub]
  exact Int.bmod_eq_of_le (by omega) (by omega)
theorem od_mul {x y : Int32} (h1 : -2147483648 ≤ x.toInt * y.toInt) (h2 : x.toInt * y.toInt < 2147483648) : (x * y).toInt = x.toInt * y.toInt := by
  rw [Int32.toInt_mul]
  exact Int.bmod_eq_of_le (by omega) (by omega)
theorem od_neg {x : Int32} (h : -2147483648 < x.toInt) : (-x).toInt = - x.toInt := by
  have h2 := x.toInt_lt
  rw [Int32.toInt_neg]
  exact Int.bmod_eq_of_le (by omega) (by omega)
theorem od_pm {x y : Int} (A B : Nat) (hx : -(A : Int) ≤ x ∧ x ≤ A) (hy : -(B : Int) ≤ y ∧ y ≤ B) : -((A * B : Nat) : Int) ≤ x * y ∧ x * y ≤ ((A * B : Nat) : Int) := by
  have h : (x * y).natAbs ≤ A * B := by
    rw [Int.natAbs_mul]
    exact Nat.mul_le_mul (by omega) (by omega)
  omega
/-! branches by the integers -/
theorem od_le {x y : Int32} {A B : Prop} (a b : Int) (hx : x.toInt = a) (hy : y.toInt = b) (f : a ≤ b → A) (g : b < a → B) : (x ≤ y → A) ∧ (¬ x ≤ y → B) := by
  subst hx hy
  rw [Int32.le_iff_toInt_le]
  exact ⟨f, fun z => g (by omega)⟩
theorem od_lt {x y : Int32} {A B : Prop} (a b : Int) (hx : x.toInt = a) (hy : y.toInt = b) (f : a < b → A) (g : b ≤ a → B) : (x < y → A) ∧ (¬ x < y → B) := by
  subst hx hy
  rw [Int32.lt_iff_toInt_lt]
  exact ⟨f, fun z => g (by omega)⟩
theorem od_eq {x y : Int32} {A B : Prop} (a b : Int) (hx : x.toInt = a) (hy : y.toInt = b) (f : a = b → A) (g : a ≠ b → B) : (x = y → A) ∧ (¬ x = y → B) := by
  subst hx hy
  rw [← Int32.toInt_inj]
  exact ⟨f, g⟩
theorem od_ne0 {x : Int32} (h : x.toInt ≠ 0) : ¬ x = 0 := fun e => h (by rw [e]; rfl)
theorem od_nI {x : Int32} {n : Nat} (h : x.toInt = n) : x = nI n := by
  have h2 := x.toInt_lt
  apply Int32.toInt_inj.mp
  rw [h, nI_toInt (by omega)]
theorem od_upup {f : Nat → Int32} {k : Nat} {x y : Int32} : upd (upd f k x) k y = upd f k y := by
  funext j
  by_cases h : j = k
  · subst h; rw [pk_us, pk_us]
  · rw [pk_un h, pk_un h, pk_un h]
theorem od_bool {x : Int32} (h : x = 0 ∨ x = 1) : narrow .boolean (.int x) = .int x := by
  rcases h with h | h <;> (subst h; rfl)
theorem od_vbool {x : Int32} (h : x = 0 ∨ x = 1) : vp_nar .boolean x = x := by
  rcases h with h | h <;> (subst h; rfl)
/-! places of rows of three -/
theorem od_i0 (n : Nat) : 3 * nI n = nI (3 * n) := pk_mul 3 n
theorem od_i1 (n : Nat) : 3 * nI n + 1 = nI (3 * n + 1) := by rw [od_i0, nI_1]
theorem od_i2 (n : Nat) : 3 * nI n + 2 = nI (3 * n + 2) := by rw [od_i0]; exact nI_add (3 * n) 2
theorem od_c0 {n : Nat} (h : n < 1000) : (3 * nI n).toNatClampNeg = 3 * n := pk_cl _ (od_i0 n)
theorem od_c1 {n : Nat} (h : n < 1000) : (3 * nI n + 1).toNatClampNeg = 3 * n + 1 := pk_cl _ (od_i1 n)
theorem od_c2 {n : Nat} (h : n < 1000) : (3 * nI n + 2).toNatClampNeg = 3 * n + 2 := pk_cl _ (od_i2 n)
/-! division that rounds down -/
theorem od_fdiv {post : Int32 → Prop} {u : St2} {p0 p1 : Int32} (h : 0 < p1.toInt) (H : ∀ r : Int32, r.toInt = p0.toInt / p1.toInt → post r) : wpX_floorDivide post u p0 p1 := by
  have hn0 : ¬ p1 = 0 := od_ne0 (by omega)
  have hn1 : p1 ≠ -1 := fun e => by rw [e] at h; exact absurd h (by decide)
  have hq : (p0 / p1).toInt = p0.toInt.tdiv p1.toInt := Int32.toInt_div_of_ne_right p0 p1 hn1
  have l1 := p0.le_toInt
  have l2 := p0.toInt_lt
  refine ⟨hn0, nm_e ⟨hn0, ?_⟩⟩
  rcases od_lg p0.toInt 0 with hs | hs
  · have e1 : p0.toInt.tdiv p1.toInt = -((-p0.toInt) / p1.toInt) := by
      have t : (-p0.toInt).tdiv p1.toInt = (-p0.toInt) / p1.toInt := Int.tdiv_eq_ediv_of_nonneg (by omega)
      rw [Int.neg_tdiv] at t
      omega
    have d1 := Int.mul_ediv_add_emod (-p0.toInt) p1.toInt
    have d2 := Int.emod_nonneg (-p0.toInt) (show p1.toInt ≠ 0 by omega)
    have d3 := Int.emod_lt_of_pos (-p0.toInt) h
    rw [e1] at hq
    have hm0 := Int.ediv_nonneg (show 0 ≤ -p0.toInt by omega) (show 0 ≤ p1.toInt by omega)
    generalize hm : (-p0.toInt) / p1.toInt = m at *
    generalize hz : (-p0.toInt) % p1.toInt = s at *
    have t0 : 0 ≤ p1.toInt * m := Int.mul_nonneg (by omega) hm0
    have m0 : (p0 / p1).toInt * p1.toInt = p0.toInt + s := by
      rw [hq, Int.neg_mul, Int.mul_comm]; omega
    have m1 : (p0 / p1 * p1).toInt = p0.toInt + s := by
      rw [od_mul (by rw [m0]; omega) (by rw [m0]; omega), m0]
    have m2 : (p0 - p0 / p1 * p1).toInt = -s := by
      rw [od_sub (by rw [m1]; omega) (by rw [m1]; omega), m1]; omega
    refine od_le 0 (-s) rfl m2 (fun z => H _ ?_) (fun z => H _ ?_)
    · rw [hq]
      have hs0 : s = 0 := by omega
      exact ((Int.ediv_emod_unique (a := p0.toInt) (r := 0) (q := -m) h).mpr ⟨by rw [Int.mul_neg]; omega, by omega, by omega⟩).1.symm
    · have hm1 : m ≤ 2147483647 := by
        rcases od_lg 2147483647 m with z2 | z2
        · have : p1.toInt * 2147483648 ≤ p1.toInt * m := Int.mul_le_mul_of_nonneg_left (by omega) (by omega)
          omega
        · exact z2
      rw [od_sub (by rw [hq]; show _ ≤ -m - 1; omega) (by rw [hq]; show -m - 1 < _; omega), hq]
      exact ((Int.ediv_emod_unique (a := p0.toInt) (r := p1.toInt - s) (q := -m - 1) h).mpr ⟨by rw [Int.mul_sub, Int.mul_neg]; omega, by omega, by omega⟩).1.symm
  · have e1 : p0.toInt.tdiv p1.toInt = p0.toInt / p1.toInt := Int.tdiv_eq_ediv_of_nonneg hs
    have d1 := Int.mul_ediv_add_emod p0.toInt p1.toInt
    have d2 := Int.emod_nonneg p0.toInt (show p1.toInt ≠ 0 by omega)
    have d3 := Int.emod_lt_of_pos p0.toInt h
    rw [e1] at hq
    have hp := Int.ediv_nonneg hs (show 0 ≤ p1.toInt by omega)
    generalize hm : p0.toInt / p1.toInt = m at *
    generalize hz : p0.toInt % p1.toInt = s at *
    have t0 : 0 ≤ p1.toInt * m := Int.mul_nonneg (by omega) hp
    have m0 : (p0 / p1).toInt * p1.toInt = p0.toInt - s := by
      rw [hq, Int.mul_comm]; omega
    have m1 : (p0 / p1 * p1).toInt = p0.toInt - s := by
      rw [od_mul (by rw [m0]; omega) (by rw [m0]; omega), m0]
    have m2 : (p0 - p0 / p1 * p1).toInt = s := by
      rw [od_sub (by rw [m1]; omega) (by rw [m1]; omega), m1]; omega
    exact od_le 0 s rfl m2 (fun z => H _ hq) (fun z => absurd z (by omega))
/-- what rounds down stays small -/
theorem od_fsmall {a b : Int} (A : Nat) (hb : 0 < b) (ha : -(A : Int) ≤ a ∧ a ≤ A) : -(A : Int) ≤ a / b ∧ a / b ≤ A := by
  constructor
  · apply (Int.le_ediv_iff_mul_le hb).mpr
    have : (A : Int) * 1 ≤ A * b := Int.mul_le_mul_of_nonneg_left (by omega) (by omega)
    rw [Int.neg_mul]; omega
  · rcases od_lg a 0 with h | h
    · have : a / b < 0 := Int.ediv_neg_of_neg_of_pos h hb
      omega
    · have := Int.ediv_le_self b h
      omega
/-! the greatest common divisor -/
theorem od_gcdL {post : Int32 → Prop} : ∀ (k a b s : Nat), a < b → b < 2 ^ 31 → a * b < 2 ^ k → s + k ≤ 40 → post (nI (Nat.gcd a b)) → wX_divisorOf_13 post (k + 1) (nI a) (nI b) (nI s) := by
  intro k
  induction k with
  | zero =>
    intro a b s hab hb hp hs H
    have ha : a = 0 := by
      rcases Nat.eq_zero_or_pos a with h | h
      · exact h
      · have := Nat.mul_pos h (show 0 < b by omega)
        omega
    subst ha
    rw [Nat.gcd_zero_left] at H
    exact pk_le 40 s (fun _ => H) (fun _ => pk_le 0 0 (fun _ => H) (fun z => absurd z (by omega)))
  | succ k ih =>
    intro a b s hab hb hp hs H
    refine pk_le 40 s (fun z => absurd z (by omega)) (fun _ => pk_le a 0 (fun z => ?_) (fun z => ⟨nI_ne0 z (by omega), nm_r (pk_rem hb z (by omega)) (nm_r (nI_1 s) ?_)⟩))
    · have ha : a = 0 := by omega
      subst ha
      rw [Nat.gcd_zero_left] at H
      exact H
    · have r1 : b % a < a := Nat.mod_lt b z
      refine ih (b % a) a (s + 1) r1 (by omega) ?_ (by omega) (by rw [← Nat.gcd_rec]; exact H)
      have r2 : 2 * (b % a) ≤ b := by
        have e := Nat.div_add_mod b a
        have e2 : 0 < b / a := Nat.div_pos (by omega) z
        have e3 : a * 1 ≤ a * (b / a) := Nat.mul_le_mul_left a e2
        omega
      have r3 : 2 * (b % a) * a ≤ b * a := Nat.mul_le_mul_right a r2
      rw [Nat.mul_comm b a, Nat.mul_assoc] at r3
      rw [Nat.pow_succ] at hp
      omega
theorem od_amount {post : Int32 → Prop} {u : St2} {p0 : Int32} (h : -2147483648 < p0.toInt) (H : post (nI p0.toInt.natAbs)) : wpX_amount post u p0 := by
  refine od_le 0 _ rfl rfl (fun z => ?_) (fun z => ?_)
  · rw [od_nI (x := p0) (n := p0.toInt.natAbs) (by omega)]; exact H
  · rw [od_nI (x := -p0) (n := p0.toInt.natAbs) (by rw [od_neg h]; omega)]; exact H
theorem od_gcd {post : Int32 → Prop} {u : St2} {p0 p1 : Int32} (h0 : -1000 ≤ p0.toInt ∧ p0.toInt ≤ 1000) (h1 : -1000 ≤ p1.toInt ∧ p1.toInt ≤ 1000) (H : post (nI (Nat.gcd p0.toInt.natAbs p1.toInt.natAbs))) : wpX_divisorOf post u p0 p1 := by
  refine od_amount (by omega) (od_amount (by omega) ⟨21 + 1, ?_⟩)
  generalize ha : p0.toInt.natAbs = a at *
  generalize hb : p1.toInt.natAbs = b at *
  refine pk_le 40 0 (fun z => absurd z (by omega)) (fun _ => pk_le a 0 (fun z => ?_) (fun z => ⟨nI_ne0 z (by omega), nm_r (pk_rem (by omega) z (by omega)) (nm_r (nI_1 0) ?_)⟩))
  · have ha0 : a = 0 := by omega
    subst ha0
    rw [Nat.gcd_zero_left] at H
    exact H
  · have r1 : b % a < a := Nat.mod_lt b z
    refine od_gcdL 20 (b % a) a 1 r1 (by omega) ?_ (by omega) (by rw [← Nat.gcd_rec]; exact H)
    have : b % a * a ≤ 1000 * 1000 := Nat.mul_le_mul (by omega) (by omega)
    omega
end
section
/-! the plain law: taking one variable out of the rows -/
theorem od_dark {al bl dl aj bj dj f g x y z : Int} (hf : 0 < f) (hg : 0 < g) (h : (f * al + g * aj) * x + (f * bl + g * bj) * y ≤ f * dl + g * dj - (f - 1) * (g - 1)) (ht : ¬ (al * x + bl * y + (-g) * (z - 1) ≤ dl)) : aj * x + bj * y + f * z ≤ dj := by
  rcases od_lg dj (aj * x + bj * y + f * z) with h2 | h2
  · have m1 : f * (dl + 1) ≤ f * (al * x + bl * y + (-g) * (z - 1)) := Int.mul_le_mul_of_nonneg_left (by omega) (by omega)
    have m2 : g * (dj + 1) ≤ g * (aj * x + bj * y + f * z) := Int.mul_le_mul_of_nonneg_left (by omega) (by omega)
    simp only [Int.mul_add, Int.add_mul, Int.mul_sub, Int.sub_mul, Int.mul_neg, Int.neg_mul, Int.mul_one, Int.one_mul, Int.mul_assoc] at h m1 m2
    have c1 : g * (f * z) = f * (g * z) := Int.mul_left_comm _ _ _
    rw [c1] at m2
    omega
  · exact h2
theorem od_real {al bl dl aj bj dj f g x y z : Int} (hf : 0 < f) (hg : 0 < g) (h1 : al * x + bl * y + (-g) * z ≤ dl) (h2 : aj * x + bj * y + f * z ≤ dj) : (f * al + g * aj) * x + (f * bl + g * bj) * y ≤ f * dl + g * dj := by
  have m1 : f * (al * x + bl * y + (-g) * z) ≤ f * dl := Int.mul_le_mul_of_nonneg_left h1 (by omega)
  have m2 : g * (aj * x + bj * y + f * z) ≤ g * dj := Int.mul_le_mul_of_nonneg_left h2 (by omega)
  simp only [Int.mul_add, Int.add_mul, Int.mul_neg, Int.neg_mul, Int.mul_assoc] at m1 m2 ⊢
  have c1 : g * (f * z) = f * (g * z) := Int.mul_left_comm _ _ _
  rw [c1] at m2
  omega
theorem od_mono {e c z z' : Int} (hc : c < 0) (hz : z ≤ z') (h : e + c * z ≤ 0) : e + c * z' ≤ 0 := by
  have : (-c) * z ≤ (-c) * z' := Int.mul_le_mul_of_nonneg_left hz (by omega)
  rw [Int.neg_mul, Int.neg_mul] at this
  omega
theorem od_one {e c : Int} (hc : c < 0) : ∃ z : Int, e + c * z ≤ 0 ∧ ¬ (e + c * (z - 1) ≤ 0) := by
  refine ⟨-((-e) / (-c)), ?_⟩
  have d1 := Int.mul_ediv_add_emod (-e) (-c)
  have d2 := Int.emod_nonneg (-e) (show -c ≠ 0 by omega)
  have d3 := Int.emod_lt_of_pos (-e) (show 0 < -c by omega)
  generalize (-e) / (-c) = q at *
  generalize (-e) % (-c) = s at *
  rw [Int.neg_mul] at d1
  rw [Int.mul_sub, Int.mul_neg, Int.mul_one]
  omega
theorem od_low (e c : Nat → Int) : ∀ m, (∀ l, l < m → ¬ c l < 0) ∨ ∃ z : Int, (∀ l, l < m → c l < 0 → e l + c l * z ≤ 0) ∧ ∃ l, l < m ∧ c l < 0 ∧ ¬ (e l + c l * (z - 1) ≤ 0) := by
  intro m
  induction m with
  | zero => exact Or.inl (fun l h => absurd h (by omega))
  | succ m ih =>
    by_cases hc : c m < 0
    · obtain ⟨w, w1, w2⟩ := od_one (e := e m) hc
      rcases ih with ih | ⟨z, z1, l, l1, l2, l3⟩
      · refine Or.inr ⟨w, fun l hl hn => ?_, m, by omega, hc, w2⟩
        by_cases h : l = m
        · rw [h]; exact w1
        · exact absurd hn (ih l (by omega))
      · rcases od_lg z w with hz | hz
        · refine Or.inr ⟨w, fun k hk hn => ?_, m, by omega, hc, w2⟩
          by_cases h : k = m
          · rw [h]; exact w1
          · exact od_mono hn (by omega) (z1 k (by omega) hn)
        · refine Or.inr ⟨z, fun k hk hn => ?_, l, by omega, l2, l3⟩
          by_cases h : k = m
          · rw [h]; exact od_mono hc hz w1
          · exact z1 k (by omega) hn
    · rcases ih with ih | ⟨z, z1, l, l1, l2, l3⟩
      · refine Or.inl (fun l hl => ?_)
        by_cases h : l = m
        · rw [h]; exact hc
        · exact ih l (by omega)
      · refine Or.inr ⟨z, fun k hk hn => ?_, l, by omega, l2, l3⟩
        by_cases h : k = m
        · rw [h] at hn; exact absurd hn hc
        · exact z1 k (by omega) hn
/-- the rows that are worked with hold at a point -/
def od_S (a4 a5 : Nat → Int32) (m : Nat) (x y z : Int) : Prop := ∀ r, r < m → (a4 (3 * r)).toInt * x + (a4 (3 * r + 1)).toInt * y + (a4 (3 * r + 2)).toInt * z ≤ (a5 r).toInt
def od_k (nw : Int32) (f g : Int) : Int := if nw = 0 then 0 else (f - 1) * (g - 1)
/-- what a lower row l and an upper row j give -/
def od_P (a4 a5 : Nat → Int32) (nw : Int32) (l j : Nat) (x y : Int) : Prop :=
  ((a4 (3 * j + 2)).toInt * (a4 (3 * l)).toInt + (-(a4 (3 * l + 2)).toInt) * (a4 (3 * j)).toInt) * x + ((a4 (3 * j + 2)).toInt * (a4 (3 * l + 1)).toInt + (-(a4 (3 * l + 2)).toInt) * (a4 (3 * j + 1)).toInt) * y
    ≤ (a4 (3 * j + 2)).toInt * (a5 l).toInt + (-(a4 (3 * l + 2)).toInt) * (a5 j).toInt - od_k nw (a4 (3 * j + 2)).toInt (-(a4 (3 * l + 2)).toInt)
/-- what row i gives -/
def od_R (a4 a5 : Nat → Int32) (nw : Int32) (m i : Nat) (x y : Int) : Prop :=
  ((a4 (3 * i + 2)).toInt = 0 → (a4 (3 * i)).toInt * x + (a4 (3 * i + 1)).toInt * y ≤ (a5 i).toInt) ∧
  ((a4 (3 * i + 2)).toInt < 0 → ∀ j, j < m → 0 < (a4 (3 * j + 2)).toInt → od_P a4 a5 nw i j x y)
theorem od_L1 {a4 a5 : Nat → Int32} {m : Nat} {x y : Int} (h : ∀ i, i < m → od_R a4 a5 1 m i x y) (hl : ∃ l, l < m ∧ (a4 (3 * l + 2)).toInt < 0) : ∃ z, od_S a4 a5 m x y z := by
  rcases od_low (fun l => (a4 (3 * l)).toInt * x + (a4 (3 * l + 1)).toInt * y - (a5 l).toInt) (fun l => (a4 (3 * l + 2)).toInt) m with g | ⟨z, z1, l, l1, l2, l3⟩
  · obtain ⟨l, l1, l2⟩ := hl
    exact absurd l2 (g l l1)
  · refine ⟨z, fun r hr => ?_⟩
    rcases Int.lt_trichotomy (a4 (3 * r + 2)).toInt 0 with c | c | c
    · have := z1 r hr c
      omega
    · have := (h r hr).1 c
      rw [c, Int.zero_mul]
      omega
    · have hp := (h l l1).2 l2 r hr c
      unfold od_P od_k at hp
      rw [if_neg (by decide)] at hp
      refine od_dark (f := (a4 (3 * r + 2)).toInt) (g := -(a4 (3 * l + 2)).toInt) c (by omega) hp ?_
      rw [Int.neg_neg]
      omega
theorem od_L2 {a4 a5 : Nat → Int32} {m : Nat} {x y z : Int} (h : od_S a4 a5 m x y z) : ∀ i, i < m → od_R a4 a5 0 m i x y := by
  intro i hi
  refine ⟨fun c => ?_, fun c j hj cj => ?_⟩
  · have := h i hi
    rw [c, Int.zero_mul] at this
    omega
  · unfold od_P od_k
    rw [if_pos rfl, Int.sub_zero]
    exact od_real cj (by omega) (by rw [Int.neg_neg]; exact h i hi) (h j hj)
theorem od_L3 {a4 a5 : Nat → Int32} {m : Nat} {x y z : Int} (h : od_S a4 a5 m x y z) (he : (∀ r, r < m → -(a4 (3 * r + 2)).toInt ≤ 1) ∨ (∀ r, r < m → (a4 (3 * r + 2)).toInt ≤ 1)) : ∀ i, i < m → od_R a4 a5 1 m i x y := by
  intro i hi
  refine ⟨(od_L2 h i hi).1, fun c j hj cj => ?_⟩
  have hp := (od_L2 h i hi).2 c j hj cj
  unfold od_P od_k at hp ⊢
  rw [if_pos rfl, Int.sub_zero] at hp
  rw [if_neg (by decide)]
  rcases he with he | he
  · have e1 : -(a4 (3 * i + 2)).toInt - 1 = 0 := by have := he i hi; omega
    rw [e1, Int.mul_zero, Int.sub_zero]
    exact hp
  · have e1 : (a4 (3 * j + 2)).toInt - 1 = 0 := by have := he j hj; omega
    rw [e1, Int.zero_mul, Int.sub_zero]
    exact hp
end
section
/-- the few rows hold at a point -/
def od_F (a6 a7 : Nat → Int32) (n : Nat) (x y : Int) : Prop := ∀ r, r < n → (a6 (3 * r)).toInt * x + (a6 (3 * r + 1)).toInt * y ≤ (a7 r).toInt
/-- the few rows are small -/
def od_FB (a6 a7 : Nat → Int32) (n : Nat) : Prop := ∀ r, r < n → (-200 ≤ (a6 (3 * r)).toInt ∧ (a6 (3 * r)).toInt ≤ 200) ∧ (-200 ≤ (a6 (3 * r + 1)).toInt ∧ (a6 (3 * r + 1)).toInt ≤ 200) ∧ (-3000 ≤ (a7 r).toInt ∧ (a7 r).toInt ≤ 3000)
theorem od_F0 {a6 a7 : Nat → Int32} {x y : Int} : od_F a6 a7 0 x y := fun r h => absurd h (by omega)
theorem od_Fs {a6 a7 : Nat → Int32} {n : Nat} {x y : Int} : od_F a6 a7 (n + 1) x y ↔ od_F a6 a7 n x y ∧ (a6 (3 * n)).toInt * x + (a6 (3 * n + 1)).toInt * y ≤ (a7 n).toInt := by
  constructor
  · intro h
    exact ⟨fun r hr => h r (by omega), h n (by omega)⟩
  · intro h r hr
    by_cases e : r = n
    · rw [e]; exact h.2
    · exact h.1 r (by omega)
theorem od_Fr {a6 a7 : Nat → Int32} {n r : Nat} {p q e : Int32} (h : r < n) : upd (upd a6 (3 * n) p) (3 * n + 1) q (3 * r) = a6 (3 * r) ∧ upd (upd a6 (3 * n) p) (3 * n + 1) q (3 * r + 1) = a6 (3 * r + 1) ∧ upd a7 n e r = a7 r :=
  ⟨by rw [pk_un (by omega), pk_un (by omega)], by rw [pk_un (by omega), pk_un (by omega)], pk_un (by omega)⟩
theorem od_Fn {a6 a7 : Nat → Int32} {n : Nat} {p q e : Int32} : upd (upd a6 (3 * n) p) (3 * n + 1) q (3 * n) = p ∧ upd (upd a6 (3 * n) p) (3 * n + 1) q (3 * n + 1) = q ∧ upd a7 n e n = e :=
  ⟨by rw [pk_un (by omega), pk_us], pk_us, pk_us⟩
theorem od_Fadd {a6 a7 : Nat → Int32} {n : Nat} {p q e : Int32} {x y : Int} : od_F (upd (upd a6 (3 * n) p) (3 * n + 1) q) (upd a7 n e) (n + 1) x y ↔ od_F a6 a7 n x y ∧ p.toInt * x + q.toInt * y ≤ e.toInt := by
  have en := od_Fn (a6 := a6) (a7 := a7) (n := n) (p := p) (q := q) (e := e)
  rw [od_Fs, en.1, en.2.1, en.2.2]
  have k : od_F (upd (upd a6 (3 * n) p) (3 * n + 1) q) (upd a7 n e) n x y ↔ od_F a6 a7 n x y := by
    constructor
    · intro h r hr
      have t := h r hr
      rw [(od_Fr (a7 := a7) (e := e) hr).1, (od_Fr (a7 := a7) (e := e) hr).2.1, (od_Fr (a6 := a6) (p := p) (q := q) hr).2.2] at t
      exact t
    · intro h r hr
      rw [(od_Fr (a7 := a7) (e := e) hr).1, (od_Fr (a7 := a7) (e := e) hr).2.1, (od_Fr (a6 := a6) (p := p) (q := q) hr).2.2]
      exact h r hr
  rw [k]
theorem od_FBadd {a6 a7 : Nat → Int32} {n : Nat} {p q e : Int32} (h : od_FB a6 a7 n) (hp : -200 ≤ p.toInt ∧ p.toInt ≤ 200) (hq : -200 ≤ q.toInt ∧ q.toInt ≤ 200) (he : -3000 ≤ e.toInt ∧ e.toInt ≤ 3000) : od_FB (upd (upd a6 (3 * n) p) (3 * n + 1) q) (upd a7 n e) (n + 1) := by
  intro r hr
  by_cases e1 : r = n
  · subst e1
    have en := od_Fn (a6 := a6) (a7 := a7) (n := r) (p := p) (q := q) (e := e)
    rw [en.1, en.2.1, en.2.2]
    exact ⟨hp, hq, he⟩
  · have hr' : r < n := by omega
    rw [(od_Fr (a7 := a7) (e := e) hr').1, (od_Fr (a7 := a7) (e := e) hr').2.1, (od_Fr (a6 := a6) (p := p) (q := q) hr').2.2]
    exact h r hr'
theorem od_Fput {a6 a7 : Nat → Int32} {n i : Nat} {p q e v : Int32} {x y : Int} (hi : i < n) (g : a6 (3 * i) = p) (g2 : a6 (3 * i + 1) = q) (hv : ∀ t : Int, t ≤ v.toInt ↔ t ≤ (a7 i).toInt ∧ t ≤ e.toInt) : od_F a6 (upd a7 i v) n x y ↔ od_F a6 a7 n x y ∧ p.toInt * x + q.toInt * y ≤ e.toInt := by
  constructor
  · intro h
    have t := h i hi
    rw [pk_us, g, g2] at t
    refine ⟨fun r hr => ?_, ((hv _).mp t).2⟩
    by_cases e1 : r = i
    · subst e1
      rw [g, g2]
      exact ((hv _).mp t).1
    · have t2 := h r hr
      rw [pk_un e1] at t2
      exact t2
  · intro h r hr
    by_cases e1 : r = i
    · subst e1
      have t := h.1 r hr
      rw [g, g2] at t
      rw [pk_us, g, g2]
      exact (hv _).mpr ⟨t, h.2⟩
    · rw [pk_un e1]
      exact h.1 r hr
theorem od_FBput {a6 a7 : Nat → Int32} {n i : Nat} {v : Int32} (h : od_FB a6 a7 n) (hv : -3000 ≤ v.toInt ∧ v.toInt ≤ 3000) : od_FB a6 (upd a7 i v) n := by
  intro r hr
  obtain ⟨h1, h2, h3⟩ := h r hr
  by_cases e1 : r = i
  · subst e1
    rw [pk_us]
    exact ⟨h1, h2, hv⟩
  · rw [pk_un e1]
    exact ⟨h1, h2, h3⟩
theorem od_pf48 {post : Int32 → St1 → Prop} {fh fr fw : Int32} {a1 a2 a3 a4 a5 a6 a7 a8 : Nat → Int32} {n : Nat} {p q e : Int32} (hn : n < 160) (hB : od_FB a6 a7 n) (hp : -200 ≤ p.toInt ∧ p.toInt ≤ 200) (hq : -200 ≤ q.toInt ∧ q.toInt ≤ 200) (he : -3000 ≤ e.toInt ∧ e.toInt ≤ 3000)
    (H : ∀ (n' : Nat) (a6' a7' : Nat → Int32), n' ≤ n + 1 → od_FB a6' a7' n' → (∀ x y : Int, od_F a6' a7' n' x y ↔ od_F a6 a7 n x y ∧ p.toInt * x + q.toInt * y ≤ e.toInt) → post 1 (fh, fr, nI n', fw, a1, a2, a3, a4, a5, a6', a7', a8)) :
    ∃ k, wX_putFew_48 post p q e fh fr (nI n) fw a1 a2 a3 a4 a5 a6 a7 a8 k 0 := by
  refine pk_loop (σ := Unit) (fun k i _ => wX_putFew_48 post p q e fh fr (nI n) fw a1 a2 a3 a4 a5 a6 a7 a8 k (nI i)) (fun _ _ => True) n 0 () (by omega) trivial ?_ ?_
  · intro k _ _
    refine pk_le n n (fun _ => ⟨pk_in (3 * n) 480 (by omega) (od_i0 n), nm_r (e' := upd a6 (3 * n) p) (by rw [od_c0 (by omega)]) ⟨pk_in (3 * n + 1) 480 (by omega) (od_i1 n), nm_r (e' := upd (upd a6 (3 * n) p) (3 * n + 1) q) (by rw [od_c1 (by omega)]) ⟨pk_in n 160 hn, nm_r (e' := upd a7 n e) (by rw [nI_clamp (by omega)]) (nm_r (nI_1 n) ?_)⟩⟩⟩) (fun z => absurd z (by omega))
    exact H (n + 1) _ _ (by omega) (od_FBadd hB hp hq he) (fun x y => od_Fadd)
  · intro k i _ hi _ hw
    refine pk_le n i (fun z => absurd z (by omega)) (fun _ => ⟨pk_in (3 * i) 480 (by omega) (od_i0 i), br_c (fun g => ⟨pk_in (3 * i + 1) 480 (by omega) (od_i1 i), br_c (fun g2 => ⟨pk_in i 160 (by omega), ?_⟩) (fun _ => nm_r (nI_1 i) (hw () trivial))⟩) (fun _ => nm_r (nI_1 i) (hw () trivial))⟩)
    rw [od_c0 (by omega)] at g
    rw [od_c1 (by omega)] at g2
    rw [nI_clamp (by omega)]
    obtain ⟨_, _, b3⟩ := hB i hi
    refine od_le _ _ rfl rfl (fun z => ⟨pk_in i 160 (by omega), pk_in i 160 (by omega), nm_e ?_⟩) (fun z => ⟨pk_in i 160 (by omega), nm_e ?_⟩)
    · exact H n a6 _ (by omega) (od_FBput hB b3) (fun x y => od_Fput hi g g2 (fun t => by omega))
    · exact H n a6 _ (by omega) (od_FBput hB he) (fun x y => od_Fput hi g g2 (fun t => by omega))
/-! quotients without a rest -/
theorem od_quot {a : Int32} {g : Nat} (hg : 0 < g) (hg2 : g < 2 ^ 31) (hd : g ∣ a.toInt.natAbs) : (a / nI g).toInt * (g : Int) = a.toInt := by
  have hn1 : nI g ≠ -1 := fun e => by
    have t : (nI g).toInt = (-1 : Int32).toInt := by rw [e]
    rw [nI_toInt hg2] at t
    have t2 : (-1 : Int32).toInt = -1 := rfl
    omega
  rw [Int32.toInt_div_of_ne_right a (nI g) hn1, nI_toInt hg2]
  exact Int.tdiv_mul_cancel (Int.ofNat_dvd_left.mpr hd)
theorem od_qsmall {p a : Int} {g : Nat} (hg : 0 < g) (h : p * (g : Int) = a) (A : Nat) (ha : -(A : Int) ≤ a ∧ a ≤ A) : -(A : Int) ≤ p ∧ p ≤ A := by
  have t : p.natAbs * g = a.natAbs := by
    rw [← h, Int.natAbs_mul, Int.natAbs_natCast]
  have t2 : p.natAbs * 1 ≤ p.natAbs * g := Nat.mul_le_mul_left _ hg
  omega
theorem od_cut {p q a b d e g x y : Int} (hg : 0 < g) (hp : p * g = a) (hq : q * g = b) (he : e = d / g) : p * x + q * y ≤ e ↔ a * x + b * y ≤ d := by
  have k : (p * x + q * y) * g = a * x + b * y := by
    rw [← hp, ← hq, Int.add_mul, Int.mul_assoc p x g, Int.mul_comm x g, ← Int.mul_assoc p g x, Int.mul_assoc q y g, Int.mul_comm y g, ← Int.mul_assoc q g y]
  rw [he, Int.le_ediv_iff_mul_le hg, k]
theorem od_pf18 {post : Int32 → St1 → Prop} {fh fr fw : Int32} {a1 a2 a3 a4 a5 a6 a7 a8 : Nat → Int32} {n : Nat} {a b d : Int32} (hn : n < 160) (hB : od_FB a6 a7 n) (ha : -200 ≤ a.toInt ∧ a.toInt ≤ 200) (hb : -200 ≤ b.toInt ∧ b.toInt ≤ 200) (hd : -3000 ≤ d.toInt ∧ d.toInt ≤ 3000) (h0 : a.toInt ≠ 0 ∨ b.toInt ≠ 0)
    (H : ∀ (n' : Nat) (a6' a7' : Nat → Int32), n' ≤ n + 1 → od_FB a6' a7' n' → (∀ x y : Int, od_F a6' a7' n' x y ↔ od_F a6 a7 n x y ∧ a.toInt * x + b.toInt * y ≤ d.toInt) → post 1 (fh, fr, nI n', fw, a1, a2, a3, a4, a5, a6', a7', a8)) :
    wX_putFew_18 post a b d fh fr (nI n) fw a1 a2 a3 a4 a5 a6 a7 a8 := by
  unfold wX_putFew_18
  refine od_gcd (by omega) (by omega) ?_
  have g0 : 0 < Nat.gcd a.toInt.natAbs b.toInt.natAbs := by
    rcases h0 with h | h
    · exact Nat.gcd_pos_of_pos_left _ (by omega)
    · exact Nat.gcd_pos_of_pos_right _ (by omega)
  have g1 := Nat.gcd_dvd_left a.toInt.natAbs b.toInt.natAbs
  have g2 := Nat.gcd_dvd_right a.toInt.natAbs b.toInt.natAbs
  generalize Nat.gcd a.toInt.natAbs b.toInt.natAbs = g at *
  have g3 : g < 2 ^ 31 := by
    rcases h0 with h | h
    · have := Nat.le_of_dvd (by omega) g1; omega
    · have := Nat.le_of_dvd (by omega) g2; omega
  have q1 := od_quot g0 g3 g1
  have q2 := od_quot g0 g3 g2
  have s1 := od_qsmall g0 q1 200 (by omega)
  have s2 := od_qsmall g0 q2 200 (by omega)
  refine ⟨nI_ne0 g0 g3, nm_e ⟨nI_ne0 g0 g3, nm_e (od_fdiv (by rw [nI_toInt g3]; omega) (fun r hr => ?_))⟩⟩
  rw [nI_toInt g3] at hr
  have s3 := od_fsmall (b := (g : Int)) 3000 (by omega) (a := d.toInt) (by omega)
  refine od_pf48 hn hB (by omega) (by omega) (by omega) (fun n' a6' a7' h1 h2 h3 => H n' a6' a7' h1 h2 (fun x y => ?_))
  rw [h3 x y, od_cut (by omega) q1 q2 hr]
theorem od_putFew {post : Int32 → St1 → Prop} {fh fr fw : Int32} {a1 a2 a3 a4 a5 a6 a7 a8 : Nat → Int32} {n : Nat} {a b d : Int32} (hn : n < 160) (hB : od_FB a6 a7 n) (ha : -200 ≤ a.toInt ∧ a.toInt ≤ 200) (hb : -200 ≤ b.toInt ∧ b.toInt ≤ 200) (hd : -3000 ≤ d.toInt ∧ d.toInt ≤ 3000)
    (H : ∀ (r : Int32) (n' : Nat) (a6' a7' : Nat → Int32), (r = 0 ∨ r = 1) → n' ≤ n + 1 → od_FB a6' a7' n' → (∀ x y : Int, (r = 1 ∧ od_F a6' a7' n' x y) ↔ od_F a6 a7 n x y ∧ a.toInt * x + b.toInt * y ≤ d.toInt) → post r (fh, fr, nI n', fw, a1, a2, a3, a4, a5, a6', a7', a8)) :
    wpX_putFew post (fh, fr, nI n, fw, a1, a2, a3, a4, a5, a6, a7, a8) a b d := by
  have H1 : ∀ (n' : Nat) (a6' a7' : Nat → Int32), n' ≤ n + 1 → od_FB a6' a7' n' → (∀ x y : Int, od_F a6' a7' n' x y ↔ od_F a6 a7 n x y ∧ a.toInt * x + b.toInt * y ≤ d.toInt) → post 1 (fh, fr, nI n', fw, a1, a2, a3, a4, a5, a6', a7', a8) :=
    fun n' a6' a7' h1 h2 h3 => H 1 n' a6' a7' (Or.inr rfl) h1 h2 (fun x y => ⟨fun t => (h3 x y).mp t.2, fun t => ⟨rfl, (h3 x y).mpr t⟩⟩)
  refine od_eq _ 0 rfl rfl (fun za => od_eq _ 0 rfl rfl (fun zb => od_lt _ 0 rfl rfl (fun zd => ?_) (fun zd => ?_)) (fun zb => od_pf18 hn hB ha hb hd (Or.inr zb) H1)) (fun za => od_pf18 hn hB ha hb hd (Or.inl za) H1)
  · refine H 0 n a6 a7 (Or.inl rfl) (by omega) hB (fun x y => ⟨fun t => absurd t.1 (by decide), fun t => ?_⟩)
    have t2 := t.2
    rw [za, zb, Int.zero_mul, Int.zero_mul] at t2
    omega
  · refine H1 n a6 a7 (by omega) hB (fun x y => ⟨fun t => ⟨t, ?_⟩, fun t => t.1⟩)
    rw [za, zb, Int.zero_mul, Int.zero_mul]
    omega
/-! two variables -/
theorem od_lr64 {post : Int32 → Prop} {J : Int32 → Int32 → Int32 → Prop} {x lo hi b rest fh fr ff fw : Int32} {a1 a2 a3 a4 a5 a6 a7 a8 : Nat → Int32} {i : Nat}
    (hJ : ∀ lo' hi' : Int32, (∀ y : Int, (lo'.toInt ≤ y ∧ y ≤ hi'.toInt) ↔ (lo.toInt ≤ y ∧ y ≤ hi.toInt) ∧ b.toInt * y ≤ rest.toInt) → J lo' hi' (nI (i + 1)))
    (hb0 : b.toInt = 0 → 0 ≤ rest.toInt) (hb : -200 ≤ b.toInt ∧ b.toInt ≤ 200) (hr : -5000 ≤ rest.toInt ∧ rest.toInt ≤ 5000) :
    wX_leavesRoom_64 post J x lo hi (nI i) b rest fh fr ff fw a1 a2 a3 a4 a5 a6 a7 a8 := by
  unfold wX_leavesRoom_64
  refine od_le _ 0 rfl rfl (fun z => od_le 0 _ rfl rfl (fun z2 => ?_) (fun z2 => ?_)) (fun z => ?_)
  · refine nm_r (nI_1 i) (hJ _ _ (fun y => ?_))
    have e : b.toInt = 0 := by omega
    have := hb0 e
    rw [e, Int.zero_mul]
    omega
  · have nb : (-b).toInt = -b.toInt := od_neg (by omega)
    refine od_fdiv (by rw [nb]; omega) (fun r hr2 => nm_e ?_)
    rw [nb] at hr2
    have s := od_fsmall (a := rest.toInt) (b := -b.toInt) 5000 (by omega) (by omega)
    have nr : (-r).toInt = -r.toInt := od_neg (by omega)
    have key : ∀ y : Int, -r.toInt ≤ y ↔ b.toInt * y ≤ rest.toInt := by
      intro y
      have t : -y ≤ rest.toInt / (-b.toInt) ↔ (-y) * (-b.toInt) ≤ rest.toInt := Int.le_ediv_iff_mul_le (by omega)
      rw [← hr2, Int.neg_mul_neg, Int.mul_comm] at t
      omega
    refine od_le _ _ nr rfl (fun z3 => nm_r (nI_1 i) (hJ _ _ (fun y => ?_))) (fun z3 => nm_r (nI_1 i) (hJ _ _ (fun y => ?_)))
    · have := key y
      omega
    · rw [nr]
      have := key y
      omega
  · refine od_fdiv z (fun r hr2 => ?_)
    have key : ∀ y : Int, y ≤ r.toInt ↔ b.toInt * y ≤ rest.toInt := by
      intro y
      have t : y ≤ rest.toInt / b.toInt ↔ y * b.toInt ≤ rest.toInt := Int.le_ediv_iff_mul_le z
      rw [← hr2, Int.mul_comm] at t
      exact t
    refine od_le _ _ rfl rfl (fun z3 => nm_r (nI_1 i) (hJ _ _ (fun y => ?_))) (fun z3 => nm_r (nI_1 i) (hJ _ _ (fun y => ?_)))
    · have := key y
      omega
    · have := key y
      omega
theorem od_room {post : Int32 → Prop} {fh fr fw x : Int32} {a1 a2 a3 a4 a5 a6 a7 a8 : Nat → Int32} {n : Nat} (hn : n ≤ 160) (hB : od_FB a6 a7 n) (hx : -6 ≤ x.toInt ∧ x.toInt ≤ 6)
    (H : ∀ r : Int32, (r = 0 ∨ r = 1) → (r = 1 ↔ ∃ y : Int, (-6 ≤ y ∧ y ≤ 6) ∧ od_F a6 a7 n x.toInt y) → post r) :
    wpX_leavesRoom post (fh, fr, nI n, fw, a1, a2, a3, a4, a5, a6, a7, a8) x := by
  refine pk_loop (σ := Int32 × Int32) (fun k i s => wX_leavesRoom_9 post x fh fr (nI n) fw a1 a2 a3 a4 a5 a6 a7 a8 k s.1 s.2 (nI i))
    (fun i s => ∀ y : Int, (s.1.toInt ≤ y ∧ y ≤ s.2.toInt) ↔ ((-6 ≤ y ∧ y ≤ 6) ∧ od_F a6 a7 i x.toInt y)) n 0 (-6, 6) (by omega) ?_ ?_ ?_
  · intro y
    exact ⟨fun t => ⟨t, od_F0⟩, fun t => t.1⟩
  · intro k s h
    refine pk_le n n (fun _ => od_lt _ _ rfl rfl (fun z => H 0 (Or.inl rfl) ⟨fun t => absurd t (by decide), fun t => ?_⟩) (fun z => H 1 (Or.inr rfl) ⟨fun _ => ⟨s.1.toInt, (h _).mp ⟨by omega, z⟩⟩, fun _ => rfl⟩)) (fun z => absurd z (by omega))
    obtain ⟨y, hy⟩ := t
    have := (h y).mpr hy
    omega
  · intro k i s hi h hw
    obtain ⟨b1, b2, b3⟩ := hB i hi
    have mB := od_pm 200 6 (x := (a6 (3 * i)).toInt) (y := x.toInt) (by omega) (by omega)
    have m1 : (a6 (3 * i) * x).toInt = (a6 (3 * i)).toInt * x.toInt := od_mul (by omega) (by omega)
    have m2 : (a7 i - a6 (3 * i) * x).toInt = (a7 i).toInt - (a6 (3 * i)).toInt * x.toInt := by
      rw [od_sub (by rw [m1]; omega) (by rw [m1]; omega), m1]
    have J : ((a6 (3 * i + 1)).toInt = 0 → 0 ≤ (a7 i - a6 (3 * i) * x).toInt) → wX_leavesRoom_64 post (wX_leavesRoom_9 post x fh fr (nI n) fw a1 a2 a3 a4 a5 a6 a7 a8 k) x s.1 s.2 (nI i) (a6 (3 * i + 1)) (a7 i - a6 (3 * i) * x) fh fr (nI n) fw a1 a2 a3 a4 a5 a6 a7 a8 := by
      intro h0
      refine od_lr64 (fun lo hi hy => hw (lo, hi) (fun y => ?_)) h0 b2 (by rw [m2]; omega)
      have kk : (a6 (3 * i + 1)).toInt * y ≤ (a7 i).toInt - (a6 (3 * i)).toInt * x.toInt ↔ (a6 (3 * i)).toInt * x.toInt + (a6 (3 * i + 1)).toInt * y ≤ (a7 i).toInt := by omega
      rw [hy y, h y, od_Fs, m2, kk]
      exact ⟨fun t => ⟨t.1.1, t.1.2, t.2⟩, fun t => ⟨⟨t.1, t.2.1⟩, t.2.2⟩⟩
    refine pk_le n i (fun z => absurd z (by omega)) (fun _ => ⟨pk_in (3 * i + 1) 480 (by omega) (od_i1 i), nm_r (e' := a6 (3 * i + 1)) (by rw [od_c1 (by omega)]) ⟨pk_in i 160 (by omega), pk_in (3 * i) 480 (by omega) (od_i0 i), nm_r (e' := a7 i - a6 (3 * i) * x) (by rw [od_c0 (by omega), nI_clamp (by omega)]) ?_⟩⟩)
    refine od_eq _ 0 rfl rfl (fun z => od_le 0 _ rfl rfl (fun z2 => J (fun _ => z2)) (fun z2 => H 0 (Or.inl rfl) ⟨fun t => absurd t (by decide), fun t => ?_⟩)) (fun z => J (fun t => absurd t z))
    obtain ⟨y, _, hy⟩ := t
    have t2 := hy i hi
    rw [z, Int.zero_mul] at t2
    omega
theorem od_z1 (i : Nat) : nI i - 6 + 1 = nI (i + 1) - 6 := by
  rw [← nI_1]
  grind
theorem od_zI {i : Nat} (h : i < 1000) : (nI i - 6).toInt = (i : Int) - 6 := by
  have e : (6 : Int32).toInt = 6 := rfl
  rw [od_sub (by rw [nI_toInt (by omega), e]; omega) (by rw [nI_toInt (by omega), e]; omega), nI_toInt (by omega), e]
theorem od_plane {post : Int32 → Prop} {fh fr fw : Int32} {a1 a2 a3 a4 a5 a6 a7 a8 : Nat → Int32} {n : Nat} (hn : n ≤ 160) (hB : od_FB a6 a7 n)
    (H : ∀ r : Int32, (r = 0 ∨ r = 1) → (r = 1 ↔ ∃ x y : Int, (-6 ≤ x ∧ x ≤ 6) ∧ (-6 ≤ y ∧ y ≤ 6) ∧ od_F a6 a7 n x y) → post r) :
    wpX_planeSolvable post (fh, fr, nI n, fw, a1, a2, a3, a4, a5, a6, a7, a8) := by
  have main : ∃ k, wX_planeSolvable_3 post fh fr (nI n) fw a1 a2 a3 a4 a5 a6 a7 a8 k (nI 0 - 6) := by
    refine pk_loop (σ := Unit) (fun k i _ => wX_planeSolvable_3 post fh fr (nI n) fw a1 a2 a3 a4 a5 a6 a7 a8 k (nI i - 6))
      (fun i _ => ∀ x : Int, -6 ≤ x → x < (i : Int) - 6 → ¬ ∃ y : Int, (-6 ≤ y ∧ y ≤ 6) ∧ od_F a6 a7 n x y) 13 0 () (by omega) (fun x h1 h2 => absurd h2 (by omega)) ?_ ?_
    · intro k _ h
      refine od_lt 6 _ rfl (od_zI (by omega)) (fun _ => H 0 (Or.inl rfl) ⟨fun t => absurd t (by decide), fun t => ?_⟩) (fun z => absurd z (by omega))
      obtain ⟨x, y, hx, hy⟩ := t
      exact absurd ⟨y, hy⟩ (h x hx.1 (by omega))
    · intro k i _ hi h hw
      have e := od_zI (i := i) (by omega)
      refine od_lt 6 _ rfl e (fun z => absurd z (by omega)) (fun z => od_room hn hB (by rw [e]; omega) (fun r hr h2 => br_c (fun r0 => nm_r (od_z1 i) (hw () (fun x h3 h4 => ?_))) (fun r0 => H 1 (Or.inr rfl) ⟨fun _ => ?_, fun _ => rfl⟩)))
      · by_cases hxi : x = (i : Int) - 6
        · intro hy
          rw [e] at h2
          rw [hxi] at hy
          have := h2.mpr hy
          rw [r0] at this
          exact absurd this (by decide)
        · exact h x h3 (by omega)
      · have r1 : r = 1 := hr.resolve_left r0
        obtain ⟨y, hy⟩ := h2.mp r1
        rw [e] at hy
        exact ⟨(i : Int) - 6, y, by omega, hy⟩
  have e0 : nI 0 - 6 = (-6 : Int32) := by decide
  rw [e0] at main
  exact main
end
section
/-- the rows that are worked with are small -/
def od_SB (a4 a5 : Nat → Int32) (m : Nat) : Prop := ∀ r, r < m → (-9 ≤ (a4 (3 * r)).toInt ∧ (a4 (3 * r)).toInt ≤ 9) ∧ (-9 ≤ (a4 (3 * r + 1)).toInt ∧ (a4 (3 * r + 1)).toInt ≤ 9) ∧ (-9 ≤ (a4 (3 * r + 2)).toInt ∧ (a4 (3 * r + 2)).toInt ≤ 9) ∧ (-100 ≤ (a5 r).toInt ∧ (a5 r).toInt ≤ 100)
/-- how many upper rows there are -/
def od_ct (a4 : Nat → Int32) : Nat → Nat
  | 0 => 0
  | i + 1 => od_ct a4 i + (if 0 < (a4 (3 * i + 2)).toInt then 1 else 0)
theorem od_ct_t {a4 : Nat → Int32} {i : Nat} (h : 0 < (a4 (3 * i + 2)).toInt) : od_ct a4 (i + 1) = od_ct a4 i + 1 := by
  show od_ct a4 i + (if 0 < (a4 (3 * i + 2)).toInt then 1 else 0) = _
  rw [if_pos h]
theorem od_ct_f {a4 : Nat → Int32} {i : Nat} (h : ¬ 0 < (a4 (3 * i + 2)).toInt) : od_ct a4 (i + 1) = od_ct a4 i := by
  show od_ct a4 i + (if 0 < (a4 (3 * i + 2)).toInt then 1 else 0) = _
  rw [if_neg h, Nat.add_zero]
theorem od_ct_m {a4 : Nat → Int32} {i : Nat} : ∀ d, od_ct a4 i ≤ od_ct a4 (i + d) ∧ od_ct a4 (i + d) ≤ od_ct a4 i + d := by
  intro d
  induction d with
  | zero => exact ⟨Nat.le_refl _, Nat.le_refl _⟩
  | succ d ih =>
    rw [← Nat.add_assoc]
    by_cases h : 0 < (a4 (3 * (i + d) + 2)).toInt
    · rw [od_ct_t h]; omega
    · rw [od_ct_f h]; omega
theorem od_ct_le {a4 : Nat → Int32} (i : Nat) : od_ct a4 i ≤ i := by
  have h := (od_ct_m (a4 := a4) (i := 0) i).2
  rw [Nat.zero_add] at h
  have e : od_ct a4 0 = 0 := rfl
  omega
theorem od_ct_mm {a4 : Nat → Int32} {i m : Nat} (h : i ≤ m) : od_ct a4 i ≤ od_ct a4 m ∧ od_ct a4 m + i ≤ od_ct a4 i + m := by
  obtain ⟨d, rfl⟩ : ∃ d, m = i + d := ⟨m - i, by omega⟩
  have := od_ct_m (a4 := a4) (i := i) d
  omega
theorem od_n24 : ∀ N, N < 24 → N * (24 - N) ≤ 160 := by decide
theorem od_num {N U : Nat} (h : N + U ≤ 23) : N * (U + 1) ≤ 160 := by
  have h1 : N * (U + 1) ≤ N * (24 - N) := Nat.mul_le_mul_left N (by omega)
  have h2 := od_n24 N (by omega)
  omega
theorem od_sum {x y z w : Int32} (B : Nat) (hx : -9 ≤ x.toInt ∧ x.toInt ≤ 9) (hy : -(B : Int) ≤ y.toInt ∧ y.toInt ≤ B) (hz : -9 ≤ z.toInt ∧ z.toInt ≤ 9) (hw : -(B : Int) ≤ w.toInt ∧ w.toInt ≤ B) (hB : B ≤ 1000) : (x * y + z * w).toInt = x.toInt * y.toInt + z.toInt * w.toInt ∧ -(18 * (B : Int)) ≤ (x * y + z * w).toInt ∧ (x * y + z * w).toInt ≤ 18 * (B : Int) := by
  have m1 := od_pm 9 B (x := x.toInt) (y := y.toInt) (by omega) hy
  have m2 := od_pm 9 B (x := z.toInt) (y := w.toInt) (by omega) hw
  have e1 : (x * y).toInt = x.toInt * y.toInt := od_mul (by omega) (by omega)
  have e2 : (z * w).toInt = z.toInt * w.toInt := od_mul (by omega) (by omega)
  have e3 : (x * y + z * w).toInt = x.toInt * y.toInt + z.toInt * w.toInt := by
    rw [od_add (by rw [e1, e2]; omega) (by rw [e1, e2]; omega), e1, e2]
  refine ⟨e3, ?_, ?_⟩
  · rw [e3]; omega
  · rw [e3]; omega
/-! one lower row and the upper ones -/
theorem od_pu119 {post : Int32 → St1 → Prop} {J : Int32 → Int32 → Int32 → Int32 → Int32 → (Nat → Int32) → (Nat → Int32) → (Nat → Int32) → (Nat → Int32) → (Nat → Int32) → (Nat → Int32) → (Nat → Int32) → (Nat → Int32) → Prop} {x1 x2 x3 p q z0 z1 fh fr fw : Int32} {a1 a2 a3 a4 a5 a6 a7 a8 : Nat → Int32} {n i : Nat}
    (hn : n < 160) (hB : od_FB a6 a7 n) (hp : -200 ≤ p.toInt ∧ p.toInt ≤ 200) (hq : -200 ≤ q.toInt ∧ q.toInt ≤ 200) (hd : -3000 ≤ (z1 - z0).toInt ∧ (z1 - z0).toInt ≤ 3000)
    (H0 : ∀ (n' : Nat) (a6' a7' : Nat → Int32), n' ≤ n + 1 → od_FB a6' a7' n' → (∀ x y : Int, ¬ (od_F a6 a7 n x y ∧ p.toInt * x + q.toInt * y ≤ (z1 - z0).toInt)) → post 0 (fh, fr, nI n', fw, a1, a2, a3, a4, a5, a6', a7', a8))
    (H1 : ∀ (n' : Nat) (a6' a7' : Nat → Int32), n' ≤ n + 1 → od_FB a6' a7' n' → (∀ x y : Int, od_F a6' a7' n' x y ↔ od_F a6 a7 n x y ∧ p.toInt * x + q.toInt * y ≤ (z1 - z0).toInt) → J (nI (i + 1)) fh fr (nI n') fw a1 a2 a3 a4 a5 a6' a7' a8) :
    wX_pairUp_119 post J x1 x2 x3 (nI i) p q z0 z1 fh fr (nI n) fw a1 a2 a3 a4 a5 a6 a7 a8 := by
  unfold wX_pairUp_119
  refine nm_e (od_putFew hn hB hp hq hd (fun r n' a6' a7' hr h1 h2 h3 => br_c (fun r0 => ?_) (fun r0 => nm_r (nI_1 i) ?_)))
  · refine H0 n' a6' a7' h1 h2 (fun x y t => ?_)
    have := ((h3 x y).mpr t).1
    rw [r0] at this
    exact absurd this (by decide)
  · refine H1 n' a6' a7' h1 h2 (fun x y => ?_)
    rw [← h3 x y]
    exact ⟨fun t => ⟨hr.resolve_left r0, t⟩, fun t => t.2⟩
theorem od_pairUp {post : Int32 → St1 → Prop} {fh fw g nw : Int32} {a1 a2 a3 a4 a5 a6 a7 a8 : Nat → Int32} {m n l : Nat} (hm : m ≤ 23) (hS : od_SB a4 a5 m) (hl : l < m) (hc : (a4 (3 * l + 2)).toInt < 0) (hg : g.toInt = -(a4 (3 * l + 2)).toInt) (hn : n + od_ct a4 m ≤ 160) (hB : od_FB a6 a7 n)
    (H : ∀ (r : Int32) (n' : Nat) (a6' a7' : Nat → Int32), (r = 0 ∨ r = 1) → n' ≤ n + od_ct a4 m → od_FB a6' a7' n' → (∀ x y : Int, (r = 1 ∧ od_F a6' a7' n' x y) ↔ od_F a6 a7 n x y ∧ ∀ j, j < m → 0 < (a4 (3 * j + 2)).toInt → od_P a4 a5 nw l j x y) → post r (fh, nI m, nI n', fw, a1, a2, a3, a4, a5, a6', a7', a8)) :
    wpX_pairUp post (fh, nI m, nI n, fw, a1, a2, a3, a4, a5, a6, a7, a8) (nI l) g nw := by
  refine pk_loop (σ := Nat × (Nat → Int32) × (Nat → Int32)) (fun k i s => wX_pairUp_3 post (nI l) g nw k (nI i) fh (nI m) (nI s.1) fw a1 a2 a3 a4 a5 s.2.1 s.2.2 a8)
    (fun i s => s.1 ≤ n + od_ct a4 i ∧ od_FB s.2.1 s.2.2 s.1 ∧ ∀ x y : Int, od_F s.2.1 s.2.2 s.1 x y ↔ od_F a6 a7 n x y ∧ ∀ j, j < i → 0 < (a4 (3 * j + 2)).toInt → od_P a4 a5 nw l j x y) m 0 (n, a6, a7) (by omega) ⟨Nat.le_add_right _ _, hB, fun x y => ⟨fun t => ⟨t, fun j hj => absurd hj (by omega)⟩, fun t => t.1⟩⟩ ?_ ?_
  · rintro k ⟨n', a6', a7'⟩ ⟨h1, h2, h3⟩
    exact pk_le m m (fun _ => H 1 n' a6' a7' (Or.inr rfl) h1 h2 (fun x y => ⟨fun t => (h3 x y).mp t.2, fun t => ⟨rfl, (h3 x y).mpr t⟩⟩)) (fun z => absurd z (by omega))
  · rintro k i ⟨n', a6', a7'⟩ hi ⟨h1, h2, h3⟩ hw
    dsimp only at h1 h2 h3
    obtain ⟨bl0, bl1, bl2, bl3⟩ := hS l hl
    obtain ⟨bi0, bi1, bi2, bi3⟩ := hS i hi
    have hcm := (od_ct_mm (a4 := a4) (show i + 1 ≤ m by omega)).1
    refine pk_le m i (fun z => absurd z (by omega)) (fun _ => ⟨pk_in (3 * i + 2) 75 (by omega) (od_i2 i), nm_r (e' := a4 (3 * i + 2)) (by rw [od_c2 (by omega)]) ?_⟩)
    refine od_le _ 0 rfl rfl (fun z => nm_r (nI_1 i) (hw (n', a6', a7') ⟨?_, h2, fun x y => ?_⟩)) (fun z => ?_)
    · rw [od_ct_f (by omega)]; exact h1
    · rw [h3 x y]
      constructor
      · intro t
        refine ⟨t.1, fun j hj cj => ?_⟩
        by_cases e : j = i
        · rw [e] at cj; omega
        · exact t.2 j (by omega) cj
      · intro t
        exact ⟨t.1, fun j hj cj => t.2 j (by omega) cj⟩
    · rw [od_ct_t z] at hcm
      refine ⟨pk_in (3 * l) 75 (by omega) (od_i0 l), pk_in (3 * i) 75 (by omega) (od_i0 i), nm_r (e' := a4 (3 * i + 2) * a4 (3 * l) + g * a4 (3 * i)) (by rw [od_c0 (n := l) (by omega), od_c0 (n := i) (by omega)]) ⟨pk_in (3 * l + 1) 75 (by omega) (od_i1 l), pk_in (3 * i + 1) 75 (by omega) (od_i1 i), nm_r (e' := a4 (3 * i + 2) * a4 (3 * l + 1) + g * a4 (3 * i + 1)) (by rw [od_c1 (n := l) (by omega), od_c1 (n := i) (by omega)]) ⟨pk_in l 25 (by omega), pk_in i 25 (by omega), ?_⟩⟩⟩
      rw [nI_clamp (n := l) (by omega), nI_clamp (n := i) (by omega)]
      have A1 := od_sum (x := a4 (3 * i + 2)) (y := a4 (3 * l)) (z := g) (w := a4 (3 * i)) 9 bi2 bl0 (by omega) bi0 (by omega)
      have A2 := od_sum (x := a4 (3 * i + 2)) (y := a4 (3 * l + 1)) (z := g) (w := a4 (3 * i + 1)) 9 bi2 bl1 (by omega) bi1 (by omega)
      have A3 := od_sum (x := a4 (3 * i + 2)) (y := a5 l) (z := g) (w := a5 i) 100 bi2 bl3 (by omega) bi3 (by omega)
      have key : ∀ z0 : Int32, -100 ≤ z0.toInt ∧ z0.toInt ≤ 100 → z0.toInt = od_k nw (a4 (3 * i + 2)).toInt (-(a4 (3 * l + 2)).toInt) → wX_pairUp_119 post (wX_pairUp_3 post (nI l) g nw k) (nI l) g nw (nI i) (a4 (3 * i + 2) * a4 (3 * l) + g * a4 (3 * i)) (a4 (3 * i + 2) * a4 (3 * l + 1) + g * a4 (3 * i + 1)) z0 (a4 (3 * i + 2) * a5 l + g * a5 i) fh (nI m) (nI n') fw a1 a2 a3 a4 a5 a6' a7' a8 := by
        intro z0 hz0 hz1
        have B3 : (a4 (3 * i + 2) * a5 l + g * a5 i - z0).toInt = (a4 (3 * i + 2) * a5 l + g * a5 i).toInt - z0.toInt := od_sub (by omega) (by omega)
        have cond : ∀ x y : Int, (a4 (3 * i + 2) * a4 (3 * l) + g * a4 (3 * i)).toInt * x + (a4 (3 * i + 2) * a4 (3 * l + 1) + g * a4 (3 * i + 1)).toInt * y ≤ (a4 (3 * i + 2) * a5 l + g * a5 i - z0).toInt ↔ od_P a4 a5 nw l i x y := by
          intro x y
          unfold od_P
          rw [B3, A1.1, A2.1, A3.1, hz1, hg]
        refine od_pu119 (by omega) h2 (by omega) (by omega) (by omega) (fun n2 a62 a72 g1 g2 g3 => H 0 n2 a62 a72 (Or.inl rfl) (by omega) g2 (fun x y => ⟨fun t => absurd t.1 (by decide), fun t => ?_⟩)) (fun n2 a62 a72 g1 g2 g3 => hw (n2, a62, a72) ⟨?_, g2, fun x y => ?_⟩)
        · refine absurd ⟨(h3 x y).mpr ⟨t.1, fun j hj cj => t.2 j (by omega) cj⟩, (cond x y).mpr (t.2 i hi z)⟩ (g3 x y)
        · rw [od_ct_t z]
          show n2 ≤ _
          omega
        · rw [g3 x y, cond x y, h3 x y]
          constructor
          · intro t
            refine ⟨t.1.1, fun j hj cj => ?_⟩
            by_cases e : j = i
            · rw [e]; exact t.2
            · exact t.1.2 j (by omega) cj
          · intro t
            exact ⟨⟨t.1, fun j hj cj => t.2 j (by omega) cj⟩, t.2 i (by omega) z⟩
      refine br_c (fun e0 => key 0 ⟨by decide, by decide⟩ ?_) (fun e0 => key _ ?_ ?_)
      · unfold od_k
        rw [if_pos e0]
        rfl
      all_goals
        have o1 : (1 : Int32).toInt = 1 := rfl
        have s1 : (a4 (3 * i + 2) - 1).toInt = (a4 (3 * i + 2)).toInt - 1 := by
          rw [od_sub (by rw [o1]; omega) (by rw [o1]; omega), o1]
        have s2 : (g - 1).toInt = -(a4 (3 * l + 2)).toInt - 1 := by
          rw [od_sub (by rw [o1]; omega) (by rw [o1]; omega), o1, hg]
        have mB := od_pm 9 9 (x := (a4 (3 * i + 2) - 1).toInt) (y := (g - 1).toInt) (by omega) (by omega)
        have s3 : ((a4 (3 * i + 2) - 1) * (g - 1)).toInt = (a4 (3 * i + 2) - 1).toInt * (g - 1).toInt := od_mul (by omega) (by omega)
      · rw [s3]; omega
      · rw [s3, s1, s2]
        unfold od_k
        rw [if_neg e0]
end
section
/-! taking z out of all rows -/
theorem od_makeFew {post : Int32 → St1 → Prop} {fh ff fw nw : Int32} {a1 a2 a3 a4 a5 a6 a7 a8 : Nat → Int32} {m : Nat} (hm : m ≤ 23) (hS : od_SB a4 a5 m)
    (H : ∀ (r : Int32) (n' : Nat) (a6' a7' : Nat → Int32), (r = 0 ∨ r = 1) → n' ≤ 160 → od_FB a6' a7' n' → (∀ x y : Int, (r = 1 ∧ od_F a6' a7' n' x y) ↔ ∀ i, i < m → od_R a4 a5 nw m i x y) → post r (fh, nI m, nI n', fw, a1, a2, a3, a4, a5, a6', a7', a8)) :
    wpX_makeFew post (fh, nI m, ff, fw, a1, a2, a3, a4, a5, a6, a7, a8) nw := by
  refine pk_loop (σ := Int32 × Nat × (Nat → Int32) × (Nat → Int32)) (fun k i s => wX_makeFew_9 post nw k s.1 (nI i) fh (nI m) (nI s.2.1) fw a1 a2 a3 a4 a5 s.2.2.1 s.2.2.2 a8)
    (fun i s => (s.1 = 0 ∨ s.1 = 1) ∧ s.2.1 ≤ (i - od_ct a4 i) * (od_ct a4 m + 1) ∧ od_FB s.2.2.1 s.2.2.2 s.2.1 ∧ ∀ x y : Int, (s.1 = 1 ∧ od_F s.2.2.1 s.2.2.2 s.2.1 x y) ↔ ∀ j, j < i → od_R a4 a5 nw m j x y) m 0 (1, 0, a6, a7) (by omega) ?_ ?_ ?_
  · exact ⟨Or.inr rfl, Nat.zero_le _, fun r hr => absurd hr (Nat.not_lt_zero r), fun x y => ⟨fun _ j hj => absurd hj (by omega), fun _ => ⟨rfl, od_F0⟩⟩⟩
  · rintro k ⟨r, n', a6', a7'⟩ ⟨h0, h1, h2, h3⟩
    dsimp only at h0 h1 h2 h3
    have hc := od_ct_le (a4 := a4) m
    have hb := od_num (N := m - od_ct a4 m) (U := od_ct a4 m) (by omega)
    exact pk_le m m (fun _ => ⟨od_bool h0, H r n' a6' a7' h0 (by omega) h2 h3⟩) (fun z => absurd z (by omega))
  · rintro k i ⟨r, n', a6', a7'⟩ hi ⟨h0, h1, h2, h3⟩ hw
    dsimp only at h0 h1 h2 h3
    show wX_makeFew_9 post nw (k + 1) r (nI i) fh (nI m) (nI n') fw a1 a2 a3 a4 a5 a6' a7' a8
    have hc := od_ct_le (a4 := a4) i
    have hcm := od_ct_mm (a4 := a4) (show i + 1 ≤ m by omega)
    have hb0 := od_num (N := i - od_ct a4 i) (U := od_ct a4 m) (by have := od_ct_mm (a4 := a4) (show i ≤ m by omega); omega)
    obtain ⟨bi0, bi1, bi2, bi3⟩ := hS i hi
    refine pk_le m i (fun z => absurd z (by omega)) (fun _ => br_c (fun r0 => ⟨od_bool h0, H r n' a6' a7' h0 (by omega) h2 (fun x y => ⟨fun t => ?_, fun t => ?_⟩)⟩) (fun r0 => ⟨pk_in (3 * i + 2) 75 (by omega) (od_i2 i), nm_r (e' := a4 (3 * i + 2)) (by rw [od_c2 (by omega)]) ?_⟩))
    · have t1 := t.1
      rw [r0] at t1
      exact absurd t1 (by decide)
    · have t1 := ((h3 x y).mpr (fun j hj => t j (by omega))).1
      rw [r0] at t1
      exact absurd t1 (by decide)
    · have r1 : r = 1 := h0.resolve_left r0
      have nxt : ∀ x y : Int, (∀ j, j < i + 1 → od_R a4 a5 nw m j x y) ↔ od_F a6' a7' n' x y ∧ od_R a4 a5 nw m i x y := by
        intro x y
        constructor
        · intro t
          exact ⟨((h3 x y).mpr (fun j hj => t j (by omega))).2, t i (by omega)⟩
        · intro t j hj
          by_cases e : j = i
          · rw [e]; exact t.2
          · exact (h3 x y).mp ⟨r1, t.1⟩ j (by omega)
      have stp : ¬ 0 < (a4 (3 * i + 2)).toInt → (i + 1 - od_ct a4 (i + 1)) * (od_ct a4 m + 1) = (i - od_ct a4 i) * (od_ct a4 m + 1) + (od_ct a4 m + 1) ∧ (i - od_ct a4 i) * (od_ct a4 m + 1) + (od_ct a4 m + 1) ≤ 160 := by
        intro hn
        rw [od_ct_f hn] at hcm ⊢
        have e : i + 1 - od_ct a4 i = (i - od_ct a4 i) + 1 := by omega
        have hb1 := od_num (N := (i - od_ct a4 i) + 1) (U := od_ct a4 m) (by omega)
        rw [Nat.succ_mul] at hb1
        rw [e, Nat.succ_mul]
        exact ⟨rfl, hb1⟩
      refine od_eq _ 0 rfl rfl (fun z => ⟨pk_in (3 * i) 75 (by omega) (od_i0 i), pk_in (3 * i + 1) 75 (by omega) (od_i1 i), pk_in i 25 (by omega), ?_⟩) (fun z => od_le 0 _ rfl rfl (fun z2 => nm_r (nI_1 i) (hw (r, n', a6', a7') ⟨h0, ?_, h2, fun x y => ?_⟩)) (fun z2 => ?_))
      · obtain ⟨e1, e2⟩ := stp (by omega)
        rw [od_c0 (n := i) (by omega), od_c1 (n := i) (by omega), nI_clamp (n := i) (by omega)]
        refine od_putFew (by omega) h2 (by omega) (by omega) (by omega) (fun r2 n2 a62 a72 g0 g1 g2 g3 => nm_r (nI_1 i) (hw (r2, n2, a62, a72) ⟨g0, ?_, g2, fun x y => ?_⟩))
        · rw [e1]
          show n2 ≤ _
          omega
        · rw [g3 x y, nxt x y]
          refine ⟨fun t => ⟨t.1, fun _ => t.2, fun c => absurd c (by omega)⟩, fun t => ⟨t.1, t.2.1 z⟩⟩
      · rw [od_ct_t (by omega)]
        show n' ≤ (i + 1 - (od_ct a4 i + 1)) * (od_ct a4 m + 1)
        rw [Nat.add_sub_add_right]
        exact h1
      · rw [nxt x y]
        exact ⟨fun t => ⟨t.2, fun c => absurd c (by omega), fun c => absurd c (by omega)⟩, fun t => ⟨r1, t.1⟩⟩
      · obtain ⟨e1, e2⟩ := stp (by omega)
        refine od_pairUp hm hS hi z2 (od_neg (by omega)) (by omega) h2 (fun r2 n2 a62 a72 g0 g1 g2 g3 => nm_r (nI_1 i) (hw (r2, n2, a62, a72) ⟨g0, ?_, g2, fun x y => ?_⟩))
        · rw [e1]
          show n2 ≤ _
          omega
        · rw [g3 x y, nxt x y]
          exact ⟨fun t => ⟨t.1, fun c => absurd c (by omega), fun _ => t.2⟩, fun t => ⟨t.1, t.2.2 z2⟩⟩
theorem od_makeFewFor {post : Int32 → St1 → Prop} {fh ff fw z : Int32} {a1 a2 a3 a4 a5 a6 a7 a8 : Nat → Int32} {m : Nat} (hm : m ≤ 23) (hS : od_SB a4 a5 m) (hz : -6 ≤ z.toInt ∧ z.toInt ≤ 6)
    (H : ∀ (r : Int32) (n' : Nat) (a6' a7' : Nat → Int32), (r = 0 ∨ r = 1) → n' ≤ 160 → od_FB a6' a7' n' → (∀ x y : Int, (r = 1 ∧ od_F a6' a7' n' x y) ↔ od_S a4 a5 m x y z.toInt) → post r (fh, nI m, nI n', fw, a1, a2, a3, a4, a5, a6', a7', a8)) :
    wpX_makeFewFor post (fh, nI m, ff, fw, a1, a2, a3, a4, a5, a6, a7, a8) z := by
  refine pk_loop (σ := Int32 × Nat × (Nat → Int32) × (Nat → Int32)) (fun k i s => wX_makeFewFor_9 post z k s.1 (nI i) fh (nI m) (nI s.2.1) fw a1 a2 a3 a4 a5 s.2.2.1 s.2.2.2 a8)
    (fun i s => (s.1 = 0 ∨ s.1 = 1) ∧ s.2.1 ≤ i ∧ od_FB s.2.2.1 s.2.2.2 s.2.1 ∧ ∀ x y : Int, (s.1 = 1 ∧ od_F s.2.2.1 s.2.2.2 s.2.1 x y) ↔ od_S a4 a5 i x y z.toInt) m 0 (1, 0, a6, a7) (by omega) ?_ ?_ ?_
  · exact ⟨Or.inr rfl, Nat.zero_le _, fun r hr => absurd hr (Nat.not_lt_zero r), fun x y => ⟨fun _ j hj => absurd hj (by omega), fun _ => ⟨rfl, od_F0⟩⟩⟩
  · rintro k ⟨r, n', a6', a7'⟩ ⟨h0, h1, h2, h3⟩
    dsimp only at h0 h1 h2 h3
    exact pk_le m m (fun _ => ⟨od_bool h0, H r n' a6' a7' h0 (by omega) h2 h3⟩) (fun z => absurd z (by omega))
  · rintro k i ⟨r, n', a6', a7'⟩ hi ⟨h0, h1, h2, h3⟩ hw
    dsimp only at h0 h1 h2 h3
    show wX_makeFewFor_9 post z (k + 1) r (nI i) fh (nI m) (nI n') fw a1 a2 a3 a4 a5 a6' a7' a8
    obtain ⟨bi0, bi1, bi2, bi3⟩ := hS i hi
    refine pk_le m i (fun z => absurd z (by omega)) (fun _ => br_c (fun r0 => ⟨od_bool h0, H r n' a6' a7' h0 (by omega) h2 (fun x y => ⟨fun t => ?_, fun t => ?_⟩)⟩) (fun r0 => ⟨pk_in (3 * i) 75 (by omega) (od_i0 i), pk_in (3 * i + 1) 75 (by omega) (od_i1 i), pk_in i 25 (by omega), pk_in (3 * i + 2) 75 (by omega) (od_i2 i), ?_⟩))
    · have t1 := t.1
      rw [r0] at t1
      exact absurd t1 (by decide)
    · have t1 := ((h3 x y).mpr (fun j hj => t j (by omega))).1
      rw [r0] at t1
      exact absurd t1 (by decide)
    · have r1 : r = 1 := h0.resolve_left r0
      rw [od_c0 (n := i) (by omega), od_c1 (n := i) (by omega), od_c2 (n := i) (by omega), nI_clamp (n := i) (by omega)]
      have mB := od_pm 9 6 (x := (a4 (3 * i + 2)).toInt) (y := z.toInt) (by omega) (by omega)
      have m1 : (a4 (3 * i + 2) * z).toInt = (a4 (3 * i + 2)).toInt * z.toInt := od_mul (by omega) (by omega)
      have m2 : (a5 i - a4 (3 * i + 2) * z).toInt = (a5 i).toInt - (a4 (3 * i + 2)).toInt * z.toInt := by
        rw [od_sub (by rw [m1]; omega) (by rw [m1]; omega), m1]
      refine od_putFew (by omega) h2 (by omega) (by omega) (by rw [m2]; omega) (fun r2 n2 a62 a72 g0 g1 g2 g3 => nm_r (nI_1 i) (hw (r2, n2, a62, a72) ⟨g0, ?_, g2, fun x y => ?_⟩))
      · show n2 ≤ _
        omega
      · rw [g3 x y, m2]
        constructor
        · intro t j hj
          by_cases e : j = i
          · rw [e]
            have := t.2
            omega
          · exact (h3 x y).mp ⟨r1, t.1⟩ j (by omega)
        · intro t
          refine ⟨((h3 x y).mpr (fun j hj => t j (by omega))).2, ?_⟩
          have := t i (by omega)
          omega
theorem od_isExact {post : Int32 → Prop} {fh ff fw : Int32} {a1 a2 a3 a4 a5 a6 a7 a8 : Nat → Int32} {m : Nat} (hm : m ≤ 23) (hS : od_SB a4 a5 m)
    (H : ∀ r : Int32, (r = 0 ∨ r = 1) → (r = 1 → (∀ j, j < m → -(a4 (3 * j + 2)).toInt ≤ 1) ∨ (∀ j, j < m → (a4 (3 * j + 2)).toInt ≤ 1)) → post r) :
    wpX_isExact post (fh, nI m, ff, fw, a1, a2, a3, a4, a5, a6, a7, a8) := by
  refine pk_loop (σ := Int32 × Int32) (fun k i s => wX_isExact_6 post fh (nI m) ff fw a1 a2 a3 a4 a5 a6 a7 a8 k s.1 s.2 (nI i))
    (fun i s => (1 ≤ s.1.toInt ∧ ∀ j, j < i → -(a4 (3 * j + 2)).toInt ≤ s.1.toInt) ∧ (1 ≤ s.2.toInt ∧ ∀ j, j < i → (a4 (3 * j + 2)).toInt ≤ s.2.toInt)) m 0 (1, 1) (by omega) ⟨⟨by decide, fun j hj => absurd hj (by omega)⟩, ⟨by decide, fun j hj => absurd hj (by omega)⟩⟩ ?_ ?_
  · rintro k ⟨lo, hi⟩ ⟨h1, h2⟩
    dsimp only at h1 h2
    show wX_isExact_6 post fh (nI m) ff fw a1 a2 a3 a4 a5 a6 a7 a8 (k + 1) lo hi (nI m)
    exact pk_le m m (fun _ => od_eq _ 1 rfl rfl (fun z => H 1 (Or.inr rfl) (fun _ => Or.inl (fun j hj => by have := h1.2 j hj; omega))) (fun _ => od_eq _ 1 rfl rfl (fun z => H 1 (Or.inr rfl) (fun _ => Or.inr (fun j hj => by have := h2.2 j hj; omega))) (fun _ => H 0 (Or.inl rfl) (fun t => absurd t (by decide))))) (fun z => absurd z (by omega))
  · rintro k i ⟨lo, hi⟩ hi2 ⟨h1, h2⟩ hw
    dsimp only at h1 h2
    show wX_isExact_6 post fh (nI m) ff fw a1 a2 a3 a4 a5 a6 a7 a8 (k + 1) lo hi (nI i)
    obtain ⟨bi0, bi1, bi2, bi3⟩ := hS i hi2
    have nb : (-a4 (3 * i + 2)).toInt = -(a4 (3 * i + 2)).toInt := od_neg (by omega)
    have J : ∀ lo' : Int32, 1 ≤ lo'.toInt → (∀ j, j < i + 1 → -(a4 (3 * j + 2)).toInt ≤ lo'.toInt) → wX_isExact_40 post (wX_isExact_6 post fh (nI m) ff fw a1 a2 a3 a4 a5 a6 a7 a8 k) hi (nI i) (a4 (3 * i + 2)) lo' fh (nI m) ff fw a1 a2 a3 a4 a5 a6 a7 a8 := by
      intro lo' g1 g2
      unfold wX_isExact_40
      refine od_le _ _ rfl rfl (fun z => nm_r (nI_1 i) (hw (lo', hi) ⟨⟨g1, g2⟩, ⟨h2.1, fun j hj => ?_⟩⟩)) (fun z => nm_r (nI_1 i) (hw (lo', a4 (3 * i + 2)) ⟨⟨g1, g2⟩, ⟨?_, fun j hj => ?_⟩⟩))
      · by_cases e : j = i
        · rw [e]; exact z
        · exact h2.2 j (by omega)
      · show 1 ≤ (a4 (3 * i + 2)).toInt
        omega
      · show (a4 (3 * j + 2)).toInt ≤ (a4 (3 * i + 2)).toInt
        by_cases e : j = i
        · rw [e]; omega
        · have := h2.2 j (by omega)
          omega
    refine pk_le m i (fun z => absurd z (by omega)) (fun _ => ⟨pk_in (3 * i + 2) 75 (by omega) (od_i2 i), nm_r (e' := a4 (3 * i + 2)) (by rw [od_c2 (by omega)]) ?_⟩)
    refine od_le _ _ nb rfl (fun z => J lo h1.1 (fun j hj => ?_)) (fun z => J _ (by rw [nb]; omega) (fun j hj => ?_))
    · by_cases e : j = i
      · rw [e]; exact z
      · exact h1.2 j (by omega)
    · rw [nb]
      by_cases e : j = i
      · rw [e]; omega
      · have := h1.2 j (by omega)
        omega
theorem od_sol46 {post : Int32 → St1 → Prop} {fh ff fw : Int32} {a1 a2 a3 a4 a5 a6 a7 a8 : Nat → Int32} {m : Nat} (hm : m ≤ 23) (hS : od_SB a4 a5 m)
    (hbox : ∀ x y z : Int, od_S a4 a5 m x y z → (-6 ≤ x ∧ x ≤ 6) ∧ (-6 ≤ y ∧ y ≤ 6) ∧ (-6 ≤ z ∧ z ≤ 6))
    (H : ∀ (r ff' : Int32) (a6' a7' : Nat → Int32), (r = 0 ∨ r = 1) → (r = 1 ↔ ∃ x y z : Int, od_S a4 a5 m x y z) → post r (fh, nI m, ff', fw, a1, a2, a3, a4, a5, a6', a7', a8)) :
    ∃ k, wX_solvable_46 post k (-6) fh (nI m) ff fw a1 a2 a3 a4 a5 a6 a7 a8 := by
  have main : ∃ k, wX_solvable_46 post k (nI 0 - 6) fh (nI m) ff fw a1 a2 a3 a4 a5 a6 a7 a8 := by
    refine pk_loop (σ := Int32 × (Nat → Int32) × (Nat → Int32)) (fun k i s => wX_solvable_46 post k (nI i - 6) fh (nI m) s.1 fw a1 a2 a3 a4 a5 s.2.1 s.2.2 a8)
      (fun i _ => ∀ x y z : Int, z < (i : Int) - 6 → ¬ od_S a4 a5 m x y z) 13 0 (ff, a6, a7) (by omega) (fun x y z hz t => ?_) ?_ ?_
    · have := hbox x y z t
      omega
    · rintro k ⟨g, a6', a7'⟩ h
      show wX_solvable_46 post (k + 1) (nI 13 - 6) fh (nI m) g fw a1 a2 a3 a4 a5 a6' a7' a8
      refine od_lt 6 _ rfl (od_zI (by omega)) (fun _ => H 0 _ _ _ (Or.inl rfl) ⟨fun t => absurd t (by decide), fun t => ?_⟩) (fun z => absurd z (by omega))
      obtain ⟨x, y, z, t⟩ := t
      have := hbox x y z t
      exact absurd t (h x y z (by omega))
    · rintro k i ⟨g, a6', a7'⟩ hi h hw
      show wX_solvable_46 post (k + 1) (nI i - 6) fh (nI m) g fw a1 a2 a3 a4 a5 a6' a7' a8
      have e := od_zI (i := i) (by omega)
      refine od_lt 6 _ rfl e (fun z => absurd z (by omega)) (fun z => od_makeFewFor hm hS (by rw [e]; omega) (fun r n2 a62 a72 g0 g1 g2 g3 => ?_))
      rw [e] at g3
      have nx : (∀ x y : Int, ¬ od_S a4 a5 m x y ((i : Int) - 6)) → wX_solvable_46 post k (nI (i + 1) - 6) fh (nI m) (nI n2) fw a1 a2 a3 a4 a5 a62 a72 a8 := by
        intro hn
        refine hw (nI n2, a62, a72) (fun x y w hw2 => ?_)
        by_cases hwi : w = (i : Int) - 6
        · rw [hwi]; exact hn x y
        · exact h x y w (by omega)
      refine br_c (fun r0 => nm_r (od_z1 i) (nx (fun x y t => ?_))) (fun r0 => od_plane g1 g2 (fun r2 k0 k1 => br_c (fun r3 => nm_r (od_z1 i) (nx (fun x y t => ?_))) (fun r3 => H 1 _ _ _ (Or.inr rfl) ⟨fun _ => ?_, fun _ => rfl⟩)))
      · have := ((g3 x y).mpr t).1
        rw [r0] at this
        exact absurd this (by decide)
      · have hb := hbox _ _ _ t
        have := k1.mpr ⟨x, y, hb.1, hb.2.1, ((g3 x y).mpr t).2⟩
        rw [r3] at this
        exact absurd this (by decide)
      · obtain ⟨x, y, _, _, t⟩ := k1.mp (k0.resolve_left r3)
        exact ⟨x, y, _, (g3 x y).mp ⟨g0.resolve_left r0, t⟩⟩
  have e0 : nI 0 - 6 = (-6 : Int32) := by decide
  rw [e0] at main
  exact main
theorem od_sol17 {post : Int32 → St1 → Prop} {fh ff fw : Int32} {a1 a2 a3 a4 a5 a6 a7 a8 : Nat → Int32} {m : Nat} (hm : m ≤ 23) (hS : od_SB a4 a5 m)
    (hbox : ∀ x y z : Int, od_S a4 a5 m x y z → (-6 ≤ x ∧ x ≤ 6) ∧ (-6 ≤ y ∧ y ≤ 6) ∧ (-6 ≤ z ∧ z ≤ 6))
    (hN : ∀ x y z : Int, od_S a4 a5 m x y z → ¬ ∀ i, i < m → od_R a4 a5 1 m i x y)
    (H : ∀ (r ff' : Int32) (a6' a7' : Nat → Int32), (r = 0 ∨ r = 1) → (r = 1 ↔ ∃ x y z : Int, od_S a4 a5 m x y z) → post r (fh, nI m, ff', fw, a1, a2, a3, a4, a5, a6', a7', a8)) :
    wX_solvable_17 post fh (nI m) ff fw a1 a2 a3 a4 a5 a6 a7 a8 := by
  unfold wX_solvable_17
  refine od_isExact hm hS (fun r hr hx => br_c (fun r0 => od_makeFew hm hS (fun r2 n2 a62 a72 g0 g1 g2 g3 => br_c (fun r3 => ?_) (fun r3 => od_plane g1 g2 (fun r4 k0 k1 => br_c (fun r5 => ?_) (fun r5 => od_sol46 hm hS hbox H))))) (fun r0 => ?_))
  · refine H 0 _ _ _ (Or.inl rfl) ⟨fun t => absurd t (by decide), fun t => ?_⟩
    obtain ⟨x, y, z, t⟩ := t
    have := ((g3 x y).mpr (od_L2 t)).1
    rw [r3] at this
    exact absurd this (by decide)
  · refine H 0 _ _ _ (Or.inl rfl) ⟨fun t => absurd t (by decide), fun t => ?_⟩
    obtain ⟨x, y, z, t⟩ := t
    have hb := hbox _ _ _ t
    have := k1.mpr ⟨x, y, hb.1, hb.2.1, ((g3 x y).mpr (od_L2 t)).2⟩
    rw [r5] at this
    exact absurd this (by decide)
  · refine H 0 _ _ _ (Or.inl rfl) ⟨fun t => absurd t (by decide), fun t => ?_⟩
    obtain ⟨x, y, z, t⟩ := t
    exact absurd (od_L3 t (hx (hr.resolve_left r0))) (hN x y z t)
theorem od_solvable {post : Int32 → St1 → Prop} {fh ff fw : Int32} {a1 a2 a3 a4 a5 a6 a7 a8 : Nat → Int32} {m : Nat} (hm : m ≤ 23) (hS : od_SB a4 a5 m) (hlo : ∃ l, l < m ∧ (a4 (3 * l + 2)).toInt < 0)
    (hbox : ∀ x y z : Int, od_S a4 a5 m x y z → (-6 ≤ x ∧ x ≤ 6) ∧ (-6 ≤ y ∧ y ≤ 6) ∧ (-6 ≤ z ∧ z ≤ 6))
    (H : ∀ (r ff' : Int32) (a6' a7' : Nat → Int32), (r = 0 ∨ r = 1) → (r = 1 ↔ ∃ x y z : Int, od_S a4 a5 m x y z) → post r (fh, nI m, ff', fw, a1, a2, a3, a4, a5, a6', a7', a8)) :
    wpX_solvable post (fh, nI m, ff, fw, a1, a2, a3, a4, a5, a6, a7, a8) := by
  unfold wpX_solvable
  refine od_makeFew hm hS (fun r n2 a62 a72 g0 g1 g2 g3 => br_c (fun r0 => od_sol17 hm hS hbox (fun x y z t u => ?_) H) (fun r0 => od_plane g1 g2 (fun r4 k0 k1 => br_c (fun r5 => od_sol17 hm hS hbox (fun x y z t u => ?_) H) (fun r5 => H 1 _ _ _ (Or.inr rfl) ⟨fun _ => ?_, fun _ => rfl⟩))))
  · have := ((g3 x y).mpr u).1
    rw [r0] at this
    exact absurd this (by decide)
  · have hb := hbox _ _ _ t
    have := k1.mpr ⟨x, y, hb.1, hb.2.1, ((g3 x y).mpr u).2⟩
    rw [r5] at this
    exact absurd this (by decide)
  · obtain ⟨x, y, _, _, t⟩ := k1.mp (k0.resolve_left r5)
    obtain ⟨z, hz⟩ := od_L1 ((g3 x y).mp ⟨g0.resolve_left r0, t⟩) hlo
    exact ⟨x, y, z, hz⟩
end
section
/-! the rows that are worked with: made anew for each question -/
def od_Lo (a4 : Nat → Int32) (m : Nat) : Prop := ∃ l, l < m ∧ (a4 (3 * l + 2)).toInt < 0
theorem od_Sr {a4 a5 : Nat → Int32} {n r : Nat} {p q s e : Int32} (h : r < n) : upd (upd (upd a4 (3 * n) p) (3 * n + 1) q) (3 * n + 2) s (3 * r) = a4 (3 * r) ∧ upd (upd (upd a4 (3 * n) p) (3 * n + 1) q) (3 * n + 2) s (3 * r + 1) = a4 (3 * r + 1) ∧ upd (upd (upd a4 (3 * n) p) (3 * n + 1) q) (3 * n + 2) s (3 * r + 2) = a4 (3 * r + 2) ∧ upd a5 n e r = a5 r :=
  ⟨by rw [pk_un (by omega), pk_un (by omega), pk_un (by omega)], by rw [pk_un (by omega), pk_un (by omega), pk_un (by omega)], by rw [pk_un (by omega), pk_un (by omega), pk_un (by omega)], pk_un (by omega)⟩
theorem od_Sn {a4 a5 : Nat → Int32} {n : Nat} {p q s e : Int32} : upd (upd (upd a4 (3 * n) p) (3 * n + 1) q) (3 * n + 2) s (3 * n) = p ∧ upd (upd (upd a4 (3 * n) p) (3 * n + 1) q) (3 * n + 2) s (3 * n + 1) = q ∧ upd (upd (upd a4 (3 * n) p) (3 * n + 1) q) (3 * n + 2) s (3 * n + 2) = s ∧ upd a5 n e n = e :=
  ⟨by rw [pk_un (by omega), pk_un (by omega), pk_us], by rw [pk_un (by omega), pk_us], pk_us, pk_us⟩
theorem od_put {post : St1 → Prop} {fh ff fw p0 p1 p2 p3 : Int32} {a1 a2 a3 a4 a5 a6 a7 a8 : Nat → Int32} {m : Nat} (hm : m < 25) (hS : od_SB a4 a5 m)
    (b0 : -9 ≤ p0.toInt ∧ p0.toInt ≤ 9) (b1 : -9 ≤ p1.toInt ∧ p1.toInt ≤ 9) (b2 : -9 ≤ p2.toInt ∧ p2.toInt ≤ 9) (b3 : -100 ≤ p3.toInt ∧ p3.toInt ≤ 100)
    (H : ∀ a4' a5' : Nat → Int32, od_SB a4' a5' (m + 1) → (∀ x y z : Int, od_S a4' a5' (m + 1) x y z ↔ od_S a4 a5 m x y z ∧ p0.toInt * x + p1.toInt * y + p2.toInt * z ≤ p3.toInt) → ((od_Lo a4 m ∨ p2.toInt < 0) → od_Lo a4' (m + 1)) → post (fh, nI (m + 1), ff, fw, a1, a2, a3, a4', a5', a6, a7, a8)) :
    wpX_put post (fh, nI m, ff, fw, a1, a2, a3, a4, a5, a6, a7, a8) p0 p1 p2 p3 := by
  refine ⟨pk_in (3 * m) 75 (by omega) (od_i0 m), nm_r (e' := upd a4 (3 * m) p0) (by rw [od_c0 (by omega)]) ⟨pk_in (3 * m + 1) 75 (by omega) (od_i1 m), nm_r (e' := upd (upd a4 (3 * m) p0) (3 * m + 1) p1) (by rw [od_c1 (by omega)]) ⟨pk_in (3 * m + 2) 75 (by omega) (od_i2 m), nm_r (e' := upd (upd (upd a4 (3 * m) p0) (3 * m + 1) p1) (3 * m + 2) p2) (by rw [od_c2 (by omega)]) ⟨pk_in m 25 hm, nm_r (e' := upd a5 m p3) (by rw [nI_clamp (by omega)]) (nm_r (nI_1 m) ?_)⟩⟩⟩⟩
  have en := od_Sn (a4 := a4) (a5 := a5) (n := m) (p := p0) (q := p1) (s := p2) (e := p3)
  have er : ∀ r, r < m → _ := fun r hr => od_Sr (a4 := a4) (a5 := a5) (n := m) (r := r) (p := p0) (q := p1) (s := p2) (e := p3) hr
  refine H _ _ (fun r hr => ?_) (fun x y z => ⟨fun h => ⟨fun r hr => ?_, ?_⟩, fun h r hr => ?_⟩) (fun h => ?_)
  · by_cases e : r = m
    · subst e
      rw [en.1, en.2.1, en.2.2.1, en.2.2.2]
      exact ⟨b0, b1, b2, b3⟩
    · have er := er r (by omega)
      rw [er.1, er.2.1, er.2.2.1, er.2.2.2]
      exact hS r (by omega)
  · have t := h r (by omega)
    have er := er r hr
    rw [er.1, er.2.1, er.2.2.1, er.2.2.2] at t
    exact t
  · have t := h m (by omega)
    rw [en.1, en.2.1, en.2.2.1, en.2.2.2] at t
    exact t
  · by_cases e : r = m
    · subst e
      rw [en.1, en.2.1, en.2.2.1, en.2.2.2]
      exact h.2
    · have er := er r (by omega)
      rw [er.1, er.2.1, er.2.2.1, er.2.2.2]
      exact h.1 r (by omega)
  · rcases h with ⟨l, hl, hc⟩ | h
    · exact ⟨l, by omega, by rw [(er l hl).2.2.1]; exact hc⟩
    · exact ⟨m, by omega, by rw [en.2.2.1]; exact h⟩
theorem od_free {post : St1 → Prop} {fh fr ff fw : Int32} {a1 a2 a3 a4 a5 a6 a7 a8 : Nat → Int32}
    (H : ∀ a8' : Nat → Int32, (∀ v, v < 3 → a8' v = 100) → post (fh, fr, ff, fw, a1, a2, a3, a4, a5, a6, a7, a8')) : wpX_free post (fh, fr, ff, fw, a1, a2, a3, a4, a5, a6, a7, a8) := by
  refine pk_loop (fun k i s => wX_free_2 post fh fr ff fw k (nI i) a1 a2 a3 a4 a5 a6 a7 s) (fun i s => ∀ v, v < i → s v = 100) 3 0 a8 (by omega) (fun v hv => absurd hv (by omega)) ?_ ?_
  · intro k s h
    exact pk_le 3 3 (fun _ => H s h) (fun z => absurd z (by omega))
  · intro k i s hi h hw
    refine pk_le 3 i (fun z => absurd z (by omega)) (fun _ => ⟨pk_in i 3 hi, nm_r (e' := upd s i 100) (by rw [nI_clamp (by omega)]) (nm_r (nI_1 i) (hw _ (fun v hv => ?_)))⟩)
    by_cases e : v = i
    · rw [e, pk_us]
    · rw [pk_un e]; exact h v (by omega)
/-- one of three -/
def od_co (v : Nat) (x y z : Int) : Int := match v with
  | 0 => x
  | 1 => y
  | _ => z
/-- a variable's stretch -/
def od_bx (a8 : Nat → Int32) (v : Nat) (t : Int) : Prop := (if a8 v = 100 then -6 else (a8 v).toInt) ≤ t ∧ t ≤ (if a8 v = 100 then 6 else (a8 v).toInt)
/-- what is fixed is small -/
def od_X8 (a8 : Nat → Int32) : Prop := ∀ v, v < 3 → a8 v = 100 ∨ (-6 ≤ (a8 v).toInt ∧ (a8 v).toInt ≤ 6)
theorem od_c154 {post : St1 → Prop} {J : Int32 → Int32 → Int32 → Int32 → Int32 → (Nat → Int32) → (Nat → Int32) → (Nat → Int32) → (Nat → Int32) → (Nat → Int32) → (Nat → Int32) → (Nat → Int32) → (Nat → Int32) → Prop} {fh ff fw hi lo : Int32} {a1 a2 a3 a4 a5 a6 a7 a8 : Nat → Int32} {m v : Nat} (hv : v < 3) (hm : m + 2 ≤ 25) (hS : od_SB a4 a5 m) (hhi : -6 ≤ hi.toInt ∧ hi.toInt ≤ 6) (hlo : -6 ≤ lo.toInt ∧ lo.toInt ≤ 6)
    (H : ∀ a4' a5' : Nat → Int32, od_SB a4' a5' (m + 2) → (∀ x y z : Int, od_S a4' a5' (m + 2) x y z ↔ od_S a4 a5 m x y z ∧ lo.toInt ≤ od_co v x y z ∧ od_co v x y z ≤ hi.toInt) → (v = 2 → od_Lo a4' (m + 2)) → J (nI (v + 1)) fh (nI (m + 2)) ff fw a1 a2 a3 a4' a5' a6 a7 a8) :
    wX_collect_154 post J (nI v) hi lo fh (nI m) ff fw a1 a2 a3 a4 a5 a6 a7 a8 := by
  have o1 : (1 : Int32).toInt = 1 := rfl
  have on : (-1 : Int32).toInt = -1 := rfl
  have oz : (0 : Int32).toInt = 0 := rfl
  have nl : (-lo).toInt = -lo.toInt := od_neg (by omega)
  have hv3 : v = 0 ∨ v = 1 ∨ v = 2 := by omega
  rcases hv3 with rfl | rfl | rfl
  · unfold wX_collect_154
    refine br_t rfl ?_
    unfold wX_collect_165
    refine br_f (by decide) ?_
    unfold wX_collect_175
    refine br_f (by decide) ?_
    unfold wX_collect_185
    refine od_put (by omega) hS (by decide) (by decide) (by decide) (by omega) (fun a41 a51 s1 s2 s3 => br_t rfl ?_)
    unfold wX_collect_199
    refine br_f (by decide) ?_
    unfold wX_collect_209
    refine br_f (by decide) ?_
    unfold wX_collect_219
    refine od_put (by omega) s1 (by decide) (by decide) (by decide) (by rw [nl]; omega) (fun a42 a52 t1 t2 t3 => nm_r (nI_1 0) (H a42 a52 t1 (fun x y z => ?_) (fun w => ?_)))
    · rw [t2 x y z, s2 x y z, nl, o1, on, oz]
      show _ ↔ _ ∧ lo.toInt ≤ x ∧ x ≤ hi.toInt
      exact ⟨fun t => ⟨t.1.1, by have u1 := t.1.2; have u2 := t.2; omega⟩, fun t => ⟨⟨t.1, by have u := t.2; omega⟩, by have u := t.2; omega⟩⟩
    · exact absurd w (by decide)
  · unfold wX_collect_154
    refine br_f (by decide) ?_
    unfold wX_collect_165
    refine br_t rfl ?_
    unfold wX_collect_175
    refine br_f (by decide) ?_
    unfold wX_collect_185
    refine od_put (by omega) hS (by decide) (by decide) (by decide) (by omega) (fun a41 a51 s1 s2 s3 => br_f (by decide) ?_)
    unfold wX_collect_199
    refine br_t rfl ?_
    unfold wX_collect_209
    refine br_f (by decide) ?_
    unfold wX_collect_219
    refine od_put (by omega) s1 (by decide) (by decide) (by decide) (by rw [nl]; omega) (fun a42 a52 t1 t2 t3 => nm_r (nI_1 1) (H a42 a52 t1 (fun x y z => ?_) (fun w => ?_)))
    · rw [t2 x y z, s2 x y z, nl, o1, on, oz]
      show _ ↔ _ ∧ lo.toInt ≤ y ∧ y ≤ hi.toInt
      exact ⟨fun t => ⟨t.1.1, by have u1 := t.1.2; have u2 := t.2; omega⟩, fun t => ⟨⟨t.1, by have u := t.2; omega⟩, by have u := t.2; omega⟩⟩
    · exact absurd w (by decide)
  · unfold wX_collect_154
    refine br_f (by decide) ?_
    unfold wX_collect_165
    refine br_f (by decide) ?_
    unfold wX_collect_175
    refine br_t rfl ?_
    unfold wX_collect_185
    refine od_put (by omega) hS (by decide) (by decide) (by decide) (by omega) (fun a41 a51 s1 s2 s3 => br_f (by decide) ?_)
    unfold wX_collect_199
    refine br_f (by decide) ?_
    unfold wX_collect_209
    refine br_t rfl ?_
    unfold wX_collect_219
    refine od_put (by omega) s1 (by decide) (by decide) (by decide) (by rw [nl]; omega) (fun a42 a52 t1 t2 t3 => nm_r (nI_1 2) (H a42 a52 t1 (fun x y z => ?_) (fun w => ?_)))
    · rw [t2 x y z, s2 x y z, nl, o1, on, oz]
      show _ ↔ _ ∧ lo.toInt ≤ z ∧ z ≤ hi.toInt
      exact ⟨fun t => ⟨t.1.1, by have u1 := t.1.2; have u2 := t.2; omega⟩, fun t => ⟨⟨t.1, by have u := t.2; omega⟩, by have u := t.2; omega⟩⟩
    · exact t3 (Or.inr (by decide))
theorem od_cit {post : St1 → Prop} {fh ff fw : Int32} {a1 a2 a3 a4 a5 a6 a7 a8 : Nat → Int32} {m v k : Nat} (hv : v < 3) (hm : m + 2 ≤ 25) (hS : od_SB a4 a5 m) (h8 : od_X8 a8)
    (H : ∀ a4' a5' : Nat → Int32, od_SB a4' a5' (m + 2) → (∀ x y z : Int, od_S a4' a5' (m + 2) x y z ↔ od_S a4 a5 m x y z ∧ od_bx a8 v (od_co v x y z)) → (v = 2 → od_Lo a4' (m + 2)) → wX_collect_104 post k (nI (v + 1)) fh (nI (m + 2)) ff fw a1 a2 a3 a4' a5' a6 a7 a8) :
    wX_collect_104 post (k + 1) (nI v) fh (nI m) ff fw a1 a2 a3 a4 a5 a6 a7 a8 := by
  have o6 : (6 : Int32).toInt = 6 := rfl
  have on6 : (-6 : Int32).toInt = -6 := rfl
  refine pk_le 3 v (fun z => absurd z (by omega)) (fun _ => ⟨pk_in v 3 hv, ?_⟩)
  rw [nI_clamp (n := v) (by omega)]
  unfold od_bx at H
  refine br_c (fun e => ?_) (fun e => ⟨pk_in v 3 hv, ?_⟩)
  · rw [if_pos e, if_pos e] at H
    unfold wX_collect_131
    refine ⟨pk_in v 3 hv, ?_⟩
    rw [nI_clamp (n := v) (by omega)]
    exact br_t e (od_c154 hv hm hS (by decide) (by decide) H)
  · rw [if_neg e, if_neg e] at H
    have b := (h8 v hv).resolve_left e
    unfold wX_collect_131
    refine ⟨pk_in v 3 hv, ?_⟩
    rw [nI_clamp (n := v) (by omega)]
    exact br_f e ⟨pk_in v 3 hv, od_c154 hv hm hS b b H⟩
/-- the three stretches -/
def od_X (a8 : Nat → Int32) (x y z : Int) : Prop := od_bx a8 0 x ∧ od_bx a8 1 y ∧ od_bx a8 2 z
theorem od_c104 {post : St1 → Prop} {fh ff fw : Int32} {a1 a2 a3 a4 a5 a6 a7 a8 : Nat → Int32} {m : Nat} (hm : m ≤ 16) (hS : od_SB a4 a5 m) (h8 : od_X8 a8)
    (H : ∀ a4' a5' : Nat → Int32, od_SB a4' a5' (m + 6) → (∀ x y z : Int, od_S a4' a5' (m + 6) x y z ↔ od_S a4 a5 m x y z ∧ od_X a8 x y z) → od_Lo a4' (m + 6) → post (fh, nI (m + 6), ff, fw, a1, a2, a3, a4', a5', a6, a7, a8)) :
    ∃ k, wX_collect_104 post k 0 fh (nI m) ff fw a1 a2 a3 a4 a5 a6 a7 a8 := by
  refine ⟨0 + 1 + 1 + 1 + 1, od_cit (v := 0) (by omega) (by omega) hS h8 (fun b4 b5 s1 s2 _ => od_cit (v := 1) (by omega) (by omega) s1 h8 (fun c4 c5 t1 t2 _ => od_cit (v := 2) (by omega) (by omega) t1 h8 (fun d4 d5 w1 w2 w3 => pk_le 3 3 (fun _ => H d4 d5 w1 (fun x y z => ?_) (w3 rfl)) (fun z => absurd z (by omega)))))⟩
  rw [w2 x y z, t2 x y z, s2 x y z]
  unfold od_X
  exact ⟨fun t => ⟨t.1.1.1, t.1.1.2, t.1.2, t.2⟩, fun t => ⟨⟨⟨t.1, t.2.1⟩, t.2.2.1⟩, t.2.2.2⟩⟩
/-- the conditions held hold at a point -/
def od_H (a1 a2 a3 : Nat → Int32) (h : Nat) (x y z : Int) : Prop := ∀ k, k < h → (a1 (3 * k)).toInt * x + (a1 (3 * k + 1)).toInt * y + (a1 (3 * k + 2)).toInt * z ≤ (a2 k).toInt ∧ (¬ a3 k = 0 → (-(a1 (3 * k)).toInt) * x + (-(a1 (3 * k + 1)).toInt) * y + (-(a1 (3 * k + 2)).toInt) * z ≤ -(a2 k).toInt)
/-- the conditions held are small -/
def od_HB (a1 a2 a3 : Nat → Int32) (h : Nat) : Prop := ∀ k, k < h → (-9 ≤ (a1 (3 * k)).toInt ∧ (a1 (3 * k)).toInt ≤ 9) ∧ (-9 ≤ (a1 (3 * k + 1)).toInt ∧ (a1 (3 * k + 1)).toInt ≤ 9) ∧ (-9 ≤ (a1 (3 * k + 2)).toInt ∧ (a1 (3 * k + 2)).toInt ≤ 9) ∧ (-99 ≤ (a2 k).toInt ∧ (a2 k).toInt ≤ 99) ∧ (a3 k = 0 ∨ a3 k = 1)
theorem od_Hs {a1 a2 a3 : Nat → Int32} {h : Nat} {x y z : Int} : od_H a1 a2 a3 (h + 1) x y z ↔ od_H a1 a2 a3 h x y z ∧ ((a1 (3 * h)).toInt * x + (a1 (3 * h + 1)).toInt * y + (a1 (3 * h + 2)).toInt * z ≤ (a2 h).toInt ∧ (¬ a3 h = 0 → (-(a1 (3 * h)).toInt) * x + (-(a1 (3 * h + 1)).toInt) * y + (-(a1 (3 * h + 2)).toInt) * z ≤ -(a2 h).toInt)) := by
  constructor
  · intro t
    exact ⟨fun k hk => t k (by omega), t h (by omega)⟩
  · intro t k hk
    by_cases e : k = h
    · rw [e]; exact t.2
    · exact t.1 k (by omega)
theorem od_nm1 {i : Nat} (h : i < 1000) : ¬ nI i = -1 := by
  intro e
  have t : (nI i).toInt = (-1 : Int32).toInt := by rw [e]
  rw [nI_toInt (by omega)] at t
  have t2 : (-1 : Int32).toInt = -1 := rfl
  omega
theorem od_collect {post : St1 → Prop} {fr ff : Int32} {a1 a2 a3 a4 a5 a6 a7 a8 : Nat → Int32} {h : Nat} (hh : h ≤ 8) (hHB : od_HB a1 a2 a3 h) (h8 : od_X8 a8)
    (H : ∀ (m : Nat) (a4' a5' : Nat → Int32), m ≤ 22 → od_SB a4' a5' m → (∀ x y z : Int, od_S a4' a5' m x y z ↔ od_H a1 a2 a3 h x y z ∧ od_X a8 x y z) → od_Lo a4' m → post (nI h, nI m, ff, -1, a1, a2, a3, a4', a5', a6, a7, a8)) :
    wpX_collect post (nI h, fr, ff, -1, a1, a2, a3, a4, a5, a6, a7, a8) := by
  refine pk_loop (σ := Nat × (Nat → Int32) × (Nat → Int32)) (fun k i s => wX_collect_7 post k (nI i) (nI h) (nI s.1) ff (-1) a1 a2 a3 s.2.1 s.2.2 a6 a7 a8)
    (fun i s => s.1 ≤ 2 * i ∧ od_SB s.2.1 s.2.2 s.1 ∧ ∀ x y z : Int, od_S s.2.1 s.2.2 s.1 x y z ↔ od_H a1 a2 a3 i x y z) h 0 (0, a4, a5) (by omega) ⟨Nat.zero_le _, fun r hr => absurd hr (Nat.not_lt_zero r), fun x y z => ⟨fun _ k hk => absurd hk (by omega), fun _ r hr => absurd hr (Nat.not_lt_zero r)⟩⟩ ?_ ?_
  · rintro k ⟨m, b4, b5⟩ ⟨g1, g2, g3⟩
    dsimp only at g1 g2 g3
    show wX_collect_7 post (k + 1) (nI h) (nI h) (nI m) ff (-1) a1 a2 a3 b4 b5 a6 a7 a8
    refine pk_le h h (fun _ => od_c104 (by omega) g2 h8 (fun c4 c5 s1 s2 s3 => H (m + 6) c4 c5 (by omega) s1 (fun x y z => ?_) s3)) (fun z => absurd z (by omega))
    rw [s2 x y z, g3 x y z]
  · rintro k i ⟨m, b4, b5⟩ hi ⟨g1, g2, g3⟩ hw
    dsimp only at g1 g2 g3
    show wX_collect_7 post (k + 1) (nI i) (nI h) (nI m) ff (-1) a1 a2 a3 b4 b5 a6 a7 a8
    obtain ⟨p0, p1, p2, p3, p4⟩ := hHB i hi
    have n0 : (-a1 (3 * i)).toInt = -(a1 (3 * i)).toInt := od_neg (by omega)
    have n1 : (-a1 (3 * i + 1)).toInt = -(a1 (3 * i + 1)).toInt := od_neg (by omega)
    have n2 : (-a1 (3 * i + 2)).toInt = -(a1 (3 * i + 2)).toInt := od_neg (by omega)
    have n3 : (-a2 i).toInt = -(a2 i).toInt := od_neg (by omega)
    refine pk_le h i (fun z => absurd z (by omega)) (fun _ => br_f (od_nm1 (by omega)) ⟨pk_in (3 * i) 24 (by omega) (od_i0 i), nm_r (e' := a1 (3 * i)) (by rw [od_c0 (by omega)]) ⟨pk_in (3 * i + 1) 24 (by omega) (od_i1 i), nm_r (e' := a1 (3 * i + 1)) (by rw [od_c1 (by omega)]) ⟨pk_in (3 * i + 2) 24 (by omega) (od_i2 i), nm_r (e' := a1 (3 * i + 2)) (by rw [od_c2 (by omega)]) ⟨pk_in i 8 (by omega), ?_⟩⟩⟩⟩)
    rw [nI_clamp (n := i) (by omega)]
    refine od_put (by omega) g2 p0 p1 p2 (by omega) (fun c4 c5 s1 s2 s3 => ⟨pk_in i 8 (by omega), br_c (fun e => nm_r (nI_1 i) (hw (m + 1, c4, c5) ⟨?_, s1, fun x y z => ?_⟩)) (fun e => ⟨pk_in i 8 (by omega), od_put (by omega) s1 (by omega) (by omega) (by omega) (by omega) (fun d4 d5 t1 t2 t3 => nm_r (nI_1 i) (hw (m + 2, d4, d5) ⟨?_, t1, fun x y z => ?_⟩))⟩)⟩)
    · show m + 1 ≤ _
      omega
    · rw [s2 x y z, g3 x y z, od_Hs]
      exact ⟨fun t => ⟨t.1, t.2, fun ne => absurd e ne⟩, fun t => ⟨t.1, t.2.1⟩⟩
    · show m + 2 ≤ _
      omega
    · rw [t2 x y z, s2 x y z, g3 x y z, od_Hs, n0, n1, n2, n3]
      exact ⟨fun t => ⟨t.1.1, t.1.2, fun _ => t.2⟩, fun t => ⟨⟨t.1, t.2.1⟩, t.2.2 e⟩⟩
end
section
/-! what is asked: the points that meet all that is held -/
def od_Q (a1 a2 a3 : Nat → Int32) (h : Nat) (x y z : Int) : Prop := od_H a1 a2 a3 h x y z ∧ (-6 ≤ x ∧ x ≤ 6) ∧ (-6 ≤ y ∧ y ≤ 6) ∧ (-6 ≤ z ∧ z ≤ 6)
def od_E (a1 a2 a3 : Nat → Int32) (h : Nat) : Prop := ∃ x y z : Int, od_Q a1 a2 a3 h x y z
def od_Ev (a1 a2 a3 : Nat → Int32) (h v : Nat) (t : Int) : Prop := ∃ x y z : Int, od_Q a1 a2 a3 h x y z ∧ od_co v x y z = t
/-- the same with what is fixed -/
def od_So (a1 a2 a3 : Nat → Int32) (h : Nat) (a8 : Nat → Int32) : Prop := ∃ x y z : Int, od_H a1 a2 a3 h x y z ∧ od_X a8 x y z
theorem od_rg {t : Int32} (h : -6 ≤ t.toInt ∧ t.toInt ≤ 6) : ¬ t = 100 := by
  intro e
  have t2 : t.toInt = (100 : Int32).toInt := by rw [e]
  have t3 : (100 : Int32).toInt = 100 := rfl
  omega
theorem od_bx6 {a8 : Nat → Int32} {v : Nat} {t : Int} (h8 : od_X8 a8) (hv : v < 3) (h : od_bx a8 v t) : -6 ≤ t ∧ t ≤ 6 := by
  unfold od_bx at h
  by_cases e : a8 v = 100
  · rw [if_pos e, if_pos e] at h; exact h
  · rw [if_neg e, if_neg e] at h
    have := (h8 v hv).resolve_left e
    omega
theorem od_bx100 {a8 : Nat → Int32} {v : Nat} {t : Int} (e : a8 v = 100) : od_bx a8 v t ↔ (-6 ≤ t ∧ t ≤ 6) := by
  unfold od_bx
  rw [if_pos e, if_pos e]
theorem od_bxt {a8 : Nat → Int32} {v : Nat} {t : Int} (e : ¬ a8 v = 100) : od_bx a8 v t ↔ t = (a8 v).toInt := by
  unfold od_bx
  rw [if_neg e, if_neg e]
  omega
theorem od_Xco {a8 : Nat → Int32} {x y z : Int} : od_X a8 x y z ↔ ∀ v, v < 3 → od_bx a8 v (od_co v x y z) := by
  constructor
  · intro t v hv
    have hv3 : v = 0 ∨ v = 1 ∨ v = 2 := by omega
    rcases hv3 with rfl | rfl | rfl
    · exact t.1
    · exact t.2.1
    · exact t.2.2
  · intro t
    exact ⟨t 0 (by omega), t 1 (by omega), t 2 (by omega)⟩
theorem od_co6 {x y z : Int} {v : Nat} (hv : v < 3) (h : (-6 ≤ x ∧ x ≤ 6) ∧ (-6 ≤ y ∧ y ≤ 6) ∧ (-6 ≤ z ∧ z ≤ 6)) : -6 ≤ od_co v x y z ∧ od_co v x y z ≤ 6 := by
  have hv3 : v = 0 ∨ v = 1 ∨ v = 2 := by omega
  rcases hv3 with rfl | rfl | rfl
  · exact h.1
  · exact h.2.1
  · exact h.2.2
theorem od_Xbox {a8 : Nat → Int32} {x y z : Int} (h8 : od_X8 a8) (h : od_X a8 x y z) : (-6 ≤ x ∧ x ≤ 6) ∧ (-6 ≤ y ∧ y ≤ 6) ∧ (-6 ≤ z ∧ z ≤ 6) :=
  ⟨od_bx6 h8 (by omega) h.1, od_bx6 h8 (by omega) h.2.1, od_bx6 h8 (by omega) h.2.2⟩
theorem od_X8f {a8 : Nat → Int32} (h : ∀ v, v < 3 → a8 v = 100) : od_X8 a8 := fun v hv => Or.inl (h v hv)
theorem od_X8u {a8 : Nat → Int32} {w : Nat} {t : Int32} (h : od_X8 a8) (ht : t = 100 ∨ (-6 ≤ t.toInt ∧ t.toInt ≤ 6)) : od_X8 (upd a8 w t) := by
  intro v hv
  by_cases e : v = w
  · rw [e, pk_us]; exact ht
  · rw [pk_un e]; exact h v hv
theorem od_SoE {a1 a2 a3 a8 : Nat → Int32} {h : Nat} (h8 : od_X8 a8) (s : od_So a1 a2 a3 h a8) : od_E a1 a2 a3 h := by
  obtain ⟨x, y, z, t1, t2⟩ := s
  exact ⟨x, y, z, t1, od_Xbox h8 t2⟩
theorem od_ESo {a1 a2 a3 a8 : Nat → Int32} {h : Nat} (h8 : ∀ v, v < 3 → a8 v = 100) (s : od_E a1 a2 a3 h) : od_So a1 a2 a3 h a8 := by
  obtain ⟨x, y, z, t1, t2⟩ := s
  exact ⟨x, y, z, t1, od_Xco.mpr (fun v hv => (od_bx100 (h8 v hv)).mpr (od_co6 hv t2))⟩
theorem od_SoEv {a1 a2 a3 a8 : Nat → Int32} {h v : Nat} (h8 : od_X8 a8) (hv : v < 3) (e : ¬ a8 v = 100) (s : od_So a1 a2 a3 h a8) : od_Ev a1 a2 a3 h v (a8 v).toInt := by
  obtain ⟨x, y, z, t1, t2⟩ := s
  exact ⟨x, y, z, ⟨t1, od_Xbox h8 t2⟩, (od_bxt e).mp (od_Xco.mp t2 v hv)⟩
theorem od_EvSo {a1 a2 a3 a8 : Nat → Int32} {h v : Nat} {t : Int32} (h8 : ∀ v, v < 3 → a8 v = 100) (ht : -6 ≤ t.toInt ∧ t.toInt ≤ 6) (s : od_Ev a1 a2 a3 h v t.toInt) : od_So a1 a2 a3 h (upd a8 v t) := by
  obtain ⟨x, y, z, ⟨t1, t2⟩, t3⟩ := s
  refine ⟨x, y, z, t1, od_Xco.mpr (fun w hw => ?_)⟩
  by_cases e : w = v
  · subst e
    rw [od_bxt (by rw [pk_us]; exact od_rg ht), pk_us]
    exact t3
  · rw [od_bx100 (by rw [pk_un e]; exact h8 w hw)]
    exact od_co6 hw t2
theorem od_of {t : Int} (h : -6 ≤ t ∧ t ≤ 6) : ∃ s : Int32, s.toInt = t := ⟨Int32.ofInt t, Int32.toInt_ofInt_of_le (by omega) (by omega)⟩
theorem od_SoStep {a1 a2 a3 a8 : Nat → Int32} {h v : Nat} (h8 : od_X8 a8) (hv : v < 3) (s : od_So a1 a2 a3 h a8) : ∃ t : Int32, (-6 ≤ t.toInt ∧ t.toInt ≤ 6) ∧ od_So a1 a2 a3 h (upd a8 v t) := by
  obtain ⟨x, y, z, t1, t2⟩ := s
  have hb := od_co6 hv (od_Xbox h8 t2)
  obtain ⟨t, ht⟩ := od_of hb
  refine ⟨t, by omega, x, y, z, t1, od_Xco.mpr (fun w hw => ?_)⟩
  by_cases e : w = v
  · subst e
    rw [od_bxt (by rw [pk_us]; exact od_rg (by omega)), pk_us]
    exact ht.symm
  · have q := od_Xco.mp t2 w hw
    unfold od_bx at q ⊢
    rw [pk_un e]
    exact q
/-! the questions -/
theorem od_pos01 {r : Int32} {P : Prop} {φ : Int32 → Prop} (hr : r = 0 ∨ r = 1) (hp : r = 1 ↔ P) (H : ∀ s : Int32, (s = 0 ∨ s = 1) → (s = 1 ↔ P) → φ s) : (r = 0 → φ 0) ∧ (¬ r = 0 → φ 1) := by
  refine br_c (fun e => ?_) (fun e => ?_)
  · rw [e] at hr hp
    exact H 0 hr hp
  · have e1 := hr.resolve_left e
    rw [e1] at hr hp
    exact H 1 hr hp
theorem od_possible {post : Int32 → St1 → Prop} {fr ff : Int32} {a1 a2 a3 a4 a5 a6 a7 a8 : Nat → Int32} {h : Nat} (hh : h ≤ 8) (hHB : od_HB a1 a2 a3 h)
    (H : ∀ (r fr' ff' : Int32) (a4' a5' a6' a7' a8' : Nat → Int32), (r = 0 ∨ r = 1) → (r = 1 ↔ od_E a1 a2 a3 h) → post r (nI h, fr', ff', -1, a1, a2, a3, a4', a5', a6', a7', a8')) :
    wpX_possible post (nI h, fr, ff, -1, a1, a2, a3, a4, a5, a6, a7, a8) := by
  unfold wpX_possible
  refine od_free (fun b8 h8 => od_collect hh hHB (od_X8f h8) (fun m b4 b5 hm s1 s2 s3 => od_solvable (by omega) s1 s3 (fun x y z t => od_Xbox (od_X8f h8) ((s2 x y z).mp t).2) (fun r ff' b6 b7 hr hp => ?_)))
  refine od_pos01 (φ := fun r => post r (nI h, nI m, ff', -1, a1, a2, a3, b4, b5, b6, b7, b8)) hr (hp.trans ⟨?_, ?_⟩) (fun s q0 q1 => H s _ _ _ _ _ _ _ q0 q1)
  · rintro ⟨x, y, z, t⟩
    exact od_SoE (od_X8f h8) ⟨x, y, z, (s2 x y z).mp t⟩
  · intro t
    obtain ⟨x, y, z, t⟩ := od_ESo h8 t
    exact ⟨x, y, z, (s2 x y z).mpr t⟩
theorem od_lv23 {post : Int32 → St1 → Prop} {J : Int32 → Int32 → Int32 → Int32 → Int32 → (Nat → Int32) → (Nat → Int32) → (Nat → Int32) → (Nat → Int32) → (Nat → Int32) → (Nat → Int32) → (Nat → Int32) → (Nat → Int32) → Prop} {gr z0 fr ff : Int32} {a1 a2 a3 a4 a5 a6 a7 a8 : Nat → Int32} {h v i : Nat} (hh : h ≤ 8) (hHB : od_HB a1 a2 a3 h) (hv : v < 3) (h8 : od_X8 (upd a8 v z0))
    (HJ : ¬ od_So a1 a2 a3 h (upd a8 v z0) → ∀ (fr' ff' : Int32) (a4' a5' a6' a7' : Nat → Int32), J (nI (i + 1)) (nI h) fr' ff' (-1) a1 a2 a3 a4' a5' a6' a7' (upd a8 v z0))
    (HP : od_So a1 a2 a3 h (upd a8 v z0) → ∀ (fr' ff' : Int32) (a4' a5' a6' a7' : Nat → Int32), post z0 (nI h, fr', ff', -1, a1, a2, a3, a4', a5', a6', a7', upd a8 v 100)) :
    wX_leastValue_23 post J (nI v) gr (nI i) z0 (nI h) fr ff (-1) a1 a2 a3 a4 a5 a6 a7 a8 := by
  unfold wX_leastValue_23
  refine ⟨pk_in v 3 hv, nm_r (e' := upd a8 v z0) (by rw [nI_clamp (by omega)]) (od_collect hh hHB h8 (fun m b4 b5 hm s1 s2 s3 => od_solvable (by omega) s1 s3 (fun x y z t => od_Xbox h8 ((s2 x y z).mp t).2) (fun r ff' b6 b7 hr hp => br_c (fun e => nm_r (nI_1 i) (HJ (fun t => ?_) _ _ _ _ _ _)) (fun e => ⟨pk_in v 3 hv, nm_r (e' := upd a8 v 100) (by rw [nI_clamp (by omega), od_upup]) (HP ?_ _ _ _ _ _ _)⟩))))⟩
  · obtain ⟨x, y, z, t⟩ := t
    have := hp.mpr ⟨x, y, z, (s2 x y z).mpr t⟩
    rw [e] at this
    exact absurd this (by decide)
  · obtain ⟨x, y, z, t⟩ := hp.mp (hr.resolve_left e)
    exact ⟨x, y, z, (s2 x y z).mp t⟩
theorem od_wI {i : Nat} (h : i < 1000) : (6 - nI i).toInt = 6 - (i : Int) := by
  have e : (6 : Int32).toInt = 6 := rfl
  rw [od_sub (by rw [nI_toInt (by omega), e]; omega) (by rw [nI_toInt (by omega), e]; omega), nI_toInt (by omega), e]
/-- the order in which values are tried -/
def od_va (gr : Int32) (i : Nat) : Int32 := if gr = 0 then nI i - 6 else 6 - nI i
theorem od_vaI {gr : Int32} {i : Nat} (h : i < 13) : -6 ≤ (od_va gr i).toInt ∧ (od_va gr i).toInt ≤ 6 := by
  unfold od_va
  by_cases e : gr = 0
  · rw [if_pos e, od_zI (by omega)]; omega
  · rw [if_neg e, od_wI (by omega)]; omega
theorem od_vaof {gr s : Int32} (h : -6 ≤ s.toInt ∧ s.toInt ≤ 6) : ∃ i, i < 13 ∧ s = od_va gr i := by
  unfold od_va
  by_cases e : gr = 0
  · refine ⟨(s.toInt + 6).toNat, by omega, ?_⟩
    rw [if_pos e]
    apply Int32.toInt_inj.mp
    rw [od_zI (by omega)]
    omega
  · refine ⟨(6 - s.toInt).toNat, by omega, ?_⟩
    rw [if_neg e]
    apply Int32.toInt_inj.mp
    rw [od_wI (by omega)]
    omega
theorem od_vale {gr : Int32} {i j : Nat} (hi : i ≤ j) (hj : j < 13) : (gr = 0 → (od_va gr i).toInt ≤ (od_va gr j).toInt) ∧ (¬ gr = 0 → (od_va gr j).toInt ≤ (od_va gr i).toInt) := by
  unfold od_va
  refine ⟨fun e => ?_, fun e => ?_⟩
  · rw [if_pos e, if_pos e, od_zI (by omega), od_zI (by omega)]; omega
  · rw [if_neg e, if_neg e, od_wI (by omega), od_wI (by omega)]; omega
theorem od_leastValue {post : Int32 → St1 → Prop} {gr fr ff : Int32} {a1 a2 a3 a4 a5 a6 a7 a8 : Nat → Int32} {h v : Nat} (hh : h ≤ 8) (hHB : od_HB a1 a2 a3 h) (hv : v < 3) (h8 : od_X8 a8)
    (H1 : ∀ (t fr' ff' : Int32) (a4' a5' a6' a7' : Nat → Int32), (-6 ≤ t.toInt ∧ t.toInt ≤ 6) → od_So a1 a2 a3 h (upd a8 v t) → (∀ s : Int32, (-6 ≤ s.toInt ∧ s.toInt ≤ 6) → od_So a1 a2 a3 h (upd a8 v s) → (gr = 0 → t.toInt ≤ s.toInt) ∧ (¬ gr = 0 → s.toInt ≤ t.toInt)) → post t (nI h, fr', ff', -1, a1, a2, a3, a4', a5', a6', a7', upd a8 v 100))
    (H0 : ∀ (fr' ff' : Int32) (a4' a5' a6' a7' : Nat → Int32), (∀ s : Int32, (-6 ≤ s.toInt ∧ s.toInt ≤ 6) → ¬ od_So a1 a2 a3 h (upd a8 v s)) → post 100 (nI h, fr', ff', -1, a1, a2, a3, a4', a5', a6', a7', upd a8 v 100)) :
    wpX_leastValue post (nI h, fr, ff, -1, a1, a2, a3, a4, a5, a6, a7, a8) (nI v) gr := by
  refine pk_loop (σ := Int32 × Int32 × (Nat → Int32) × (Nat → Int32) × (Nat → Int32) × (Nat → Int32) × (Nat → Int32)) (fun k i s => wX_leastValue_2 post (nI v) gr k (nI i) (nI h) s.1 s.2.1 (-1) a1 a2 a3 s.2.2.1 s.2.2.2.1 s.2.2.2.2.1 s.2.2.2.2.2.1 s.2.2.2.2.2.2)
    (fun i s => (∀ x : Int32, upd s.2.2.2.2.2.2 v x = upd a8 v x) ∧ ∀ j, j < i → ¬ od_So a1 a2 a3 h (upd a8 v (od_va gr j))) 13 0 (fr, ff, a4, a5, a6, a7, a8) (by omega) ⟨fun x => rfl, fun j hj => absurd hj (by omega)⟩ ?_ ?_
  · rintro k ⟨fr', ff', b4, b5, b6, b7, b8⟩ ⟨g1, g2⟩
    dsimp only at g1
    show wX_leastValue_2 post (nI v) gr (k + 1) (nI 13) (nI h) fr' ff' (-1) a1 a2 a3 b4 b5 b6 b7 b8
    refine pk_le 13 13 (fun _ => ⟨pk_in v 3 hv, nm_r (e' := upd a8 v 100) (by rw [nI_clamp (by omega), g1]) (H0 _ _ _ _ _ _ (fun s hs t => ?_))⟩) (fun z => absurd z (by omega))
    obtain ⟨j, hj, e⟩ := od_vaof (gr := gr) hs
    rw [e] at t
    exact g2 j hj t
  · rintro k i ⟨fr', ff', b4, b5, b6, b7, b8⟩ hi ⟨g1, g2⟩ hw
    dsimp only at g1
    show wX_leastValue_2 post (nI v) gr (k + 1) (nI i) (nI h) fr' ff' (-1) a1 a2 a3 b4 b5 b6 b7 b8
    have key : ∀ z0 : Int32, z0 = od_va gr i → wX_leastValue_23 post (wX_leastValue_2 post (nI v) gr k) (nI v) gr (nI i) z0 (nI h) fr' ff' (-1) a1 a2 a3 b4 b5 b6 b7 b8 := by
      intro z0 hz
      have hr := od_vaI (gr := gr) hi
      rw [← hz] at hr
      refine od_lv23 hh hHB hv (by rw [g1]; exact od_X8u h8 (Or.inr hr)) (fun t fr2 ff2 c4 c5 c6 c7 => hw (fr2, ff2, c4, c5, c6, c7, upd b8 v z0) ⟨fun x => ?_, fun j hj => ?_⟩) (fun t fr2 ff2 c4 c5 c6 c7 => ?_)
      · show upd (upd b8 v z0) v x = _
        rw [od_upup]; exact g1 x
      · by_cases e : j = i
        · rw [e, ← hz, ← g1]; exact t
        · exact g2 j (by omega)
      · rw [g1] at t ⊢
        refine H1 z0 fr2 ff2 c4 c5 c6 c7 hr t (fun s hs t2 => ?_)
        obtain ⟨j, hj, e⟩ := od_vaof (gr := gr) hs
        rcases Nat.lt_or_ge j i with l | l
        · rw [e] at t2
          exact absurd t2 (g2 j l)
        · rw [e, hz]
          exact od_vale l hj
    refine pk_le 13 i (fun z => absurd z (by omega)) (fun _ => br_c (fun e => key _ ?_) (fun e => key _ ?_))
    · unfold od_va; rw [if_pos e]
    · unfold od_va; rw [if_neg e]
theorem od_extreme {post : Int32 → St1 → Prop} {gr fr ff : Int32} {a1 a2 a3 a4 a5 a6 a7 a8 : Nat → Int32} {h v : Nat} (hh : h ≤ 8) (hHB : od_HB a1 a2 a3 h) (hv : v < 3)
    (H1 : ∀ (t fr' ff' : Int32) (a4' a5' a6' a7' a8' : Nat → Int32), (-6 ≤ t.toInt ∧ t.toInt ≤ 6) → od_Ev a1 a2 a3 h v t.toInt → (∀ s : Int, od_Ev a1 a2 a3 h v s → (gr = 0 → t.toInt ≤ s) ∧ (¬ gr = 0 → s ≤ t.toInt)) → post t (nI h, fr', ff', -1, a1, a2, a3, a4', a5', a6', a7', a8'))
    (H0 : ∀ (fr' ff' : Int32) (a4' a5' a6' a7' a8' : Nat → Int32), ¬ od_E a1 a2 a3 h → post 100 (nI h, fr', ff', -1, a1, a2, a3, a4', a5', a6', a7', a8')) :
    wpX_extreme post (nI h, fr, ff, -1, a1, a2, a3, a4, a5, a6, a7, a8) (nI v) gr := by
  unfold wpX_extreme
  refine pk_lt v 0 (fun z => absurd z (by omega)) (fun _ => pk_le v 2 (fun _ => od_free (fun b8 h8 => od_leastValue hh hHB hv (od_X8f h8) (fun t fr2 ff2 c4 c5 c6 c7 g1 g2 g3 => H1 t fr2 ff2 c4 c5 c6 c7 _ g1 ?_ (fun s hs => ?_)) (fun fr2 ff2 c4 c5 c6 c7 g1 => H0 fr2 ff2 c4 c5 c6 c7 _ (fun t => ?_)))) (fun z => absurd z (by omega)))
  · have q := od_SoEv (v := v) (od_X8u (od_X8f h8) (Or.inr g1)) hv (by rw [pk_us]; exact od_rg g1) g2
    rw [pk_us] at q
    exact q
  · have hs2 : -6 ≤ s ∧ s ≤ 6 := by
      obtain ⟨x, y, z, q, e⟩ := hs
      rw [← e]
      exact od_co6 hv q.2
    obtain ⟨s', e⟩ := od_of hs2
    rw [← e] at hs hs2 ⊢
    exact g3 s' hs2 (od_EvSo h8 hs2 hs)
  · obtain ⟨s, hs, q⟩ := od_SoStep (od_X8f h8) hv (od_ESo h8 t)
    exact g1 s hs q
theorem od_with {post : Int32 → St1 → Prop} {fr ff f : Int32} {a1 a2 a3 a4 a5 a6 a7 a8 : Nat → Int32} {h v : Nat} (hh : h ≤ 8) (hHB : od_HB a1 a2 a3 h) (hv : v < 3) (hf : -6 ≤ f.toInt ∧ f.toInt ≤ 6) (hE : od_Ev a1 a2 a3 h v f.toInt)
    (H : ∀ (fr' ff' : Int32) (a4' a5' a6' a7' a8' : Nat → Int32), post 1 (nI h, fr', ff', -1, a1, a2, a3, a4', a5', a6', a7', a8')) :
    wpX_with post (nI h, fr, ff, -1, a1, a2, a3, a4, a5, a6, a7, a8) (nI v) f := by
  unfold wpX_with
  refine pk_lt v 0 (fun z => absurd z (by omega)) (fun _ => pk_lt 2 v (fun z => absurd z (by omega)) (fun _ => od_lt _ (-6) rfl rfl (fun z => absurd z (by omega)) (fun _ => od_le _ 6 rfl rfl (fun _ => od_free (fun b8 h8 => ⟨pk_in v 3 hv, nm_r (e' := upd b8 v f) (by rw [nI_clamp (by omega)]) ?_⟩)) (fun z => absurd z (by omega)))))
  have h8' := od_X8u (w := v) (od_X8f h8) (Or.inr hf)
  refine od_collect hh hHB h8' (fun m b4 b5 hm s1 s2 s3 => od_solvable (by omega) s1 s3 (fun x y z t => od_Xbox h8' ((s2 x y z).mp t).2) (fun r ff' b6 b7 hr hp => br_f (fun e => ?_) (H _ _ _ _ _ _ _)))
  obtain ⟨x, y, z, t⟩ := od_EvSo h8 hf hE
  have := hp.mpr ⟨x, y, z, (s2 x y z).mpr t⟩
  rw [e] at this
  exact absurd this (by decide)
end
section
/-! the first point, and the law's two helpers -/
theorem od_EvE {a1 a2 a3 : Nat → Int32} {h v : Nat} {t : Int} (s : od_Ev a1 a2 a3 h v t) : od_E a1 a2 a3 h := by
  obtain ⟨x, y, z, q, _⟩ := s
  exact ⟨x, y, z, q⟩
theorem od_first {post : Int32 → St1 → Prop} {fr ff : Int32} {a1 a2 a3 a4 a5 a6 a7 a8 : Nat → Int32} {h p : Nat} (hh : h ≤ 8) (hHB : od_HB a1 a2 a3 h) (hp : p < 3)
    (H1 : ∀ (t fr' ff' : Int32) (a4' a5' a6' a7' a8' : Nat → Int32), (-6 ≤ t.toInt ∧ t.toInt ≤ 6) → od_Ev a1 a2 a3 h p t.toInt → post t (nI h, fr', ff', -1, a1, a2, a3, a4', a5', a6', a7', a8'))
    (H0 : ∀ (fr' ff' : Int32) (a4' a5' a6' a7' a8' : Nat → Int32), ¬ od_E a1 a2 a3 h → post 100 (nI h, fr', ff', -1, a1, a2, a3, a4', a5', a6', a7', a8')) :
    wpX_first post (nI h, fr, ff, -1, a1, a2, a3, a4, a5, a6, a7, a8) (nI p) := by
  unfold wpX_first
  refine pk_lt p 0 (fun z => absurd z (by omega)) (fun _ => pk_le p 2 (fun _ => od_free (fun b8 h8 => ?_)) (fun z => absurd z (by omega)))
  by_cases hE : od_E a1 a2 a3 h
  · refine pk_loop (σ := Int32 × Int32 × (Nat → Int32) × (Nat → Int32) × (Nat → Int32) × (Nat → Int32) × (Nat → Int32)) (fun k i s => wX_first_18 post (nI p) k (nI i) (nI h) s.1 s.2.1 (-1) a1 a2 a3 s.2.2.1 s.2.2.2.1 s.2.2.2.2.1 s.2.2.2.2.2.1 s.2.2.2.2.2.2)
      (fun i s => od_X8 s.2.2.2.2.2.2 ∧ od_So a1 a2 a3 h s.2.2.2.2.2.2 ∧ ∀ v, v < i → -6 ≤ (s.2.2.2.2.2.2 v).toInt ∧ (s.2.2.2.2.2.2 v).toInt ≤ 6) (p + 1) 0 (fr, ff, a4, a5, a6, a7, b8) (by omega) ⟨od_X8f h8, od_ESo h8 hE, fun v hv => absurd hv (by omega)⟩ ?_ ?_
    · rintro k ⟨fr', ff', b4, b5, b6, b7, c8⟩ ⟨g1, g2, g3⟩
      dsimp only at g1 g2 g3
      show wX_first_18 post (nI p) (k + 1) (nI (p + 1)) (nI h) fr' ff' (-1) a1 a2 a3 b4 b5 b6 b7 c8
      refine pk_lt p (p + 1) (fun _ => ⟨pk_in p 3 hp, ?_⟩) (fun z => absurd z (by omega))
      rw [nI_clamp (n := p) (by omega)]
      exact H1 _ _ _ _ _ _ _ _ (g3 p (by omega)) (od_SoEv g1 hp (od_rg (g3 p (by omega))) g2)
    · rintro k i ⟨fr', ff', b4, b5, b6, b7, c8⟩ hi ⟨g1, g2, g3⟩ hw
      dsimp only at g1 g2 g3
      show wX_first_18 post (nI p) (k + 1) (nI i) (nI h) fr' ff' (-1) a1 a2 a3 b4 b5 b6 b7 c8
      refine pk_lt p i (fun z => absurd z (by omega)) (fun _ => od_leastValue hh hHB (v := i) (by omega) g1 (fun t fr2 ff2 c4 c5 c6 c7 k1 k2 k3 => br_f (od_rg k1) ⟨pk_in i 3 (by omega), nm_r (e' := upd c8 i t) (by rw [nI_clamp (by omega), od_upup]) (nm_r (nI_1 i) (hw (fr2, ff2, c4, c5, c6, c7, upd c8 i t) ⟨od_X8u g1 (Or.inr k1), k2, fun v hv => ?_⟩))⟩) (fun fr2 ff2 c4 c5 c6 c7 k1 => ?_))
      · show -6 ≤ (upd c8 i t v).toInt ∧ (upd c8 i t v).toInt ≤ 6
        by_cases e : v = i
        · rw [e, pk_us]; exact k1
        · rw [pk_un e]; exact g3 v (by omega)
      · obtain ⟨s, hs, q⟩ := od_SoStep (v := i) g1 (by omega) g2
        exact absurd q (k1 s hs)
  · refine ⟨0 + 1, pk_lt p 0 (fun z => absurd z (by omega)) (fun _ => od_leastValue (v := 0) hh hHB (by omega) (od_X8f h8) (fun t fr2 ff2 c4 c5 c6 c7 k1 k2 k3 => ?_) (fun fr2 ff2 c4 c5 c6 c7 k1 => br_t rfl (H0 _ _ _ _ _ _ _ hE)))⟩
    exact absurd (od_SoE (od_X8u (od_X8f h8) (Or.inr k1)) k2) hE
theorem od_h46 {post : Int32 → St1 → Prop} {x1 fr ff : Int32} {a1 a2 a3 a4 a5 a6 a7 a8 : Nat → Int32} {h : Nat} (hh : h ≤ 8) (hHB : od_HB a1 a2 a3 h) (h01 : x1 = 0 ∨ x1 = 1) (hx : x1 = 1 ↔ od_E a1 a2 a3 h)
    (H : ∀ (fr' ff' : Int32) (a4' a5' a6' a7' a8' : Nat → Int32), post 1 (nI h, fr', ff', -1, a1, a2, a3, a4', a5', a6', a7', a8')) :
    ∃ k, wL_holds_46 post x1 k 0 (nI h) fr ff (-1) a1 a2 a3 a4 a5 a6 a7 a8 := by
  refine pk_loop (σ := Int32 × Int32 × (Nat → Int32) × (Nat → Int32) × (Nat → Int32) × (Nat → Int32) × (Nat → Int32)) (fun k i s => wL_holds_46 post x1 k (nI i) (nI h) s.1 s.2.1 (-1) a1 a2 a3 s.2.2.1 s.2.2.2.1 s.2.2.2.2.1 s.2.2.2.2.2.1 s.2.2.2.2.2.2)
    (fun _ _ => True) 3 0 (fr, ff, a4, a5, a6, a7, a8) (by omega) trivial ?_ ?_
  · rintro k ⟨fr', ff', b4, b5, b6, b7, b8⟩ _
    exact pk_le 3 3 (fun _ => H _ _ _ _ _ _ _) (fun z => absurd z (by omega))
  · rintro k i ⟨fr', ff', b4, b5, b6, b7, b8⟩ hi _ hw
    show wL_holds_46 post x1 (k + 1) (nI i) (nI h) fr' ff' (-1) a1 a2 a3 b4 b5 b6 b7 b8
    refine pk_le 3 i (fun z => absurd z (by omega)) (fun _ => ?_)
    by_cases hE : od_E a1 a2 a3 h
    · refine od_first hh hHB hi (fun t fr2 ff2 c4 c5 c6 c7 c8 t1 t2 => od_extreme hh hHB hi (fun l fr3 ff3 d4 d5 d6 d7 d8 l1 l2 l3 => od_extreme hh hHB hi (fun g fr4 ff4 e4 e5 e6 e7 e8 g1 g2 g3 => br_t (hx.mpr hE) ?_) (fun fr4 ff4 e4 e5 e6 e7 e8 ne => absurd hE ne)) (fun fr3 ff3 d4 d5 d6 d7 d8 ne => absurd hE ne)) (fun fr2 ff2 c4 c5 c6 c7 c8 ne => absurd hE ne)
      have q1 := (l3 _ t2).1 rfl
      have q2 := (g3 _ t2).2 (by decide)
      exact od_lt _ _ rfl rfl (fun z => absurd z (by omega)) (fun _ => od_lt _ _ rfl rfl (fun z => absurd z (by omega)) (fun _ => od_lt _ (-6) rfl rfl (fun z => absurd z (by omega)) (fun _ => od_lt 6 _ rfl rfl (fun z => absurd z (by omega)) (fun _ => od_with hh hHB hi t1 t2 (fun fr5 ff5 j4 j5 j6 j7 j8 => br_t rfl (nm_r (nI_1 i) (hw (fr5, ff5, j4, j5, j6, j7, j8) trivial)))))))
    · have x0 : ¬ x1 = 1 := fun e => hE (hx.mp e)
      exact od_first hh hHB hi (fun t fr2 ff2 c4 c5 c6 c7 c8 t1 t2 => absurd (od_EvE t2) hE) (fun fr2 ff2 c4 c5 c6 c7 c8 _ => od_extreme hh hHB hi (fun l fr3 ff3 d4 d5 d6 d7 d8 l1 l2 l3 => absurd (od_EvE l2) hE) (fun fr3 ff3 d4 d5 d6 d7 d8 _ => od_extreme hh hHB hi (fun g fr4 ff4 e4 e5 e6 e7 e8 g1 g2 g3 => absurd (od_EvE g2) hE) (fun fr4 ff4 e4 e5 e6 e7 e8 _ => br_f x0 (br_t rfl (br_t rfl (br_t rfl (nm_r (nI_1 i) (hw (fr4, ff4, e4, e5, e6, e7, e8) trivial))))))))
theorem od_h30 {post : Int32 → St1 → Prop} {x1 z0 z1 fr ff : Int32} {a1 a2 a3 a4 a5 a6 a7 a8 : Nat → Int32} {h : Nat} (hh : h ≤ 8) (hHB : od_HB a1 a2 a3 h) (h01 : x1 = 0 ∨ x1 = 1) (hx : x1 = 1 ↔ od_E a1 a2 a3 h) (hz : z1 = z0)
    (H : ∀ (fr' ff' : Int32) (a4' a5' a6' a7' a8' : Nat → Int32), post 1 (nI h, fr', ff', -1, a1, a2, a3, a4', a5', a6', a7', a8')) :
    wL_holds_30 post x1 z0 z1 (nI h) fr ff (-1) a1 a2 a3 a4 a5 a6 a7 a8 := by
  unfold wL_holds_30
  have b : 0 ≤ x1.toInt ∧ x1.toInt ≤ 1 := by
    rcases h01 with rfl | rfl <;> decide
  exact br_t hz (od_lt _ 0 rfl rfl (fun z => absurd z (by omega)) (fun _ => od_le _ 1 rfl rfl (fun _ => od_h46 hh hHB h01 hx H) (fun z => absurd z (by omega))))
theorem od_holds {post : Int32 → St1 → Prop} {fr ff : Int32} {a1 a2 a3 a4 a5 a6 a7 a8 : Nat → Int32} {h : Nat} (hh : h ≤ 8) (hHB : od_HB a1 a2 a3 h)
    (H : ∀ (fr' ff' : Int32) (a4' a5' a6' a7' a8' : Nat → Int32), post 1 (nI h, fr', ff', -1, a1, a2, a3, a4', a5', a6', a7', a8')) :
    wpL_holds post (nI h, fr, ff, -1, a1, a2, a3, a4, a5, a6, a7, a8) := by
  unfold wpL_holds
  refine od_possible hh hHB (fun r fr1 ff1 b4 b5 b6 b7 b8 hr hp => br_c (fun e => ?_) (fun e => ?_))
  · unfold wL_holds_15
    exact od_first (p := 0) hh hHB (by omega) (fun t fr2 ff2 c4 c5 c6 c7 c8 t1 t2 => br_f (od_rg t1) (od_h30 hh hHB hr hp rfl H)) (fun fr2 ff2 c4 c5 c6 c7 c8 ne => absurd (hp.mp e) ne)
  · unfold wL_holds_15
    exact od_first (p := 0) hh hHB (by omega) (fun t fr2 ff2 c4 c5 c6 c7 c8 t1 t2 => absurd (hp.mpr (od_EvE t2)) e) (fun fr2 ff2 c4 c5 c6 c7 c8 ne => br_t rfl (od_h30 hh hHB hr hp rfl H))
theorem od_areRight {post : Int32 → Prop} {u : St2} {p0 p1 p2 p3 : Int32} (b0 : -9 ≤ p0.toInt ∧ p0.toInt ≤ 9) (b1 : -9 ≤ p1.toInt ∧ p1.toInt ≤ 9) (b2 : -9 ≤ p2.toInt ∧ p2.toInt ≤ 9) (b3 : -99 ≤ p3.toInt ∧ p3.toInt ≤ 99) (H : post 1) : wpX_areRight post u p0 p1 p2 p3 :=
  od_lt _ (-9) rfl rfl (fun z => absurd z (by omega)) (fun _ => od_lt 9 _ rfl rfl (fun z => absurd z (by omega)) (fun _ => od_lt _ (-9) rfl rfl (fun z => absurd z (by omega)) (fun _ => od_lt 9 _ rfl rfl (fun z => absurd z (by omega)) (fun _ => od_lt _ (-9) rfl rfl (fun z => absurd z (by omega)) (fun _ => od_lt 9 _ rfl rfl (fun z => absurd z (by omega)) (fun _ => od_lt _ (-99) rfl rfl (fun z => absurd z (by omega)) (fun _ => od_lt 99 _ rfl rfl (fun z => absurd z (by omega)) (fun _ => H))))))))
/-- a point that breaks a condition -/
def od_W (a1 a2 a3 : Nat → Int32) (h : Nat) (a b c d : Int) : Prop := ∃ x y z : Int, od_Q a1 a2 a3 h x y z ∧ (-a) * x + (-b) * y + (-c) * z ≤ -d - 1
theorem od_follows {post : Int32 → St1 → Prop} {fr ff a b c d : Int32} {a1 a2 a3 a4 a5 a6 a7 a8 : Nat → Int32} {h : Nat} (hh : h ≤ 8) (hHB : od_HB a1 a2 a3 h) (b0 : -9 ≤ a.toInt ∧ a.toInt ≤ 9) (b1 : -9 ≤ b.toInt ∧ b.toInt ≤ 9) (b2 : -9 ≤ c.toInt ∧ c.toInt ≤ 9) (b3 : -99 ≤ d.toInt ∧ d.toInt ≤ 99)
    (H : ∀ (r fr' ff' : Int32) (a4' a5' a6' a7' a8' : Nat → Int32), (r = 0 ∨ r = 1) → (r = 0 ↔ od_W a1 a2 a3 h a.toInt b.toInt c.toInt d.toInt) → post r (nI h, fr', ff', -1, a1, a2, a3, a4', a5', a6', a7', a8')) :
    wpX_follows post (nI h, fr, ff, -1, a1, a2, a3, a4, a5, a6, a7, a8) a b c d := by
  unfold wpX_follows
  have o1 : (1 : Int32).toInt = 1 := rfl
  have n0 : (-a).toInt = -a.toInt := od_neg (by omega)
  have n1 : (-b).toInt = -b.toInt := od_neg (by omega)
  have n2 : (-c).toInt = -c.toInt := od_neg (by omega)
  have n3 : (-d).toInt = -d.toInt := od_neg (by omega)
  have n4 : (-d - 1).toInt = -d.toInt - 1 := by
    rw [od_sub (by rw [n3, o1]; omega) (by rw [n3, o1]; omega), n3, o1]
  refine od_areRight b0 b1 b2 b3 (br_f (by decide) (od_free (fun b8 h8 => od_collect hh hHB (od_X8f h8) (fun m b4 b5 hm s1 s2 s3 => od_put (by omega) s1 (by omega) (by omega) (by omega) (by omega) (fun c4 c5 t1 t2 t3 => od_solvable (by omega) t1 (t3 (Or.inl s3)) (fun x y z t => od_Xbox (od_X8f h8) ((s2 x y z).mp ((t2 x y z).mp t).1).2) (fun r ff' c6 c7 hr hp => ?_))))))
  have key : (∃ x y z : Int, od_S c4 c5 (m + 1) x y z) ↔ od_W a1 a2 a3 h a.toInt b.toInt c.toInt d.toInt := by
    constructor
    · rintro ⟨x, y, z, t⟩
      obtain ⟨t1, t4⟩ := (t2 x y z).mp t
      obtain ⟨t5, t6⟩ := (s2 x y z).mp t1
      rw [n0, n1, n2, n4] at t4
      exact ⟨x, y, z, ⟨t5, od_Xbox (od_X8f h8) t6⟩, t4⟩
    · rintro ⟨x, y, z, t, t4⟩
      refine ⟨x, y, z, (t2 x y z).mpr ⟨(s2 x y z).mpr ⟨t.1, od_Xco.mpr (fun v hv => (od_bx100 (h8 v hv)).mpr (od_co6 hv t.2))⟩, ?_⟩⟩
      rw [n0, n1, n2, n4]
      exact t4
  refine br_c (fun e => H 1 _ _ _ _ _ _ _ (Or.inr rfl) ⟨fun t => absurd t (by decide), fun t => ?_⟩) (fun e => H 0 _ _ _ _ _ _ _ (Or.inl rfl) ⟨fun _ => key.mp (hp.mp (hr.resolve_left e)), fun _ => rfl⟩)
  have := hp.mpr (key.mpr t)
  rw [e] at this
  exact absurd this (by decide)
theorem od_lfol {post : Int32 → St1 → Prop} {fr ff a b c d : Int32} {a1 a2 a3 a4 a5 a6 a7 a8 : Nat → Int32} {h : Nat} (hh : h ≤ 8) (hHB : od_HB a1 a2 a3 h) (b0 : -9 ≤ a.toInt ∧ a.toInt ≤ 9) (b1 : -9 ≤ b.toInt ∧ b.toInt ≤ 9) (b2 : -9 ≤ c.toInt ∧ c.toInt ≤ 9) (b3 : -99 ≤ d.toInt ∧ d.toInt ≤ 99)
    (H : ∀ (fr' ff' : Int32) (a4' a5' a6' a7' a8' : Nat → Int32), post 1 (nI h, fr', ff', -1, a1, a2, a3, a4', a5', a6', a7', a8')) :
    wpL_follows post (nI h, fr, ff, -1, a1, a2, a3, a4, a5, a6, a7, a8) a b c d := by
  unfold wpL_follows
  have o1 : (1 : Int32).toInt = 1 := rfl
  refine od_follows hh hHB b0 b1 b2 b3 (fun r fr1 ff1 b4 b5 b6 b7 b8 hr hp => ?_)
  have br : 0 ≤ r.toInt ∧ r.toInt ≤ 1 := by
    rcases hr with rfl | rfl <;> decide
  refine od_lt _ 0 rfl rfl (fun z => absurd z (by omega)) (fun _ => br_c (fun _ => H _ _ _ _ _ _ _) (fun e => od_le 99 _ rfl rfl (fun _ => H _ _ _ _ _ _ _) (fun z => ?_)))
  have n4 : (d + 1).toInt = d.toInt + 1 := by
    rw [od_add (by rw [o1]; omega) (by rw [o1]; omega), o1]
  refine od_follows hh hHB b0 b1 b2 (by rw [n4]; omega) (fun r2 fr2 ff2 c4 c5 c6 c7 c8 hr2 hp2 => br_t ?_ (H _ _ _ _ _ _ _))
  rcases hr2 with e2 | e2
  · obtain ⟨x, y, w, t, t4⟩ := hp2.mp e2
    rw [n4] at t4
    exact absurd (hp.mpr ⟨x, y, w, t, by omega⟩) e
  · exact e2
/-! conditions come and go -/
theorem od_addm {post : Int32 → St1 → Prop} {fr ff a b c d e : Int32} {a1 a2 a3 a4 a5 a6 a7 a8 : Nat → Int32} {h : Nat} (hh : h ≤ 8) (hHB : od_HB a1 a2 a3 h) (b0 : -9 ≤ a.toInt ∧ a.toInt ≤ 9) (b1 : -9 ≤ b.toInt ∧ b.toInt ≤ 9) (b2 : -9 ≤ c.toInt ∧ c.toInt ≤ 9) (b3 : -99 ≤ d.toInt ∧ d.toInt ≤ 99) (he : e = 0 ∨ e = 1)
    (H1 : h < 8 → ∀ a1' a2' a3' : Nat → Int32, od_HB a1' a2' a3' (h + 1) → (∀ x y z : Int, od_H a1' a2' a3' (h + 1) x y z → od_H a1 a2 a3 h x y z) → post (nI (h + 1)) (nI (h + 1), fr, ff, -1, a1', a2', a3', a4, a5, a6, a7, a8))
    (H0 : h = 8 → post (-1) (nI h, fr, ff, -1, a1, a2, a3, a4, a5, a6, a7, a8)) :
    wpX_add post (nI h, fr, ff, -1, a1, a2, a3, a4, a5, a6, a7, a8) a b c d e := by
  unfold wpX_add
  refine od_areRight b0 b1 b2 b3 (br_f (by decide) (pk_lt h 8 (fun z => ⟨pk_in (3 * h) 24 (by omega) (od_i0 h), nm_r (e' := upd a1 (3 * h) a) (by rw [od_c0 (by omega)]) ⟨pk_in (3 * h + 1) 24 (by omega) (od_i1 h), nm_r (e' := upd (upd a1 (3 * h) a) (3 * h + 1) b) (by rw [od_c1 (by omega)]) ⟨pk_in (3 * h + 2) 24 (by omega) (od_i2 h), nm_r (e' := upd (upd (upd a1 (3 * h) a) (3 * h + 1) b) (3 * h + 2) c) (by rw [od_c2 (by omega)]) ⟨pk_in h 8 z, nm_r (e' := upd a2 h d) (by rw [nI_clamp (by omega)]) ⟨pk_in h 8 z, nm_r (e' := upd a3 h e) (by rw [nI_clamp (by omega), od_vbool he]) (nm_r (nI_1 h) ?_)⟩⟩⟩⟩⟩) (fun z => H0 (by omega))))
  have en := od_Sn (a4 := a1) (a5 := a2) (n := h) (p := a) (q := b) (s := c) (e := d)
  have er : ∀ r, r < h → _ := fun r hr => od_Sr (a4 := a1) (a5 := a2) (n := h) (r := r) (p := a) (q := b) (s := c) (e := d) hr
  refine H1 z _ _ _ (fun r hr => ?_) (fun x y w t r hr => ?_)
  · by_cases g : r = h
    · subst g
      rw [en.1, en.2.1, en.2.2.1, en.2.2.2, pk_us]
      exact ⟨b0, b1, b2, b3, he⟩
    · have er := er r (by omega)
      rw [er.1, er.2.1, er.2.2.1, er.2.2.2, pk_un g]
      exact hHB r (by omega)
  · have t := t r (by omega)
    have er := er r hr
    rw [er.1, er.2.1, er.2.2.1, er.2.2.2, pk_un (show r ≠ h by omega)] at t
    exact t
/-- row j of the new is row i of the old -/
def od_row (a1 a2 a3 b1 b2 b3 : Nat → Int32) (j i : Nat) : Prop := b1 (3 * j) = a1 (3 * i) ∧ b1 (3 * j + 1) = a1 (3 * i + 1) ∧ b1 (3 * j + 2) = a1 (3 * i + 2) ∧ b2 j = a2 i ∧ b3 j = a3 i
theorem od_i3 (k c : Nat) : 3 * nI k + 3 + nI c = nI (3 * k + 3 + c) := by
  rw [od_i0, show nI (3 * k) + 3 = nI (3 * k + 3) from nI_add (3 * k) 3, nI_add]
theorem od_i4 (k c : Nat) : 3 * nI k + nI c = nI (3 * k + c) := by
  rw [od_i0, nI_add]
theorem od_d36 {post : Int32 → St1 → Prop} {J : Int32 → (Nat → Int32) → (Nat → Int32) → (Nat → Int32) → (Nat → Int32) → (Nat → Int32) → (Nat → Int32) → (Nat → Int32) → (Nat → Int32) → Prop} {fh fr ff fw : Int32} {a1 a2 a3 a4 a5 a6 a7 a8 : Nat → Int32} {k : Nat} (hk : k < 7) (h3 : a3 (k + 1) = 0 ∨ a3 (k + 1) = 1)
    (H : ∀ b1 : Nat → Int32, (∀ j, b1 j = if 3 * k ≤ j ∧ j < 3 * k + 3 then a1 (j + 3) else a1 j) → J (nI (k + 1)) b1 (upd a2 k (a2 (k + 1))) (upd a3 k (a3 (k + 1))) a4 a5 a6 a7 a8) :
    ∃ n, wX_drop_36 post J (nI k) fh fr ff fw n 0 a1 a2 a3 a4 a5 a6 a7 a8 := by
  refine pk_loop (fun n c s => wX_drop_36 post J (nI k) fh fr ff fw n (nI c) s a2 a3 a4 a5 a6 a7 a8) (fun c s => ∀ j, s j = if 3 * k ≤ j ∧ j < 3 * k + c then a1 (j + 3) else a1 j) 3 0 a1 (by omega) (fun j => by rw [if_neg (by omega)]) ?_ ?_
  · intro n s h
    refine pk_le 3 3 (fun _ => ⟨pk_in (k + 1) 8 (by omega) (nI_1 k), pk_in k 8 (by omega), nm_r (e' := upd a2 k (a2 (k + 1))) (by rw [nI_1, nI_clamp (by omega), nI_clamp (by omega)]) ⟨pk_in (k + 1) 8 (by omega) (nI_1 k), pk_in k 8 (by omega), nm_r (e' := upd a3 k (a3 (k + 1))) (by rw [nI_1, nI_clamp (by omega), nI_clamp (by omega), od_vbool h3]) (nm_r (nI_1 k) (H s h))⟩⟩) (fun z => absurd z (by omega))
  · intro n c s hc h hw
    refine pk_le 3 c (fun z => absurd z (by omega)) (fun _ => ⟨pk_in (3 * k + 3 + c) 24 (by omega) (od_i3 k c), pk_in (3 * k + c) 24 (by omega) (od_i4 k c), nm_r (e' := upd s (3 * k + c) (s (3 * k + 3 + c))) (by rw [od_i3, od_i4, nI_clamp (by omega), nI_clamp (by omega)]) (nm_r (nI_1 c) (hw _ (fun j => ?_)))⟩)
    by_cases e : j = 3 * k + c
    · rw [e, pk_us, h, if_neg (by omega), if_pos (by omega)]
      exact congrArg a1 (by omega)
    · rw [pk_un e, h]
      by_cases g : 3 * k ≤ j ∧ j < 3 * k + c
      · rw [if_pos g, if_pos (by omega)]
      · rw [if_neg g, if_neg (by omega)]
theorem od_drop {post : Int32 → St1 → Prop} {fr ff : Int32} {a1 a2 a3 a4 a5 a6 a7 a8 : Nat → Int32} {q p : Nat} (hp : p ≤ q) (hh : q + 1 ≤ 8) (hHB : od_HB a1 a2 a3 (q + 1))
    (H : ∀ a1' a2' a3' : Nat → Int32, od_HB a1' a2' a3' q → (∀ x y z : Int, od_H a1 a2 a3 (q + 1) x y z → od_H a1' a2' a3' q x y z) → post (nI q) (nI q, fr, ff, -1, a1', a2', a3', a4, a5, a6, a7, a8)) :
    wpX_drop post (nI (q + 1), fr, ff, -1, a1, a2, a3, a4, a5, a6, a7, a8) (nI p) := by
  unfold wpX_drop
  refine pk_lt p 0 (fun z => absurd z (by omega)) (fun _ => pk_lt p (q + 1) (fun _ => nm_r (nI_pred q) ?_) (fun z => absurd z (by omega)))
  refine pk_loop (σ := (Nat → Int32) × (Nat → Int32) × (Nat → Int32)) (fun n k s => wX_drop_26 post (nI q) fr ff (-1) n (nI k) s.1 s.2.1 s.2.2 a4 a5 a6 a7 a8)
    (fun k s => (∀ j, j < k → ∃ i, i < q + 1 ∧ od_row a1 a2 a3 s.1 s.2.1 s.2.2 j i) ∧ ∀ j, k ≤ j → j < q + 1 → od_row a1 a2 a3 s.1 s.2.1 s.2.2 j j) q p (a1, a2, a3) hp ⟨fun j hj => ⟨j, by omega, rfl, rfl, rfl, rfl, rfl⟩, fun j _ _ => ⟨rfl, rfl, rfl, rfl, rfl⟩⟩ ?_ ?_
  · rintro n ⟨b1, b2, b3⟩ ⟨g1, g2⟩
    dsimp only at g1 g2
    show wX_drop_26 post (nI q) fr ff (-1) (n + 1) (nI q) b1 b2 b3 a4 a5 a6 a7 a8
    refine pk_le q q (fun _ => H b1 b2 b3 (fun j hj => ?_) (fun x y z t j hj => ?_)) (fun z => absurd z (by omega))
    · obtain ⟨i, hi, e1, e2, e3, e4, e5⟩ := g1 j hj
      rw [e1, e2, e3, e4, e5]
      exact hHB i hi
    · obtain ⟨i, hi, e1, e2, e3, e4, e5⟩ := g1 j hj
      rw [e1, e2, e3, e4, e5]
      exact t i hi
  · rintro n k ⟨b1, b2, b3⟩ hk ⟨g1, g2⟩ hw
    dsimp only at g1 g2
    show wX_drop_26 post (nI q) fr ff (-1) (n + 1) (nI k) b1 b2 b3 a4 a5 a6 a7 a8
    obtain ⟨r1, r2, r3, r4, r5⟩ := g2 (k + 1) (by omega) (by omega)
    refine pk_le q k (fun z => absurd z (by omega)) (fun _ => od_d36 (by omega) (by rw [r5]; exact (hHB (k + 1) (by omega)).2.2.2.2) (fun c1 hc => hw (c1, upd b2 k (b2 (k + 1)), upd b3 k (b3 (k + 1))) ⟨fun j hj => ?_, fun j hj1 hj2 => ?_⟩))
    · show ∃ i, i < q + 1 ∧ od_row a1 a2 a3 c1 (upd b2 k (b2 (k + 1))) (upd b3 k (b3 (k + 1))) j i
      by_cases e : j = k
      · subst e
        refine ⟨j + 1, by omega, ?_, ?_, ?_, ?_, ?_⟩
        · rw [hc, if_pos (by omega)]; exact r1
        · rw [hc, if_pos (by omega)]; exact r2
        · rw [hc, if_pos (by omega)]; exact r3
        · rw [pk_us]; exact r4
        · rw [pk_us]; exact r5
      · obtain ⟨i, hi, e1, e2, e3, e4, e5⟩ := g1 j (by omega)
        refine ⟨i, hi, ?_, ?_, ?_, ?_, ?_⟩
        · rw [hc, if_neg (by omega)]; exact e1
        · rw [hc, if_neg (by omega)]; exact e2
        · rw [hc, if_neg (by omega)]; exact e3
        · rw [pk_un e]; exact e4
        · rw [pk_un e]; exact e5
    · show od_row a1 a2 a3 c1 (upd b2 k (b2 (k + 1))) (upd b3 k (b3 (k + 1))) j j
      obtain ⟨e1, e2, e3, e4, e5⟩ := g2 j (by omega) hj2
      refine ⟨?_, ?_, ?_, ?_, ?_⟩
      · rw [hc, if_neg (by omega)]; exact e1
      · rw [hc, if_neg (by omega)]; exact e2
      · rw [hc, if_neg (by omega)]; exact e3
      · rw [pk_un (by omega)]; exact e4
      · rw [pk_un (by omega)]; exact e5
end
section
/-! the law's own loop -/
theorem od_tds {a k : Int32} (A : Nat) (hk : 0 < k.toInt) (ha : -(A : Int) ≤ a.toInt ∧ a.toInt ≤ A) : -(A : Int) ≤ (a / k).toInt ∧ (a / k).toInt ≤ A := by
  have hn1 : k ≠ -1 := fun e => by rw [e] at hk; exact absurd hk (by decide)
  rw [Int32.toInt_div_of_ne_right a k hn1]
  have := Int.natAbs_tdiv_le_natAbs a.toInt k.toInt
  omega
theorem od_c19 (x : Int32) : -9 ≤ ((x &&& 255) - (x &&& 255) / 19 * 19 - 9).toInt ∧ ((x &&& 255) - (x &&& 255) / 19 * 19 - 9).toInt ≤ 9 := by
  obtain ⟨j, hj, e⟩ := pk_andE x (m := 255) 8 (by decide)
  rw [e]
  have r : nI j - nI j / 19 * 19 = nI (j % 19) := pk_rem (d := 19) (by omega) (by decide) (by decide)
  have o : (9 : Int32).toInt = 9 := rfl
  have m := Nat.mod_lt j (show 19 > 0 by decide)
  have t := nI_toInt (n := j % 19) (by omega)
  rw [r, od_sub (by rw [t, o]; omega) (by rw [t, o]; omega), t, o]
  omega
theorem od_c199 (x : Int32) : -99 ≤ ((x &&& 255) - (x &&& 255) / 199 * 199 - 99).toInt ∧ ((x &&& 255) - (x &&& 255) / 199 * 199 - 99).toInt ≤ 99 := by
  obtain ⟨j, hj, e⟩ := pk_andE x (m := 255) 8 (by decide)
  rw [e]
  have r : nI j - nI j / 199 * 199 = nI (j % 199) := pk_rem (d := 199) (by omega) (by decide) (by decide)
  have o : (99 : Int32).toInt = 99 := rfl
  have m := Nat.mod_lt j (show 199 > 0 by decide)
  have t := nI_toInt (n := j % 199) (by omega)
  rw [r, od_sub (by rw [t, o]; omega) (by rw [t, o]; omega), t, o]
  omega
theorem od_c63 (x : Int32) : -99 ≤ ((x &&& 63) - 20).toInt ∧ ((x &&& 63) - 20).toInt ≤ 99 := by
  obtain ⟨j, hj, e⟩ := pk_andE x (m := 63) 6 (by decide)
  rw [e]
  have o : (20 : Int32).toInt = 20 := rfl
  have t := nI_toInt (n := j) (by omega)
  rw [od_sub (by rw [t, o]; omega) (by rw [t, o]; omega), t, o]
  omega
theorem od_243 {post : Int32 → Prop} {L : Nat} {xs : Nat → Int32} {J : Int32 → Int32 → Int32 → Int32 → Int32 → Int32 → (Nat → Int32) → (Nat → Int32) → (Nat → Int32) → (Nat → Int32) → (Nat → Int32) → (Nat → Int32) → (Nat → Int32) → (Nat → Int32) → Prop} {x2 x3 x5 x6 x7 x8 fr ff : Int32} {kc ks : Nat} {a1 a2 a3 a4 a5 a6 a7 a8 : Nat → Int32} {h : Nat} (hh : h ≤ 8) (hHB : od_HB a1 a2 a3 h)
    (b5 : -9 ≤ x5.toInt ∧ x5.toInt ≤ 9) (b6 : -9 ≤ x6.toInt ∧ x6.toInt ≤ 9) (b7 : -9 ≤ x7.toInt ∧ x7.toInt ≤ 9) (b8 : -99 ≤ x8.toInt ∧ x8.toInt ≤ 99)
    (HJ : ∀ (fr' ff' : Int32) (a4' a5' a6' a7' a8' : Nat → Int32), J x2 (x3 + 5) (nI h) fr' ff' (-1) a1 a2 a3 a4' a5' a6' a7' a8') :
    wL_law_243 post L xs J x2 x3 x5 x6 x7 x8 kc ks (nI h) fr ff (-1) a1 a2 a3 a4 a5 a6 a7 a8 := by
  unfold wL_law_243
  exact od_holds hh hHB (fun _ _ _ _ _ _ _ => br_f (by decide) (od_lfol hh hHB b6 b7 b5 b8 (fun _ _ _ _ _ _ _ => br_f (by decide) ⟨by decide, od_lfol hh hHB b5 (by decide) b6 (od_tds 99 (by decide) b8) (fun _ _ _ _ _ _ _ => br_f (by decide) (nm_e (HJ _ _ _ _ _ _ _)))⟩)))
theorem od_nlt {r s : Int32} (hr : r = 0 ∨ r = 1) (hs : s = 0 ∨ s = 1) (hi : r = 1 → s = 1) : ¬ s < r := by
  rcases hr with rfl | rfl
  · rcases hs with rfl | rfl <;> decide
  · rw [hi rfl]; decide
theorem od_nle {r s : Int32} (hr : r = 0 ∨ r = 1) (hs : s = 0 ∨ s = 1) (hi : r = 1 → s = 1) : r ≤ s := by
  rcases hr with rfl | rfl
  · rcases hs with rfl | rfl <;> decide
  · rw [hi rfl]; decide
theorem od_170 {post : Int32 → Prop} {L : Nat} {xs : Nat → Int32} {J : Int32 → Int32 → Int32 → Int32 → Int32 → Int32 → (Nat → Int32) → (Nat → Int32) → (Nat → Int32) → (Nat → Int32) → (Nat → Int32) → (Nat → Int32) → (Nat → Int32) → (Nat → Int32) → Prop} {x3 x5 x6 x7 x8 x9 z0 z1 z2 z3 z4 fr ff : Int32} {kc ks : Nat} {a1 a2 a3 a4 a5 a6 a7 a8 : Nat → Int32} {h : Nat} (hh : h ≤ 8) (hHB : od_HB a1 a2 a3 h)
    (b5 : -9 ≤ x5.toInt ∧ x5.toInt ≤ 9) (b6 : -9 ≤ x6.toInt ∧ x6.toInt ≤ 9) (b7 : -9 ≤ x7.toInt ∧ x7.toInt ≤ 9) (b8 : -99 ≤ x8.toInt ∧ x8.toInt ≤ 99) (h9 : x9 = 0 ∨ x9 = 1) (hp : x9 = 1 ↔ od_E a1 a2 a3 h)
    (c0 : z0 = 0 ∨ z0 = 1) (c1 : -99 ≤ z1.toInt ∧ z1.toInt ≤ 99) (c2 : -9 ≤ z2.toInt ∧ z2.toInt ≤ 9) (c3 : -9 ≤ z3.toInt ∧ z3.toInt ≤ 9) (c4 : -9 ≤ z4.toInt ∧ z4.toInt ≤ 9)
    (HJ : ∀ (h' : Nat) (fr' ff' : Int32) (a1' a2' a3' a4' a5' a6' a7' a8' : Nat → Int32), h' ≤ 8 → od_HB a1' a2' a3' h' → J (nI h') (x3 + 5) (nI h') fr' ff' (-1) a1' a2' a3' a4' a5' a6' a7' a8') :
    wL_law_170 post L xs J (nI h) x3 x5 x6 x7 x8 x9 z0 z1 z2 z3 z4 kc ks (nI h) fr ff (-1) a1 a2 a3 a4 a5 a6 a7 a8 := by
  unfold wL_law_170
  refine od_addm hh hHB c4 c3 c2 c1 c0 (fun hl b1 b2 b3 k1 k2 => br_f (nI_pos (by omega)) ?_) (fun h8 => br_t (by decide) ?_)
  · unfold wL_law_186
    refine od_possible (by omega) k1 (fun r fr1 ff1 d4 d5 d6 d7 d8 hr hq => br_f (od_nlt hr h9 (fun e => ?_)) (br_t (nI_pos' (by omega)) ?_))
    · obtain ⟨x, y, z, t1, t2⟩ := hq.mp e
      exact hp.mpr ⟨x, y, z, k2 x y z t1, t2⟩
    · unfold wL_law_209
      exact od_243 (by omega) k1 b5 b6 b7 b8 (fun _ _ _ _ _ _ _ => HJ _ _ _ _ _ _ _ _ _ _ _ (by omega) k1)
  · unfold wL_law_186
    refine od_possible hh hHB (fun r fr1 ff1 d4 d5 d6 d7 d8 hr hq => br_f (od_nlt hr h9 (fun e => hp.mpr (hq.mp e))) (br_f (by decide) (br_t (nI_le (a := 8) (by omega) (by omega)) ?_)))
    unfold wL_law_209
    exact od_243 hh hHB b5 b6 b7 b8 (fun _ _ _ _ _ _ _ => HJ _ _ _ _ _ _ _ _ _ _ _ hh hHB)
theorem od_134 {post : Int32 → Prop} {L : Nat} {xs : Nat → Int32} {J : Int32 → Int32 → Int32 → Int32 → Int32 → Int32 → (Nat → Int32) → (Nat → Int32) → (Nat → Int32) → (Nat → Int32) → (Nat → Int32) → (Nat → Int32) → (Nat → Int32) → (Nat → Int32) → Prop} {x3 x4 x5 x6 x7 x8 x9 z0 z1 z2 fr ff : Int32} {kc ks : Nat} {a1 a2 a3 a4 a5 a6 a7 a8 : Nat → Int32} {h : Nat} (hh : h ≤ 8) (hHB : od_HB a1 a2 a3 h) (hx : vp_in (x3 + 4) L)
    (b5 : -9 ≤ x5.toInt ∧ x5.toInt ≤ 9) (b6 : -9 ≤ x6.toInt ∧ x6.toInt ≤ 9) (b7 : -9 ≤ x7.toInt ∧ x7.toInt ≤ 9) (b8 : -99 ≤ x8.toInt ∧ x8.toInt ≤ 99) (h9 : x9 = 0 ∨ x9 = 1) (hp : x9 = 1 ↔ od_E a1 a2 a3 h)
    (c0 : -9 ≤ z0.toInt ∧ z0.toInt ≤ 9) (c1 : -9 ≤ z1.toInt ∧ z1.toInt ≤ 9) (c2 : -9 ≤ z2.toInt ∧ z2.toInt ≤ 9)
    (HJ : ∀ (h' : Nat) (fr' ff' : Int32) (a1' a2' a3' a4' a5' a6' a7' a8' : Nat → Int32), h' ≤ 8 → od_HB a1' a2' a3' h' → J (nI h') (x3 + 5) (nI h') fr' ff' (-1) a1' a2' a3' a4' a5' a6' a7' a8') :
    wL_law_134 post L xs J (nI h) x3 x4 x5 x6 x7 x8 x9 z0 z1 z2 kc ks (nI h) fr ff (-1) a1 a2 a3 a4 a5 a6 a7 a8 := by
  unfold wL_law_134
  have go : ∀ d : Int32, -99 ≤ d.toInt ∧ d.toInt ≤ 99 → wL_law_159 post L xs J (nI h) x3 x4 x5 x6 x7 x8 x9 d z0 z1 z2 kc ks (nI h) fr ff (-1) a1 a2 a3 a4 a5 a6 a7 a8 := by
    intro d hd
    unfold wL_law_159
    exact br_c (fun _ => od_170 hh hHB b5 b6 b7 b8 h9 hp (Or.inr rfl) hd c0 c1 c2 HJ) (fun _ => od_170 hh hHB b5 b6 b7 b8 h9 hp (Or.inl rfl) hd c0 c1 c2 HJ)
  exact br_c (fun _ => ⟨by decide, go _ (od_tds 99 (by decide) b8)⟩) (fun _ => ⟨hx, go _ (od_c63 _)⟩)
theorem od_law {post : Int32 → Prop} {L : Nat} {xs : Nat → Int32} {kc ks : Nat} {a1 a2 a3 a4 a5 a6 a7 a8 : Nat → Int32} (hL : L ≤ 260) (hp : post 1) : ∃ k, wL_law_12 post L xs kc ks k 0 0 0 0 0 (-1) a1 a2 a3 a4 a5 a6 a7 a8 := by
  refine pk_loop (σ := Nat × Int32 × Int32 × (Nat → Int32) × (Nat → Int32) × (Nat → Int32) × (Nat → Int32) × (Nat → Int32) × (Nat → Int32) × (Nat → Int32) × (Nat → Int32)) (fun k t s => wL_law_12 post L xs kc ks k (nI s.1) (nI (5 * t)) (nI s.1) s.2.1 s.2.2.1 (-1) s.2.2.2.1 s.2.2.2.2.1 s.2.2.2.2.2.1 s.2.2.2.2.2.2.1 s.2.2.2.2.2.2.2.1 s.2.2.2.2.2.2.2.2.1 s.2.2.2.2.2.2.2.2.2.1 s.2.2.2.2.2.2.2.2.2.2)
    (fun t s => s.1 ≤ 8 ∧ od_HB s.2.2.2.1 s.2.2.2.2.1 s.2.2.2.2.2.1 s.1) 30 0 (0, 0, 0, a1, a2, a3, a4, a5, a6, a7, a8) (by omega) ⟨Nat.zero_le _, fun r hr => absurd hr (Nat.not_lt_zero r)⟩ ?_ ?_
  · rintro k ⟨h, fr, ff, b1, b2, b3, b4, b5, b6, b7, b8⟩ _
    exact br_c (fun _ => hp) (fun _ => pk_le 150 150 (fun _ => hp) (fun z => absurd z (by omega)))
  · rintro k t ⟨h, fr, ff, b1, b2, b3, b4, b5, b6, b7, b8⟩ ht ⟨hh, hHB⟩ hw
    dsimp only at hh hHB
    show wL_law_12 post L xs kc ks (k + 1) (nI h) (nI (5 * t)) (nI h) fr ff (-1) b1 b2 b3 b4 b5 b6 b7 b8
    have e5 : nI (5 * t) + 5 = nI (5 * (t + 1)) := nI_add (5 * t) 5
    have HJ : ∀ (h' : Nat) (fr' ff' : Int32) (a1' a2' a3' a4' a5' a6' a7' a8' : Nat → Int32), h' ≤ 8 → od_HB a1' a2' a3' h' → wL_law_12 post L xs kc ks k (nI h') (nI (5 * t) + 5) (nI h') fr' ff' (-1) a1' a2' a3' a4' a5' a6' a7' a8' := by
      intro h' fr' ff' a1' a2' a3' a4' a5' a6' a7' a8' g1 g2
      rw [e5]
      exact hw (h', fr', ff', a1', a2', a3', a4', a5', a6', a7', a8') ⟨g1, g2⟩
    refine pk_lt L (5 * t + 5) (fun _ => hp) (fun hl => pk_le 150 (5 * t) (fun z => absurd z (by omega)) (fun _ => ?_)) rfl (nI_add (5 * t) 5)
    have i1 : vp_in (nI (5 * t) + 1) L := pk_in (5 * t + 1) L (by omega) (nI_1 (5 * t))
    have i4 : vp_in (nI (5 * t) + 4) L := pk_in (5 * t + 4) L (by omega) (nI_add (5 * t) 4)
    refine ⟨pk_in (5 * t) L (by omega), fun x4 _ => ⟨i1, by decide, fun x5 e_5 => ⟨pk_in (5 * t + 2) L (by omega) (nI_add (5 * t) 2), by decide, fun x6 e_6 => ⟨pk_in (5 * t + 3) L (by omega) (nI_add (5 * t) 3), by decide, fun x7 e_7 => ⟨i4, by decide, fun x8 e_8 => ?_⟩⟩⟩⟩⟩
    have c5 : -9 ≤ x5.toInt ∧ x5.toInt ≤ 9 := by rw [e_5]; exact od_c19 _
    have c6 : -9 ≤ x6.toInt ∧ x6.toInt ≤ 9 := by rw [e_6]; exact od_c19 _
    have c7 : -9 ≤ x7.toInt ∧ x7.toInt ≤ 9 := by rw [e_7]; exact od_c19 _
    have c8 : -99 ≤ x8.toInt ∧ x8.toInt ≤ 99 := by rw [e_8]; exact od_c199 _
    clear e_5 e_6 e_7 e_8
    refine od_possible hh hHB (fun r fr1 ff1 d4 d5 d6 d7 d8 hr hq => br_c (fun _ => pk_le h 0 (fun _ => ?_) (fun hpos => ⟨i1, nI_ne0 hpos (by omega), ?_⟩)) (fun _ => br_c (fun _ => ?_) (fun _ => ?_)))
    · exact od_243 hh hHB c5 c6 c7 c8 (fun _ _ _ _ _ _ _ => HJ _ _ _ _ _ _ _ _ _ _ _ hh hHB)
    · obtain ⟨q, rfl⟩ : ∃ q, h = q + 1 := ⟨h - 1, by omega⟩
      obtain ⟨j, hj, e⟩ := pk_andE (xs (nI (5 * t) + 1).toNatClampNeg) (m := 255) 8 (by decide)
      rw [e, pk_rem (by omega) hpos (by omega)]
      have hm := Nat.mod_lt j hpos
      refine od_drop (by omega) hh hHB (fun e1 e2 e3 g1 g2 => od_possible (by omega) g1 (fun r2 fr2 ff2 f4 f5 f6 f7 f8 hr2 hq2 => br_t (od_nle hr hr2 (fun w => ?_)) ?_))
      · obtain ⟨x, y, z, t1, t2⟩ := hq.mp w
        exact hq2.mpr ⟨x, y, z, g2 x y z t1, t2⟩
      · exact od_243 (by omega) g1 c5 c6 c7 c8 (fun _ _ _ _ _ _ _ => HJ _ _ _ _ _ _ _ _ _ _ _ (by omega) g1)
    · exact od_134 hh hHB i4 c5 c6 c7 c8 hr hq c7 c6 c5 HJ
    · exact od_134 hh hHB i4 c5 c6 c7 c8 hr hq (by decide) c6 c5 HJ
end
section
theorem i_vc (xs : Nat → Int32) (L : Nat) (hL : L ≤ 260) : wpL_law (fun r => r = 1) L xs := by
  refine ⟨8, 783, by omega, by omega, by omega, by omega, by omega, by omega, by omega, by omega, by omega, by omega, by omega, by omega, by omega, by omega, by omega, by omega, by omega, by omega, ?_⟩
  exact od_law (post := fun r => r = 1) hL rfl
end
