section
/-- a whole number as an int of the machine: a ring hom -/
def zi_v (x : Int) : Int32 := Int32.ofInt x
/-- within the range of both signs -/
def zi_R (x : Int) : Prop := -2147483648 < x ∧ x < 2147483648
theorem zi_add (x y : Int) : zi_v x + zi_v y = zi_v (x + y) := (Int32.ofInt_add x y).symm
theorem zi_sub (x y : Int) : zi_v x - zi_v y = zi_v (x - y) := (Int32.ofInt_sub x y).symm
theorem zi_mul (x y : Int) : zi_v x * zi_v y = zi_v (x * y) := (Int32.ofInt_mul x y).symm
theorem zi_neg (x : Int) : - zi_v x = zi_v (-x) := (Int32.ofInt_neg x).symm
theorem zi_n (n : Nat) : zi_v (n : Int) = nI n := Int32.ofInt_eq_ofNat
theorem zi_t {x : Int} (h : zi_R x) : (zi_v x).toInt = x := Int32.toInt_ofInt_of_le (by have := h.1; omega) (by have := h.2; omega)
theorem zi_of (x : Int32) : zi_v x.toInt = x := Int32.ofInt_toInt x
theorem zi_le {a b : Int} (ha : zi_R a) (hb : zi_R b) : zi_v a ≤ zi_v b ↔ a ≤ b := by rw [Int32.le_iff_toInt_le, zi_t ha, zi_t hb]
theorem zi_lt {a b : Int} (ha : zi_R a) (hb : zi_R b) : zi_v a < zi_v b ↔ a < b := by rw [Int32.lt_iff_toInt_lt, zi_t ha, zi_t hb]
theorem zi_eq {a b : Int} (ha : zi_R a) (hb : zi_R b) : zi_v a = zi_v b ↔ a = b := by rw [← Int32.toInt_inj, zi_t ha, zi_t hb]
theorem zi_div {a b : Int} (ha : zi_R a) (hb : zi_R b) : zi_v a / zi_v b = zi_v (a.tdiv b) := by
  have e1 : Int32.minValue.toInt = -2147483648 := by decide
  have e2 : Int32.maxValue.toInt = 2147483647 := by decide
  refine (Int32.ofInt_tdiv ?_ ?_ ?_ ?_).symm
  · rw [e1]; have := ha.1; omega
  · rw [e2]; have := ha.2; omega
  · rw [e1]; have := hb.1; omega
  · rw [e2]; have := hb.2; omega
theorem zi_R0 : zi_R 0 := ⟨by decide, by decide⟩
theorem zi_0 : zi_v 0 = 0 := rfl
theorem zi_1 : zi_v 1 = 1 := rfl
theorem zi_rem {a b : Int} (ha : zi_R a) (hb : zi_R b) : zi_v a - zi_v a / zi_v b * zi_v b = zi_v (a.tmod b) := by
  rw [zi_div ha hb, zi_mul, zi_sub, Int.tmod_def, Int.mul_comm]
theorem zi_Rabs {x : Int} (h : x.natAbs < 2147483648) : zi_R x := by unfold zi_R; omega
theorem zi_absR {x : Int} (h : zi_R x) : x.natAbs < 2147483648 := by unfold zi_R at h; omega
theorem zi_Rn {n : Nat} (h : n < 2147483648) : zi_R (n : Int) := by unfold zi_R; omega
theorem zi_Rtd {a b : Int} (ha : zi_R a) : zi_R (a.tdiv b) := by
  apply zi_Rabs
  have := zi_absR ha
  have h2 := Int.natAbs_tdiv a b
  have h3 : a.natAbs / b.natAbs ≤ a.natAbs := Nat.div_le_self _ _
  rw [h2]
  exact Nat.lt_of_le_of_lt h3 this
theorem zi_Rtm {a b : Int} (ha : zi_R a) : zi_R (a.tmod b) := by
  apply zi_Rabs
  have := zi_absR ha
  rw [Int.natAbs_tmod]
  exact Nat.lt_of_le_of_lt (Nat.mod_le _ _) this
/-- branches by whole numbers -/
theorem zb_le {A B : Prop} {a b : Int} (ha : zi_R a) (hb : zi_R b) (f : a ≤ b → A) (g : b < a → B) : (zi_v a ≤ zi_v b → A) ∧ (¬ zi_v a ≤ zi_v b → B) :=
  ⟨fun h => f ((zi_le ha hb).mp h), fun h => g (Int.not_le.mp fun k => h ((zi_le ha hb).mpr k))⟩
theorem zb_lt {A B : Prop} {a b : Int} (ha : zi_R a) (hb : zi_R b) (f : a < b → A) (g : b ≤ a → B) : (zi_v a < zi_v b → A) ∧ (¬ zi_v a < zi_v b → B) :=
  ⟨fun h => f ((zi_lt ha hb).mp h), fun h => g (Int.not_lt.mp fun k => h ((zi_lt ha hb).mpr k))⟩
theorem zb_eq {A B : Prop} {a b : Int} (ha : zi_R a) (hb : zi_R b) (f : a = b → A) (g : a ≠ b → B) : (zi_v a = zi_v b → A) ∧ (¬ zi_v a = zi_v b → B) :=
  ⟨fun h => f ((zi_eq ha hb).mp h), fun h => g fun k => h ((zi_eq ha hb).mpr k)⟩
/-- the same, the ints given by equations -/
theorem zc_le {A B : Prop} {x y : Int32} (a b : Int) (hx : x = zi_v a) (hy : y = zi_v b) (ha : zi_R a) (hb : zi_R b) (f : a ≤ b → A) (g : b < a → B) : (x ≤ y → A) ∧ (¬ x ≤ y → B) := by
  subst hx; subst hy; exact zb_le ha hb f g
theorem zc_lt {A B : Prop} {x y : Int32} (a b : Int) (hx : x = zi_v a) (hy : y = zi_v b) (ha : zi_R a) (hb : zi_R b) (f : a < b → A) (g : b ≤ a → B) : (x < y → A) ∧ (¬ x < y → B) := by
  subst hx; subst hy; exact zb_lt ha hb f g
theorem zc_eq {A B : Prop} {x y : Int32} (a b : Int) (hx : x = zi_v a) (hy : y = zi_v b) (ha : zi_R a) (hb : zi_R b) (f : a = b → A) (g : a ≠ b → B) : (x = y → A) ∧ (¬ x = y → B) := by
  subst hx; subst hy; exact zb_eq ha hb f g
/-- naturals as indices -/
theorem zn_mul (a b : Nat) : nI a * nI b = nI (a * b) := by rw [← zi_n, ← zi_n, zi_mul, ← zi_n, Int.natCast_mul]
theorem zn_ix (r c : Nat) : 3 * nI r + nI c = nI (3 * r + c) := by
  have : (3 : Int32) = nI 3 := rfl
  rw [this, zn_mul, nI_add]
theorem zn_cl {r c : Nat} (h : 3 * r + c < 2147483648) : (3 * nI r + nI c).toNatClampNeg = 3 * r + c := by rw [zn_ix]; exact nI_clamp h
theorem zn_in {r c N : Nat} (h : 3 * r + c < N) (hN : N < 2147483648) : vp_in (3 * nI r + nI c) N := by rw [zn_ix]; exact vp_in_nI h hN
theorem zn_le {A B : Prop} {a b : Nat} (ha : a < 2147483648) (hb : b < 2147483648) (f : a ≤ b → A) (g : b < a → B) : (nI a ≤ nI b → A) ∧ (¬ nI a ≤ nI b → B) :=
  ⟨fun h => f ((nI_leI ha hb).mp h), fun h => g (Nat.not_le.mp fun k => h ((nI_leI ha hb).mpr k))⟩
theorem zn_lt {A B : Prop} {a b : Nat} (ha : a < 2147483648) (hb : b < 2147483648) (f : a < b → A) (g : b ≤ a → B) : (nI a < nI b → A) ∧ (¬ nI a < nI b → B) :=
  ⟨fun h => f ((nI_ltI ha hb).mp h), fun h => g (Nat.not_lt.mp fun k => h ((nI_ltI ha hb).mpr k))⟩
theorem zn_eq {A B : Prop} {a b : Nat} (ha : a < 2147483648) (hb : b < 2147483648) (f : a = b → A) (g : a ≠ b → B) : (nI a = nI b → A) ∧ (¬ nI a = nI b → B) :=
  ⟨fun h => f ((nI_eq ha hb).mp h), fun h => g fun k => h ((nI_eq ha hb).mpr k)⟩
/-- a table of rows of three as an array of ints -/
def mE (w : Nat → Nat → Int) : Nat → Int32 := fun i => zi_v (w (i / 3) (i % 3))
def vE (d : Nat → Int) : Nat → Int32 := fun i => zi_v (d i)
theorem mE_at (w : Nat → Nat → Int) {r c : Nat} (hc : c < 3) : mE w (3 * r + c) = zi_v (w r c) := by
  unfold mE
  have h1 : (3 * r + c) / 3 = r := by omega
  have h2 : (3 * r + c) % 3 = c := by omega
  rw [h1, h2]
theorem mE_ix (w : Nat → Nat → Int) {r c : Nat} (hc : c < 3) (h : 3 * r + c < 2147483648) : mE w (3 * nI r + nI c).toNatClampNeg = zi_v (w r c) := by
  rw [zn_cl h, mE_at w hc]
theorem mE_ext {w v : Nat → Nat → Int} (h : ∀ i j, j < 3 → w i j = v i j) : mE w = mE v := by
  funext i; unfold mE; rw [h (i / 3) (i % 3) (by omega)]
/-- every array is one -/
theorem mE_of (a : Nat → Int32) : mE (fun i j => (a (3 * i + j)).toInt) = a := by
  funext i; unfold mE; rw [zi_of]
  have : 3 * (i / 3) + i % 3 = i := by omega
  show a (3 * (i / 3) + i % 3) = a i
  rw [this]
theorem vE_of (a : Nat → Int32) : vE (fun i => (a i).toInt) = a := by funext i; exact zi_of _
def ms_ (w : Nat → Nat → Int) (r c : Nat) (v : Int) : Nat → Nat → Int := fun i j => if i = r ∧ j = c then v else w i j
theorem mE_upd (w : Nat → Nat → Int) {r c : Nat} (hc : c < 3) (v : Int) : upd (mE w) (3 * r + c) (zi_v v) = mE (ms_ w r c v) := by
  funext i; unfold upd mE ms_
  by_cases h : i = 3 * r + c
  · have h1 : i / 3 = r := by omega
    have h2 : i % 3 = c := by omega
    rw [if_pos h, if_pos ⟨h1, h2⟩]
  · have h3 : ¬ (i / 3 = r ∧ i % 3 = c) := by omega
    rw [if_neg h, if_neg h3]
theorem mE_updx (w : Nat → Nat → Int) {r c : Nat} (hc : c < 3) (h : 3 * r + c < 2147483648) (v : Int) : upd (mE w) (3 * nI r + nI c).toNatClampNeg (zi_v v) = mE (ms_ w r c v) := by
  rw [zn_cl h, mE_upd w hc]
def vs_ (d : Nat → Int) (k : Nat) (v : Int) : Nat → Int := fun i => if i = k then v else d i
theorem vE_upd (d : Nat → Int) (k : Nat) (v : Int) : upd (vE d) k (zi_v v) = vE (vs_ d k v) := by
  funext i; unfold upd vE vs_
  by_cases h : i = k
  · rw [if_pos h, if_pos h]
  · rw [if_neg h, if_neg h]
theorem zi_bool {z : Int32} (h : z = 0 ∨ z = 1) : narrow .boolean (.int z) = .int z := by rcases h with h | h <;> rw [h] <;> rfl
end
section
/-! numbers: what divides -/
theorem nt_e {n a b : Int} (h : n ∣ a) (e : b = a) : n ∣ b := e ▸ h
theorem nt_co {D m t : Int} (hD : D ≠ 0) (h : D ∣ m * t) : D / (Int.gcd D m : Int) ∣ t := by
  have hg : 0 < Int.gcd D m := Int.gcd_pos_of_ne_zero_left m hD
  have h1 := Int.gcd_dvd_left D m
  have h2 := Int.gcd_dvd_right D m
  have h3 := Int.gcd_ediv_gcd_ediv_gcd hg
  generalize hG : (Int.gcd D m : Int) = G at *
  have hG0 : G ≠ 0 := by omega
  obtain ⟨D1, rfl⟩ := h1
  obtain ⟨m1, rfl⟩ := h2
  rw [Int.mul_ediv_cancel_left _ hG0] at h3 ⊢
  rw [Int.mul_ediv_cancel_left _ hG0] at h3
  rw [Int.mul_assoc] at h
  have h4 : D1 ∣ m1 * t := Int.dvd_of_mul_dvd_mul_left hG0 h
  have h5 := Int.gcd_mul_right_right_of_gcd_eq_one (k := t) h3
  rw [Int.gcd_eq_natAbs_left_iff_dvd.mpr h4] at h5
  exact Int.gcd_eq_natAbs_left_iff_dvd.mp h5.symm
theorem nt_co' {D m t : Int} (h : D / (Int.gcd D m : Int) ∣ t) : D ∣ m * t := by
  have h1 := Int.gcd_dvd_left D m
  have h2 := Int.gcd_dvd_right D m
  by_cases hD : D = 0
  · subst hD
    by_cases hm : m = 0
    · subst hm; simp
    · simp at h; subst h; simp
  have hg : 0 < Int.gcd D m := Int.gcd_pos_of_ne_zero_left m hD
  generalize hG : (Int.gcd D m : Int) = G at *
  have hG0 : G ≠ 0 := by omega
  obtain ⟨D1, rfl⟩ := h1
  obtain ⟨m1, rfl⟩ := h2
  rw [Int.mul_ediv_cancel_left _ hG0] at h
  obtain ⟨s, rfl⟩ := h
  exact ⟨m1 * s, by grind⟩
theorem nt_q {D g : Int} (hD : D ≠ 0) : D / (Int.gcd D g : Int) ∣ D := by
  have h1 := Int.gcd_dvd_left D g
  have hg : 0 < Int.gcd D g := Int.gcd_pos_of_ne_zero_left g hD
  generalize hG : (Int.gcd D g : Int) = G at *
  have hG0 : G ≠ 0 := by omega
  obtain ⟨D1, rfl⟩ := h1
  rw [Int.mul_ediv_cancel_left _ hG0]
  exact ⟨G, by grind⟩
/-- D divides every m t exactly if D / gcd (D, all t) divides m -/
theorem nt_ord {α : Type} (t : α → Int) {D D' : Int} (hD : D ≠ 0) (h : ∀ n : Int, n ∣ D' ↔ n ∣ D ∧ ∀ i, n ∣ t i) (m : Int) : (∀ i, D ∣ m * t i) ↔ D / D' ∣ m := by
  have h0 := (h D').mp (Int.dvd_refl _)
  have hD' : D' ≠ 0 := by
    intro z; rw [z] at h0; exact hD (Int.zero_dvd.mp h0.1)
  constructor
  · intro k
    have k1 : D / (Int.gcd D m : Int) ∣ D' := (h _).mpr ⟨nt_q hD, fun i => nt_co hD (k i)⟩
    have k2 : D ∣ m * D' := nt_co' k1
    obtain ⟨q, hq⟩ := h0.1
    rw [hq, Int.mul_ediv_cancel_left _ hD']
    rw [hq, Int.mul_comm m D'] at k2
    exact Int.dvd_of_mul_dvd_mul_left hD' k2
  · intro k i
    obtain ⟨q, hq⟩ := h0.1
    rw [hq, Int.mul_ediv_cancel_left _ hD'] at k
    obtain ⟨m', rfl⟩ := k
    obtain ⟨s, hs⟩ := h0.2 i
    exact ⟨m' * s, by rw [hs, hq]; grind⟩
/-- two parallel points, the second's divisor divides the first: a whole multiple -/
theorem nt_par1 {G u v w p q r : Int} (hG : ∀ n : Int, n ∣ G ↔ n ∣ p ∧ n ∣ q ∧ n ∣ r) (hp : p ≠ 0) (hu : G ∣ u) (hv : G ∣ v) (hw : G ∣ w) (e1 : u * q = v * p) (e2 : u * r = w * p) : ∃ y : Int, u = y * p ∧ v = y * q ∧ w = y * r := by
  obtain ⟨g1, g2, g3⟩ := (hG G).mp (Int.dvd_refl _)
  obtain ⟨U, rfl⟩ := hu
  obtain ⟨V, rfl⟩ := hv
  obtain ⟨W, rfl⟩ := hw
  have hG0 : G ≠ 0 := by intro z; rw [z] at g1; exact hp (Int.zero_dvd.mp g1)
  obtain ⟨P, rfl⟩ := g1
  obtain ⟨Q, rfl⟩ := g2
  obtain ⟨R, rfl⟩ := g3
  have hP : P ≠ 0 := by intro z; rw [z] at hp; simp at hp
  have f1 : U * Q = V * P := by
    have : (G * G) * (U * Q) = (G * G) * (V * P) := by grind
    exact Int.eq_of_mul_eq_mul_left (by simp [hG0]) this
  have f2 : U * R = W * P := by
    have : (G * G) * (U * R) = (G * G) * (W * P) := by grind
    exact Int.eq_of_mul_eq_mul_left (by simp [hG0]) this
  have k1 : P / (Int.gcd P U : Int) ∣ P := nt_q hP
  have k2 : P / (Int.gcd P U : Int) ∣ Q := nt_co hP ⟨V, by rw [f1, Int.mul_comm]⟩
  have k3 : P / (Int.gcd P U : Int) ∣ R := nt_co hP ⟨W, by rw [f2, Int.mul_comm]⟩
  have k4 : G * (P / (Int.gcd P U : Int)) ∣ G := (hG _).mpr ⟨Int.mul_dvd_mul_left _ k1, Int.mul_dvd_mul_left _ k2, Int.mul_dvd_mul_left _ k3⟩
  have k5 : P / (Int.gcd P U : Int) ∣ 1 := by
    have : G * (P / (Int.gcd P U : Int)) ∣ G * 1 := by rw [Int.mul_one]; exact k4
    exact Int.dvd_of_mul_dvd_mul_left hG0 this
  have k6 : P ∣ U * 1 := nt_co' k5
  rw [Int.mul_one] at k6
  obtain ⟨y, rfl⟩ := k6
  have l1 : V = y * Q := by
    have : P * (y * Q) = P * V := by grind
    exact (Int.eq_of_mul_eq_mul_left hP this).symm
  have l2 : W = y * R := by
    have : P * (y * R) = P * W := by grind
    exact (Int.eq_of_mul_eq_mul_left hP this).symm
  exact ⟨y, by grind, by rw [l1]; grind, by rw [l2]; grind⟩
theorem nt_par {G u v w p q r : Int} (hG : ∀ n : Int, n ∣ G ↔ n ∣ p ∧ n ∣ q ∧ n ∣ r) (h0 : G ≠ 0) (hu : G ∣ u) (hv : G ∣ v) (hw : G ∣ w) (e1 : u * q = v * p) (e2 : u * r = w * p) (e3 : v * r = w * q) : ∃ y : Int, u = y * p ∧ v = y * q ∧ w = y * r := by
  by_cases hp : p = 0
  · by_cases hq : q = 0
    · by_cases hr : r = 0
      · exact absurd (Int.zero_dvd.mp ((hG 0).mpr ⟨by rw [hp]; exact Int.dvd_refl _, by rw [hq]; exact Int.dvd_refl _, by rw [hr]; exact Int.dvd_refl _⟩)) h0
      · obtain ⟨y, a, b, c⟩ := nt_par1 (G := G) (u := w) (v := u) (w := v) (p := r) (q := p) (r := q) (fun n => (hG n).trans ⟨fun ⟨a, b, c⟩ => ⟨c, a, b⟩, fun ⟨a, b, c⟩ => ⟨b, c, a⟩⟩) hr hw hu hv e2.symm e3.symm
        exact ⟨y, b, c, a⟩
    · obtain ⟨y, a, b, c⟩ := nt_par1 (G := G) (u := v) (v := u) (w := w) (p := q) (q := p) (r := r) (fun n => (hG n).trans ⟨fun ⟨a, b, c⟩ => ⟨b, a, c⟩, fun ⟨a, b, c⟩ => ⟨b, a, c⟩⟩) hq hv hu hw e1.symm e3
      exact ⟨y, b, a, c⟩
  · exact nt_par1 hG hp hu hv hw e1 e2
/-! subgroups of points -/
def gr_ (G : Int → Int → Int → Prop) : Prop := G 0 0 0 ∧ ∀ x y z x' y' z', G x y z → G x' y' z' → G (x - x') (y - y') (z - z')
theorem gr_e {G : Int → Int → Int → Prop} {x y z x' y' z' : Int} (h : G x y z) (e1 : x' = x) (e2 : y' = y) (e3 : z' = z) : G x' y' z' := by
  subst e1; subst e2; subst e3; exact h
theorem gr_neg {G : Int → Int → Int → Prop} (g : gr_ G) {x y z : Int} (h : G x y z) : G (-x) (-y) (-z) :=
  gr_e (g.2 _ _ _ _ _ _ g.1 h) (by omega) (by omega) (by omega)
theorem gr_add {G : Int → Int → Int → Prop} (g : gr_ G) {x y z x' y' z' : Int} (h : G x y z) (h' : G x' y' z') : G (x + x') (y + y') (z + z') :=
  gr_e (g.2 _ _ _ _ _ _ h (gr_neg g h')) (by omega) (by omega) (by omega)
theorem gr_muln {G : Int → Int → Int → Prop} (g : gr_ G) {x y z : Int} (h : G x y z) (n : Nat) : G (n * x) (n * y) (n * z) := by
  induction n with
  | zero => exact gr_e g.1 (by simp) (by simp) (by simp)
  | succ n ih => exact gr_e (gr_add g ih h) (by push_cast; grind) (by push_cast; grind) (by push_cast; grind)
theorem gr_mul {G : Int → Int → Int → Prop} (g : gr_ G) {x y z : Int} (h : G x y z) (k : Int) : G (k * x) (k * y) (k * z) := by
  obtain ⟨n, rfl | rfl⟩ := Int.eq_nat_or_neg k
  · exact gr_muln g h n
  · exact gr_e (gr_neg g (gr_muln g h n)) (by grind) (by grind) (by grind)
theorem gr_sub {G : Int → Int → Int → Prop} (g : gr_ G) {x y z x' y' z' : Int} (h : G x y z) (h' : G x' y' z') (k : Int) : G (x - k * x') (y - k * y') (z - k * z') :=
  g.2 _ _ _ _ _ _ h (gr_mul g h' k)
theorem gr_lin (n p q r : Int) : gr_ (fun x y z => n ∣ p * x + q * y + r * z) :=
  ⟨⟨0, by simp⟩, fun x y z x' y' z' h h' => nt_e (Int.dvd_sub h h') (by grind)⟩
/-- the points that the rows w i, Q i, span -/
def sp_L (Q : Nat → Prop) (w : Nat → Nat → Int) (x y z : Int) : Prop := ∀ G : Int → Int → Int → Prop, gr_ G → (∀ i, Q i → G (w i 0) (w i 1) (w i 2)) → G x y z
theorem sp_gr (Q : Nat → Prop) (w : Nat → Nat → Int) : gr_ (sp_L Q w) :=
  ⟨fun _ g _ => g.1, fun _ _ _ _ _ _ h h' G g r => g.2 _ _ _ _ _ _ (h G g r) (h' G g r)⟩
theorem sp_row {Q : Nat → Prop} {w : Nat → Nat → Int} {i : Nat} (h : Q i) : sp_L Q w (w i 0) (w i 1) (w i 2) := fun _ _ r => r i h
theorem sp_le {Q Q' : Nat → Prop} {w w' : Nat → Nat → Int} (h : ∀ i, Q i → sp_L Q' w' (w i 0) (w i 1) (w i 2)) {x y z : Int} (s : sp_L Q w x y z) : sp_L Q' w' x y z := s _ (sp_gr _ _) h
theorem sp_lin {Q : Nat → Prop} {w : Nat → Nat → Int} {n p q r : Int} (h : ∀ i, Q i → n ∣ p * w i 0 + q * w i 1 + r * w i 2) {x y z : Int} (s : sp_L Q w x y z) : n ∣ p * x + q * y + r * z := s _ (gr_lin n p q r) h
/-! minors -/
def m1_ (x y z x' y' z' : Int) : Int := x * y' - y * x'
def m2_ (x y z x' y' z' : Int) : Int := x * z' - z * x'
def m3_ (x y z x' y' z' : Int) : Int := y * z' - z * y'
def dt_ (x y z x' y' z' x'' y'' z'' : Int) : Int := x * (y' * z'' - z' * y'') - y * (x' * z'' - z' * x'') + z * (x' * y'' - y' * x'')
/-- n divides every number, every minor of two, every determinant of three, of a set of points -/
def d1_ (G : Int → Int → Int → Prop) (n : Int) : Prop := ∀ x y z, G x y z → n ∣ x ∧ n ∣ y ∧ n ∣ z
def d2_ (G : Int → Int → Int → Prop) (n : Int) : Prop := ∀ x y z x' y' z', G x y z → G x' y' z' → n ∣ m1_ x y z x' y' z' ∧ n ∣ m2_ x y z x' y' z' ∧ n ∣ m3_ x y z x' y' z'
def d3_ (G : Int → Int → Int → Prop) (n : Int) : Prop := ∀ x y z x' y' z' x'' y'' z'', G x y z → G x' y' z' → G x'' y'' z'' → n ∣ dt_ x y z x' y' z' x'' y'' z''
theorem sp_d1 {Q : Nat → Prop} {w : Nat → Nat → Int} {n : Int} : d1_ (sp_L Q w) n ↔ ∀ i, Q i → n ∣ w i 0 ∧ n ∣ w i 1 ∧ n ∣ w i 2 := by
  constructor
  · intro h i hi; exact h _ _ _ (sp_row hi)
  · intro h x y z s
    refine ⟨?_, ?_, ?_⟩
    · exact nt_e (sp_lin (p := 1) (q := 0) (r := 0) (fun i hi => nt_e (h i hi).1 (by omega)) s) (by omega)
    · exact nt_e (sp_lin (p := 0) (q := 1) (r := 0) (fun i hi => nt_e (h i hi).2.1 (by omega)) s) (by omega)
    · exact nt_e (sp_lin (p := 0) (q := 0) (r := 1) (fun i hi => nt_e (h i hi).2.2 (by omega)) s) (by omega)
/-- one point against all rows, then all points -/
theorem sp_m {Q : Nat → Prop} {w : Nat → Nat → Int} {n x' y' z' : Int} (h : ∀ i, Q i → n ∣ m1_ (w i 0) (w i 1) (w i 2) x' y' z' ∧ n ∣ m2_ (w i 0) (w i 1) (w i 2) x' y' z' ∧ n ∣ m3_ (w i 0) (w i 1) (w i 2) x' y' z') {x y z : Int} (s : sp_L Q w x y z) : n ∣ m1_ x y z x' y' z' ∧ n ∣ m2_ x y z x' y' z' ∧ n ∣ m3_ x y z x' y' z' := by
  refine ⟨?_, ?_, ?_⟩
  · exact nt_e (sp_lin (p := y') (q := -x') (r := 0) (fun i hi => nt_e (h i hi).1 (by unfold m1_; grind)) s) (by unfold m1_; grind)
  · exact nt_e (sp_lin (p := z') (q := 0) (r := -x') (fun i hi => nt_e (h i hi).2.1 (by unfold m2_; grind)) s) (by unfold m2_; grind)
  · exact nt_e (sp_lin (p := 0) (q := z') (r := -y') (fun i hi => nt_e (h i hi).2.2 (by unfold m3_; grind)) s) (by unfold m3_; grind)
theorem m1_sw (x y z x' y' z' : Int) : m1_ x' y' z' x y z = - m1_ x y z x' y' z' := by unfold m1_; grind
theorem m2_sw (x y z x' y' z' : Int) : m2_ x' y' z' x y z = - m2_ x y z x' y' z' := by unfold m2_; grind
theorem m3_sw (x y z x' y' z' : Int) : m3_ x' y' z' x y z = - m3_ x y z x' y' z' := by unfold m3_; grind
theorem m_sw {n x y z x' y' z' : Int} (h : n ∣ m1_ x y z x' y' z' ∧ n ∣ m2_ x y z x' y' z' ∧ n ∣ m3_ x y z x' y' z') : n ∣ m1_ x' y' z' x y z ∧ n ∣ m2_ x' y' z' x y z ∧ n ∣ m3_ x' y' z' x y z := by
  rw [m1_sw, m2_sw, m3_sw, Int.dvd_neg, Int.dvd_neg, Int.dvd_neg]; exact h
theorem sp_d2 {Q : Nat → Prop} {w : Nat → Nat → Int} {n : Int} : d2_ (sp_L Q w) n ↔ ∀ i j, Q i → Q j → n ∣ m1_ (w i 0) (w i 1) (w i 2) (w j 0) (w j 1) (w j 2) ∧ n ∣ m2_ (w i 0) (w i 1) (w i 2) (w j 0) (w j 1) (w j 2) ∧ n ∣ m3_ (w i 0) (w i 1) (w i 2) (w j 0) (w j 1) (w j 2) := by
  constructor
  · intro h i j hi hj; exact h _ _ _ _ _ _ (sp_row hi) (sp_row hj)
  · intro h x y z x' y' z' s s'
    exact sp_m (fun i hi => m_sw (sp_m (fun j hj => m_sw (h i j hi hj)) s')) s
theorem dt_1 (x y z x' y' z' x'' y'' z'' : Int) : dt_ x y z x' y' z' x'' y'' z'' = m3_ x' y' z' x'' y'' z'' * x + (- m2_ x' y' z' x'' y'' z'') * y + m1_ x' y' z' x'' y'' z'' * z := by unfold dt_ m1_ m2_ m3_; grind
theorem dt_rot (x y z x' y' z' x'' y'' z'' : Int) : dt_ x' y' z' x'' y'' z'' x y z = dt_ x y z x' y' z' x'' y'' z'' := by unfold dt_; grind
theorem dt_sw (x y z x' y' z' x'' y'' z'' : Int) : dt_ x' y' z' x y z x'' y'' z'' = - dt_ x y z x' y' z' x'' y'' z'' := by unfold dt_; grind
theorem sp_dt {Q : Nat → Prop} {w : Nat → Nat → Int} {n x' y' z' x'' y'' z'' : Int} (h : ∀ i, Q i → n ∣ dt_ (w i 0) (w i 1) (w i 2) x' y' z' x'' y'' z'') {x y z : Int} (s : sp_L Q w x y z) : n ∣ dt_ x y z x' y' z' x'' y'' z'' :=
  nt_e (sp_lin (fun i hi => nt_e (h i hi) (dt_1 _ _ _ _ _ _ _ _ _).symm) s) (dt_1 _ _ _ _ _ _ _ _ _)
theorem sp_d3 {Q : Nat → Prop} {w : Nat → Nat → Int} {n : Int} : d3_ (sp_L Q w) n ↔ ∀ i j k, Q i → Q j → Q k → n ∣ dt_ (w i 0) (w i 1) (w i 2) (w j 0) (w j 1) (w j 2) (w k 0) (w k 1) (w k 2) := by
  constructor
  · intro h i j k hi hj hk; exact h _ _ _ _ _ _ _ _ _ (sp_row hi) (sp_row hj) (sp_row hk)
  · intro h x y z x' y' z' x'' y'' z'' s s' s''
    refine sp_dt (fun i hi => ?_) s
    rw [← dt_rot]
    refine sp_dt (fun j hj => ?_) s'
    rw [← dt_rot]
    refine sp_dt (fun k hk => ?_) s''
    rw [← dt_rot]
    exact h i j k hi hj hk
theorem d23 {G : Int → Int → Int → Prop} {n : Int} (h : d2_ G n) : d3_ G n := by
  intro x y z x' y' z' x'' y'' z'' s s' s''
  obtain ⟨a, b, c⟩ := h _ _ _ _ _ _ s' s''
  rw [dt_1]
  exact Int.dvd_add (Int.dvd_add (Int.dvd_mul_of_dvd_left c) (Int.dvd_mul_of_dvd_left (Int.dvd_neg.mpr b))) (Int.dvd_mul_of_dvd_left a)
theorem d12 {G : Int → Int → Int → Prop} {n : Int} (h : d1_ G n) : d2_ G n := by
  intro x y z x' y' z' s _
  obtain ⟨a, b, c⟩ := h _ _ _ s
  unfold m1_ m2_ m3_
  exact ⟨Int.dvd_sub (Int.dvd_mul_of_dvd_left a) (Int.dvd_mul_of_dvd_left b), Int.dvd_sub (Int.dvd_mul_of_dvd_left a) (Int.dvd_mul_of_dvd_left c), Int.dvd_sub (Int.dvd_mul_of_dvd_left b) (Int.dvd_mul_of_dvd_left c)⟩
end
section
/-! the stair form by columns: rows (a, b, c), (0, d, e), (0, 0, f) -/
def hl_ (a b c d e f x y z : Int) : Prop := ∃ i j k : Int, x = i * a ∧ y = i * b + j * d ∧ z = i * c + j * e + k * f
def hn_ (a b c d e f : Int) : Prop := 0 ≤ a ∧ 0 ≤ d ∧ 0 ≤ f ∧ (a = 0 → b = 0 ∧ c = 0) ∧ (d = 0 → e = 0) ∧ (0 < d → 0 ≤ b ∧ b < d) ∧ (0 < f → 0 ≤ c ∧ c < f ∧ 0 ≤ e ∧ e < f)
theorem hl_gr (a b c d e f : Int) : gr_ (hl_ a b c d e f) := by
  refine ⟨⟨0, 0, 0, by simp, by simp, by simp⟩, ?_⟩
  rintro x y z x' y' z' ⟨i, j, k, rfl, rfl, rfl⟩ ⟨i', j', k', rfl, rfl, rfl⟩
  exact ⟨i - i', j - j', k - k', by grind, by grind, by grind⟩
theorem hl_0 (a b c d e f : Int) : hl_ a b c d e f a b c := ⟨1, 0, 0, by simp, by simp, by simp⟩
theorem hl_1 (a b c d e f : Int) : hl_ a b c d e f 0 d e := ⟨0, 1, 0, by simp, by simp, by simp⟩
theorem hl_2 (a b c d e f : Int) : hl_ a b c d e f 0 0 f := ⟨0, 0, 1, by simp, by simp, by simp⟩
theorem hl_d1 {a b c d e f n : Int} : d1_ (hl_ a b c d e f) n ↔ n ∣ a ∧ n ∣ b ∧ n ∣ c ∧ n ∣ d ∧ n ∣ e ∧ n ∣ f := by
  constructor
  · intro h
    have h0 := h _ _ _ (hl_0 a b c d e f)
    have h1 := h _ _ _ (hl_1 a b c d e f)
    have h2 := h _ _ _ (hl_2 a b c d e f)
    exact ⟨h0.1, h0.2.1, h0.2.2, h1.2.1, h1.2.2, h2.2.2⟩
  · rintro ⟨⟨a', rfl⟩, ⟨b', rfl⟩, ⟨c', rfl⟩, ⟨d', rfl⟩, ⟨e', rfl⟩, ⟨f', rfl⟩⟩ x y z ⟨i, j, k, rfl, rfl, rfl⟩
    exact ⟨⟨i * a', by grind⟩, ⟨i * b' + j * d', by grind⟩, ⟨i * c' + j * e' + k * f', by grind⟩⟩
theorem hl_d2 {a b c d e f n : Int} : d2_ (hl_ a b c d e f) n ↔ n ∣ a * d ∧ n ∣ a * e ∧ n ∣ b * e - c * d ∧ n ∣ a * f ∧ n ∣ b * f ∧ n ∣ d * f := by
  constructor
  · intro h
    have h0 := h _ _ _ _ _ _ (hl_0 a b c d e f) (hl_1 a b c d e f)
    have h1 := h _ _ _ _ _ _ (hl_0 a b c d e f) (hl_2 a b c d e f)
    have h2 := h _ _ _ _ _ _ (hl_1 a b c d e f) (hl_2 a b c d e f)
    unfold m1_ m2_ m3_ at *
    exact ⟨nt_e h0.1 (by grind), nt_e h0.2.1 (by grind), nt_e h0.2.2 (by grind), nt_e h1.2.1 (by grind), nt_e h1.2.2 (by grind), nt_e h2.2.2 (by grind)⟩
  · rintro ⟨⟨p1, h1⟩, ⟨p2, h2⟩, ⟨p3, h3⟩, ⟨p4, h4⟩, ⟨p5, h5⟩, ⟨p6, h6⟩⟩ x y z x' y' z' ⟨i, j, k, rfl, rfl, rfl⟩ ⟨i', j', k', rfl, rfl, rfl⟩
    unfold m1_ m2_ m3_
    refine ⟨⟨(i * j' - j * i') * p1, ?_⟩, ⟨(i * j' - j * i') * p2 + (i * k' - k * i') * p4, ?_⟩, ⟨(i * j' - j * i') * p3 + (i * k' - k * i') * p5 + (j * k' - k * j') * p6, ?_⟩⟩
    · have : i * a * (i' * b + j' * d) - (i * b + j * d) * (i' * a) = (i * j' - j * i') * (a * d) := by grind
      rw [this, h1]; grind
    · have : i * a * (i' * c + j' * e + k' * f) - (i * c + j * e + k * f) * (i' * a) = (i * j' - j * i') * (a * e) + (i * k' - k * i') * (a * f) := by grind
      rw [this, h2, h4]; grind
    · have : (i * b + j * d) * (i' * c + j' * e + k' * f) - (i * c + j * e + k * f) * (i' * b + j' * d) = (i * j' - j * i') * (b * e - c * d) + (i * k' - k * i') * (b * f) + (j * k' - k * j') * (d * f) := by grind
      rw [this, h3, h5, h6]; grind
theorem hl_d3 {a b c d e f n : Int} : d3_ (hl_ a b c d e f) n ↔ n ∣ a * d * f := by
  constructor
  · intro h
    have h0 := h _ _ _ _ _ _ _ _ _ (hl_0 a b c d e f) (hl_1 a b c d e f) (hl_2 a b c d e f)
    exact nt_e h0 (by unfold dt_; grind)
  · rintro ⟨p, h⟩ x y z x' y' z' x'' y'' z'' ⟨i, j, k, rfl, rfl, rfl⟩ ⟨i', j', k', rfl, rfl, rfl⟩ ⟨i'', j'', k'', rfl, rfl, rfl⟩
    have : dt_ (i * a) (i * b + j * d) (i * c + j * e + k * f) (i' * a) (i' * b + j' * d) (i' * c + j' * e + k' * f) (i'' * a) (i'' * b + j'' * d) (i'' * c + j'' * e + k'' * f) = dt_ i j k i' j' k' i'' j'' k'' * (a * d * f) := by unfold dt_; grind
    rw [this, h]
    exact ⟨dt_ i j k i' j' k' i'' j'' k'' * p, by grind⟩
/-! a point more -/
def la_ (G : Int → Int → Int → Prop) (x0 y0 z0 x y z : Int) : Prop := ∃ m : Int, G (x - m * x0) (y - m * y0) (z - m * z0)
theorem la_in {G : Int → Int → Int → Prop} {x0 y0 z0 x y z : Int} (h : G x y z) : la_ G x0 y0 z0 x y z := ⟨0, gr_e h (by omega) (by omega) (by omega)⟩
theorem la_pt {G : Int → Int → Int → Prop} (g : gr_ G) (x0 y0 z0 : Int) : la_ G x0 y0 z0 x0 y0 z0 := ⟨1, gr_e g.1 (by omega) (by omega) (by omega)⟩
theorem la_gr {G : Int → Int → Int → Prop} (g : gr_ G) (x0 y0 z0 : Int) : gr_ (la_ G x0 y0 z0) := by
  refine ⟨la_in g.1, ?_⟩
  rintro x y z x' y' z' ⟨m, h⟩ ⟨m', h'⟩
  exact ⟨m - m', gr_e (g.2 _ _ _ _ _ _ h h') (by grind) (by grind) (by grind)⟩
/-- rows and one row more -/
theorem la_sp {Q Q' : Nat → Prop} {w : Nat → Nat → Int} {k : Nat} (hQ : ∀ i, Q' i ↔ Q i ∨ i = k) (x y z : Int) : sp_L Q' w x y z ↔ la_ (sp_L Q w) (w k 0) (w k 1) (w k 2) x y z := by
  constructor
  · intro s
    refine s _ (la_gr (sp_gr _ _) _ _ _) (fun i hi => ?_)
    rcases (hQ i).mp hi with h | h
    · exact la_in (sp_row h)
    · subst h; exact la_pt (sp_gr _ _) _ _ _
  · rintro ⟨m, h⟩
    have h1 : sp_L Q' w (x - m * w k 0) (y - m * w k 1) (z - m * w k 2) := sp_le (fun i hi => sp_row ((hQ i).mpr (Or.inl hi))) h
    have h2 : sp_L Q' w (w k 0) (w k 1) (w k 2) := sp_row ((hQ k).mpr (Or.inr rfl))
    exact gr_e (gr_add (sp_gr _ _) h1 (gr_mul (sp_gr _ _) h2 m)) (by omega) (by omega) (by omega)
theorem d1_c {G G' : Int → Int → Int → Prop} (h : ∀ x y z, G x y z ↔ G' x y z) {n : Int} : d1_ G n ↔ d1_ G' n := by
  have : G = G' := by funext x y z; exact propext (h x y z)
  rw [this]
theorem d2_c {G G' : Int → Int → Int → Prop} (h : ∀ x y z, G x y z ↔ G' x y z) {n : Int} : d2_ G n ↔ d2_ G' n := by
  have : G = G' := by funext x y z; exact propext (h x y z)
  rw [this]
theorem d3_c {G G' : Int → Int → Int → Prop} (h : ∀ x y z, G x y z ↔ G' x y z) {n : Int} : d3_ G n ↔ d3_ G' n := by
  have : G = G' := by funext x y z; exact propext (h x y z)
  rw [this]
theorem la_d1 {G : Int → Int → Int → Prop} (g : gr_ G) {x0 y0 z0 n : Int} : d1_ (la_ G x0 y0 z0) n ↔ d1_ G n ∧ n ∣ x0 ∧ n ∣ y0 ∧ n ∣ z0 := by
  constructor
  · intro h; exact ⟨fun x y z s => h x y z (la_in s), h _ _ _ (la_pt g _ _ _)⟩
  · rintro ⟨h, h1, h2, h3⟩ x y z ⟨m, s⟩
    obtain ⟨k1, k2, k3⟩ := h _ _ _ s
    exact ⟨nt_e (Int.dvd_add k1 (Int.dvd_mul_of_dvd_right (b := m) h1)) (by omega), nt_e (Int.dvd_add k2 (Int.dvd_mul_of_dvd_right (b := m) h2)) (by omega), nt_e (Int.dvd_add k3 (Int.dvd_mul_of_dvd_right (b := m) h3)) (by omega)⟩
theorem la_d2 {G : Int → Int → Int → Prop} (g : gr_ G) {x0 y0 z0 n : Int} : d2_ (la_ G x0 y0 z0) n ↔ d2_ G n ∧ ∀ x y z, G x y z → n ∣ m1_ x y z x0 y0 z0 ∧ n ∣ m2_ x y z x0 y0 z0 ∧ n ∣ m3_ x y z x0 y0 z0 := by
  constructor
  · intro h; exact ⟨fun x y z x' y' z' s s' => h _ _ _ _ _ _ (la_in s) (la_in s'), fun x y z s => h _ _ _ _ _ _ (la_in s) (la_pt g _ _ _)⟩
  · rintro ⟨h, h'⟩ x y z x' y' z' ⟨m, s⟩ ⟨m', s'⟩
    obtain ⟨k1, k2, k3⟩ := h _ _ _ _ _ _ s s'
    obtain ⟨l1, l2, l3⟩ := h' _ _ _ s
    obtain ⟨o1, o2, o3⟩ := h' _ _ _ s'
    unfold m1_ m2_ m3_ at *
    exact ⟨nt_e (Int.dvd_sub (Int.dvd_add k1 (Int.dvd_mul_of_dvd_right (b := m') l1)) (Int.dvd_mul_of_dvd_right (b := m) o1)) (by grind), nt_e (Int.dvd_sub (Int.dvd_add k2 (Int.dvd_mul_of_dvd_right (b := m') l2)) (Int.dvd_mul_of_dvd_right (b := m) o2)) (by grind), nt_e (Int.dvd_sub (Int.dvd_add k3 (Int.dvd_mul_of_dvd_right (b := m') l3)) (Int.dvd_mul_of_dvd_right (b := m) o3)) (by grind)⟩
theorem la_d3 {G : Int → Int → Int → Prop} (g : gr_ G) {x0 y0 z0 n : Int} : d3_ (la_ G x0 y0 z0) n ↔ d3_ G n ∧ ∀ x y z x' y' z', G x y z → G x' y' z' → n ∣ dt_ x0 y0 z0 x y z x' y' z' := by
  constructor
  · intro h; exact ⟨fun x y z x' y' z' x'' y'' z'' s s' s'' => h _ _ _ _ _ _ _ _ _ (la_in s) (la_in s') (la_in s''), fun x y z x' y' z' s s' => h _ _ _ _ _ _ _ _ _ (la_pt g _ _ _) (la_in s) (la_in s')⟩
  · rintro ⟨h, h'⟩ x y z x' y' z' x'' y'' z'' ⟨m, s⟩ ⟨m', s'⟩ ⟨m'', s''⟩
    have k := h _ _ _ _ _ _ _ _ _ s s' s''
    have l1 := h' _ _ _ _ _ _ s' s''
    have l2 := h' _ _ _ _ _ _ s'' s
    have l3 := h' _ _ _ _ _ _ s s'
    refine nt_e (Int.dvd_add (Int.dvd_add (Int.dvd_add k (Int.dvd_mul_of_dvd_right (b := m) l1)) (Int.dvd_mul_of_dvd_right (b := m') l2)) (Int.dvd_mul_of_dvd_right (b := m'') l3)) ?_
    unfold dt_; grind
end
section
/-! how often a point must be taken to be in a grid -/
def oy_ (G : Int → Int → Int → Prop) (x y z k : Int) : Prop := 0 < k ∧ ∀ m : Int, G (m * x) (m * y) (m * z) ↔ k ∣ m
def on_ (G : Int → Int → Int → Prop) (x y z : Int) : Prop := ∀ m : Int, m ≠ 0 → ¬ G (m * x) (m * y) (m * z)
theorem nt_pos {D D' : Int} (h : 0 < D) (h' : 0 < D') (k : D' ∣ D) : 0 < D / D' := by
  obtain ⟨q, rfl⟩ := k
  rw [Int.mul_ediv_cancel_left _ (by omega)]
  exact Int.pos_of_mul_pos_right (a := D') h (by omega)
theorem or_3 {a b c d e f x y z g g' : Int} (h0 : a * d * f ≠ 0) (hg : ∀ n : Int, n ∣ g ↔ d3_ (hl_ a b c d e f) n) (hg' : ∀ n : Int, n ∣ g' ↔ d3_ (la_ (hl_ a b c d e f) x y z) n) (p : 0 ≤ g) (p' : 0 ≤ g') : 0 < g' ∧ oy_ (hl_ a b c d e f) x y z (g / g') := by
  have gD : g ∣ a * d * f := hl_d3.mp ((hg g).mp (Int.dvd_refl _))
  have Dg : a * d * f ∣ g := (hg _).mpr (hl_d3.mpr (Int.dvd_refl _))
  have hg0 : g ≠ 0 := by intro q; rw [q] at gD; exact h0 (Int.zero_dvd.mp gD)
  let α := { u : (Int × Int × Int) × (Int × Int × Int) // hl_ a b c d e f u.1.1 u.1.2.1 u.1.2.2 ∧ hl_ a b c d e f u.2.1 u.2.2.1 u.2.2.2 }
  have key : ∀ n : Int, n ∣ g' ↔ n ∣ g ∧ ∀ u : α, n ∣ dt_ x y z u.1.1.1 u.1.1.2.1 u.1.1.2.2 u.1.2.1 u.1.2.2.1 u.1.2.2.2 := by
    intro n
    rw [hg', la_d3 (hl_gr a b c d e f), ← hg]
    constructor
    · rintro ⟨h1, h2⟩; exact ⟨h1, fun u => h2 _ _ _ _ _ _ u.2.1 u.2.2⟩
    · rintro ⟨h1, h2⟩; exact ⟨h1, fun x1 y1 z1 x2 y2 z2 s1 s2 => h2 ⟨((x1, y1, z1), (x2, y2, z2)), s1, s2⟩⟩
  have dg : g' ∣ g := ((key g').mp (Int.dvd_refl _)).1
  have hg'0 : g' ≠ 0 := by intro q; rw [q] at dg; exact hg0 (Int.zero_dvd.mp dg)
  have ad : a ≠ 0 ∧ d ≠ 0 ∧ f ≠ 0 := ⟨by intro q; rw [q] at h0; simp at h0, by intro q; rw [q] at h0; simp at h0, by intro q; rw [q] at h0; simp at h0⟩
  refine ⟨by omega, nt_pos (by omega) (by omega) dg, fun m => ?_⟩
  rw [← nt_ord _ hg0 key m]
  constructor
  · intro s u
    have := ((hg g).mp (Int.dvd_refl _)) _ _ _ _ _ _ _ _ _ s u.2.1 u.2.2
    exact nt_e this (by unfold dt_; grind)
  · intro k
    have k1 := Int.dvd_trans Dg (k ⟨((0, d, e), (0, 0, f)), hl_1 a b c d e f, hl_2 a b c d e f⟩)
    have k2 := Int.dvd_trans Dg (k ⟨((0, 0, f), (a, b, c)), hl_2 a b c d e f, hl_0 a b c d e f⟩)
    have k3 := Int.dvd_trans Dg (k ⟨((a, b, c), (0, d, e)), hl_0 a b c d e f, hl_1 a b c d e f⟩)
    obtain ⟨i, k1⟩ := k1
    obtain ⟨j, k2⟩ := k2
    obtain ⟨l, k3⟩ := k3
    dsimp only at k1 k2 k3
    unfold dt_ at k1 k2 k3
    have e1 : m * x = i * a := by
      have : (d * f) * (m * x) = (d * f) * (i * a) := by grind
      exact Int.eq_of_mul_eq_mul_left (by simp [ad]) this
    have e2 : m * y = i * b + j * d := by
      have : (a * f) * (m * y) = (a * f) * (i * b + j * d) := by grind
      exact Int.eq_of_mul_eq_mul_left (by simp [ad]) this
    have e3 : m * z = i * c + j * e + l * f := by
      have : (a * d) * (m * z) = (a * d) * (i * c + j * e + l * f) := by grind
      exact Int.eq_of_mul_eq_mul_left (by simp [ad]) this
    exact ⟨i, j, l, e1, e2, e3⟩
/-- two rows -/
theorem or_2n {G : Int → Int → Int → Prop} {p0 p1 p2 q0 q1 q2 x y z : Int} (hG : ∀ x y z, G x y z ↔ ∃ i j : Int, x = i * p0 + j * q0 ∧ y = i * p1 + j * q1 ∧ z = i * p2 + j * q2) (h : dt_ x y z p0 p1 p2 q0 q1 q2 ≠ 0) : on_ G x y z := by
  intro m hm s
  obtain ⟨i, j, e1, e2, e3⟩ := (hG _ _ _).mp s
  have : m * dt_ x y z p0 p1 p2 q0 q1 q2 = 0 := by
    have h1 : m * dt_ x y z p0 p1 p2 q0 q1 q2 = dt_ (m * x) (m * y) (m * z) p0 p1 p2 q0 q1 q2 := by unfold dt_; grind
    rw [h1, e1, e2, e3]; unfold dt_; grind
  rcases Int.mul_eq_zero.mp this with h2 | h2
  · exact hm h2
  · exact h h2
theorem or_2 {G : Int → Int → Int → Prop} {p0 p1 p2 q0 q1 q2 x y z g g' : Int} (gG : gr_ G) (hG : ∀ x y z, G x y z ↔ ∃ i j : Int, x = i * p0 + j * q0 ∧ y = i * p1 + j * q1 ∧ z = i * p2 + j * q2) (h : dt_ x y z p0 p1 p2 q0 q1 q2 = 0) (hg0 : g ≠ 0) (hg : ∀ n : Int, n ∣ g ↔ d2_ G n) (hg' : ∀ n : Int, n ∣ g' ↔ d2_ (la_ G x y z) n) (p : 0 ≤ g) (p' : 0 ≤ g') : 0 < g' ∧ oy_ G x y z (g / g') := by
  have sp : G p0 p1 p2 := (hG _ _ _).mpr ⟨1, 0, by omega, by omega, by omega⟩
  have sq : G q0 q1 q2 := (hG _ _ _).mpr ⟨0, 1, by omega, by omega, by omega⟩
  have hn : ∀ n : Int, n ∣ g ↔ n ∣ m1_ p0 p1 p2 q0 q1 q2 ∧ n ∣ m2_ p0 p1 p2 q0 q1 q2 ∧ n ∣ m3_ p0 p1 p2 q0 q1 q2 := by
    intro n
    rw [hg]
    constructor
    · intro k; exact k _ _ _ _ _ _ sp sq
    · rintro ⟨⟨r1, k1⟩, ⟨r2, k2⟩, ⟨r3, k3⟩⟩ x y z x' y' z' s s'
      obtain ⟨i, j, rfl, rfl, rfl⟩ := (hG _ _ _).mp s
      obtain ⟨i', j', rfl, rfl, rfl⟩ := (hG _ _ _).mp s'
      unfold m1_ m2_ m3_ at *
      exact ⟨⟨(i * j' - j * i') * r1, by grind⟩, ⟨(i * j' - j * i') * r2, by grind⟩, ⟨(i * j' - j * i') * r3, by grind⟩⟩
  let α := { u : Int × Int × Int // G u.1 u.2.1 u.2.2 } × Nat
  let t : α → Int := fun u => if u.2 = 0 then m1_ u.1.1.1 u.1.1.2.1 u.1.1.2.2 x y z else if u.2 = 1 then m2_ u.1.1.1 u.1.1.2.1 u.1.1.2.2 x y z else m3_ u.1.1.1 u.1.1.2.1 u.1.1.2.2 x y z
  have tt : ∀ n m : Int, (∀ u : α, n ∣ m * t u) ↔ ∀ x1 y1 z1, G x1 y1 z1 → n ∣ m * m1_ x1 y1 z1 x y z ∧ n ∣ m * m2_ x1 y1 z1 x y z ∧ n ∣ m * m3_ x1 y1 z1 x y z := by
    intro n m
    constructor
    · intro k x1 y1 z1 s
      exact ⟨k (⟨(x1, y1, z1), s⟩, 0), k (⟨(x1, y1, z1), s⟩, 1), k (⟨(x1, y1, z1), s⟩, 2)⟩
    · intro k u
      obtain ⟨k1, k2, k3⟩ := k _ _ _ u.1.2
      show n ∣ m * (if u.2 = 0 then _ else if u.2 = 1 then _ else _)
      by_cases c0 : u.2 = 0
      · rw [if_pos c0]; exact k1
      · rw [if_neg c0]
        by_cases c1 : u.2 = 1
        · rw [if_pos c1]; exact k2
        · rw [if_neg c1]; exact k3
  have key : ∀ n : Int, n ∣ g' ↔ n ∣ g ∧ ∀ u : α, n ∣ t u := by
    intro n
    rw [hg', la_d2 gG, ← hg]
    have := tt n 1
    simp only [Int.one_mul] at this
    rw [this]
  have dg : g' ∣ g := ((key g').mp (Int.dvd_refl _)).1
  have hg'0 : g' ≠ 0 := by intro q; rw [q] at dg; exact hg0 (Int.zero_dvd.mp dg)
  refine ⟨by omega, nt_pos (by omega) (by omega) dg, fun m => ?_⟩
  rw [← nt_ord _ hg0 key m, tt]
  constructor
  · intro s x1 y1 z1 s1
    obtain ⟨k1, k2, k3⟩ := ((hg g).mp (Int.dvd_refl _)) _ _ _ _ _ _ s1 s
    unfold m1_ m2_ m3_ at *
    exact ⟨nt_e k1 (by grind), nt_e k2 (by grind), nt_e k3 (by grind)⟩
  · intro k
    obtain ⟨k1, k2, k3⟩ := k _ _ _ sp
    obtain ⟨l1, l2, l3⟩ := k _ _ _ sq
    obtain ⟨Y, y1, y2, y3⟩ := nt_par hn hg0 l1 l2 l3 (by unfold dt_ m1_ m2_ m3_ at *; grind) (by unfold dt_ m1_ m2_ m3_ at *; grind) (by unfold dt_ m1_ m2_ m3_ at *; grind)
    obtain ⟨X, x1, x2, x3⟩ := nt_par hn hg0 k1 k2 k3 (by unfold dt_ m1_ m2_ m3_ at *; grind) (by unfold dt_ m1_ m2_ m3_ at *; grind) (by unfold dt_ m1_ m2_ m3_ at *; grind)
    have N0 : m1_ p0 p1 p2 q0 q1 q2 ≠ 0 ∨ m2_ p0 p1 p2 q0 q1 q2 ≠ 0 ∨ m3_ p0 p1 p2 q0 q1 q2 ≠ 0 := by
      by_cases c1 : m1_ p0 p1 p2 q0 q1 q2 = 0
      · by_cases c2 : m2_ p0 p1 p2 q0 q1 q2 = 0
        · refine Or.inr (Or.inr fun c3 => hg0 (Int.zero_dvd.mp ((hn 0).mpr ⟨?_, ?_, ?_⟩)))
          · rw [c1]; exact Int.dvd_refl _
          · rw [c2]; exact Int.dvd_refl _
          · rw [c3]; exact Int.dvd_refl _
        · exact Or.inr (Or.inl c2)
      · exact Or.inl c1
    have go : ∀ s : Int, s * m1_ p0 p1 p2 q0 q1 q2 = 0 → s * m2_ p0 p1 p2 q0 q1 q2 = 0 → s * m3_ p0 p1 p2 q0 q1 q2 = 0 → s = 0 := by
      intro s c1 c2 c3
      rcases N0 with h' | h' | h'
      · exact (Int.mul_eq_zero.mp c1).resolve_right h'
      · exact (Int.mul_eq_zero.mp c2).resolve_right h'
      · exact (Int.mul_eq_zero.mp c3).resolve_right h'
    have hm : m * dt_ x y z p0 p1 p2 q0 q1 q2 = 0 := by rw [h]; simp
    have s0 := go (m * x + Y * p0 - X * q0) (by unfold dt_ m1_ m2_ m3_ at *; grind) (by unfold dt_ m1_ m2_ m3_ at *; grind) (by unfold dt_ m1_ m2_ m3_ at *; grind)
    have s1 := go (m * y + Y * p1 - X * q1) (by unfold dt_ m1_ m2_ m3_ at *; grind) (by unfold dt_ m1_ m2_ m3_ at *; grind) (by unfold dt_ m1_ m2_ m3_ at *; grind)
    have s2 := go (m * z + Y * p2 - X * q2) (by unfold dt_ m1_ m2_ m3_ at *; grind) (by unfold dt_ m1_ m2_ m3_ at *; grind) (by unfold dt_ m1_ m2_ m3_ at *; grind)
    exact (hG _ _ _).mpr ⟨-Y, X, by grind, by grind, by grind⟩
/-- one row -/
theorem or_1n {G : Int → Int → Int → Prop} {p0 p1 p2 x y z : Int} (hG : ∀ x y z, G x y z ↔ ∃ i : Int, x = i * p0 ∧ y = i * p1 ∧ z = i * p2) (h : ¬ (m1_ p0 p1 p2 x y z = 0 ∧ m2_ p0 p1 p2 x y z = 0 ∧ m3_ p0 p1 p2 x y z = 0)) : on_ G x y z := by
  intro m hm s
  obtain ⟨i, e1, e2, e3⟩ := (hG _ _ _).mp s
  refine h ⟨?_, ?_, ?_⟩
  · have : m * m1_ p0 p1 p2 x y z = 0 := by unfold m1_; grind
    exact (Int.mul_eq_zero.mp this).resolve_left hm
  · have : m * m2_ p0 p1 p2 x y z = 0 := by unfold m2_; grind
    exact (Int.mul_eq_zero.mp this).resolve_left hm
  · have : m * m3_ p0 p1 p2 x y z = 0 := by unfold m3_; grind
    exact (Int.mul_eq_zero.mp this).resolve_left hm
theorem or_1 {G : Int → Int → Int → Prop} {p0 p1 p2 x y z g g' : Int} (gG : gr_ G) (hG : ∀ x y z, G x y z ↔ ∃ i : Int, x = i * p0 ∧ y = i * p1 ∧ z = i * p2) (h : m1_ p0 p1 p2 x y z = 0 ∧ m2_ p0 p1 p2 x y z = 0 ∧ m3_ p0 p1 p2 x y z = 0) (hg0 : g ≠ 0) (hg : ∀ n : Int, n ∣ g ↔ d1_ G n) (hg' : ∀ n : Int, n ∣ g' ↔ d1_ (la_ G x y z) n) (p : 0 ≤ g) (p' : 0 ≤ g') : 0 < g' ∧ oy_ G x y z (g / g') := by
  have sp : G p0 p1 p2 := (hG _ _ _).mpr ⟨1, by omega, by omega, by omega⟩
  have hn : ∀ n : Int, n ∣ g ↔ n ∣ p0 ∧ n ∣ p1 ∧ n ∣ p2 := by
    intro n
    rw [hg]
    constructor
    · intro k; exact k _ _ _ sp
    · rintro ⟨⟨r1, k1⟩, ⟨r2, k2⟩, ⟨r3, k3⟩⟩ x y z s
      obtain ⟨i, rfl, rfl, rfl⟩ := (hG _ _ _).mp s
      exact ⟨⟨i * r1, by grind⟩, ⟨i * r2, by grind⟩, ⟨i * r3, by grind⟩⟩
  let t : Nat → Int := fun u => if u = 0 then x else if u = 1 then y else z
  have tt : ∀ n m : Int, (∀ u : Nat, n ∣ m * t u) ↔ n ∣ m * x ∧ n ∣ m * y ∧ n ∣ m * z := by
    intro n m
    constructor
    · intro k; exact ⟨k 0, k 1, k 2⟩
    · rintro ⟨k1, k2, k3⟩ u
      show n ∣ m * (if u = 0 then _ else if u = 1 then _ else _)
      by_cases c0 : u = 0
      · rw [if_pos c0]; exact k1
      · rw [if_neg c0]
        by_cases c1 : u = 1
        · rw [if_pos c1]; exact k2
        · rw [if_neg c1]; exact k3
  have key : ∀ n : Int, n ∣ g' ↔ n ∣ g ∧ ∀ u : Nat, n ∣ t u := by
    intro n
    rw [hg', la_d1 gG, ← hg]
    have := tt n 1
    simp only [Int.one_mul] at this
    rw [this]
  have dg : g' ∣ g := ((key g').mp (Int.dvd_refl _)).1
  have hg'0 : g' ≠ 0 := by intro q; rw [q] at dg; exact hg0 (Int.zero_dvd.mp dg)
  refine ⟨by omega, nt_pos (by omega) (by omega) dg, fun m => ?_⟩
  rw [← nt_ord _ hg0 key m, tt]
  constructor
  · intro s; exact ((hg g).mp (Int.dvd_refl _)) _ _ _ s
  · rintro ⟨k1, k2, k3⟩
    obtain ⟨h1, h2, h3⟩ := h
    obtain ⟨Y, y1, y2, y3⟩ := nt_par hn hg0 k1 k2 k3 (by unfold m1_ m2_ m3_ at *; grind) (by unfold m1_ m2_ m3_ at *; grind) (by unfold m1_ m2_ m3_ at *; grind)
    exact (hG _ _ _).mpr ⟨Y, y1, y2, y3⟩
end
section
/-! the rank by divisors, and the order by it -/
def rk_ (g1 g2 g3 : Int) : Nat := if g3 ≠ 0 then 3 else if g2 ≠ 0 then 2 else if g1 ≠ 0 then 1 else 0
def gk_ (g1 g2 g3 : Int) (r : Nat) : Int := if r = 0 then 1 else if r = 1 then g1 else if r = 2 then g2 else g3
def oc_ (G : Int → Int → Int → Prop) (x y z g1 g2 g3 g1' g2' g3' : Int) : Prop :=
  (rk_ g1 g2 g3 < rk_ g1' g2' g3' → on_ G x y z) ∧ (rk_ g1' g2' g3' ≤ rk_ g1 g2 g3 → 0 < gk_ g1' g2' g3' (rk_ g1 g2 g3) ∧ oy_ G x y z (gk_ g1 g2 g3 (rk_ g1 g2 g3) / gk_ g1' g2' g3' (rk_ g1 g2 g3)))
theorem rk_3 {g1 g2 g3 : Int} (h : g3 ≠ 0) : rk_ g1 g2 g3 = 3 := by unfold rk_; rw [if_pos h]
theorem rk_2 {g1 g2 g3 : Int} (h : g3 = 0) (h2 : g2 ≠ 0) : rk_ g1 g2 g3 = 2 := by unfold rk_; rw [if_neg (by omega), if_pos h2]
theorem rk_1 {g1 g2 g3 : Int} (h : g3 = 0) (h2 : g2 = 0) (h1 : g1 ≠ 0) : rk_ g1 g2 g3 = 1 := by unfold rk_; rw [if_neg (by omega), if_neg (by omega), if_pos h1]
theorem rk_0 {g1 g2 g3 : Int} (h : g3 = 0) (h2 : g2 = 0) (h1 : g1 = 0) : rk_ g1 g2 g3 = 0 := by unfold rk_; rw [if_neg (by omega), if_neg (by omega), if_neg (by omega)]
theorem rk_lt (g1 g2 g3 : Int) : rk_ g1 g2 g3 < 4 := by unfold rk_; split; omega; split; omega; split <;> omega
theorem oc_3 {a b c d e f x y z g1 g2 g3 g1' g2' g3' : Int} (h0 : a * d * f ≠ 0) (hg : ∀ n : Int, n ∣ g3 ↔ d3_ (hl_ a b c d e f) n) (hg' : ∀ n : Int, n ∣ g3' ↔ d3_ (la_ (hl_ a b c d e f) x y z) n) (p : 0 ≤ g3) (p' : 0 ≤ g3') (hr : g3 ≠ 0) : oc_ (hl_ a b c d e f) x y z g1 g2 g3 g1' g2' g3' := by
  unfold oc_
  rw [rk_3 hr]
  refine ⟨fun h => ?_, fun _ => or_3 h0 hg hg' p p'⟩
  have := rk_lt g1' g2' g3'; omega
theorem oc_2 {G : Int → Int → Int → Prop} {p0 p1 p2 q0 q1 q2 x y z g1 g2 g3 g1' g2' g3' : Int} (gG : gr_ G) (hG : ∀ x y z, G x y z ↔ ∃ i j : Int, x = i * p0 + j * q0 ∧ y = i * p1 + j * q1 ∧ z = i * p2 + j * q2) (hr3 : g3 = 0) (hr2 : g2 ≠ 0) (hg : ∀ n : Int, n ∣ g2 ↔ d2_ G n) (hg' : ∀ n : Int, n ∣ g2' ↔ d2_ (la_ G x y z) n) (hg3' : ∀ n : Int, n ∣ g3' ↔ d3_ (la_ G x y z) n) (p : 0 ≤ g2) (p' : 0 ≤ g2') : oc_ G x y z g1 g2 g3 g1' g2' g3' := by
  have sp : G p0 p1 p2 := (hG _ _ _).mpr ⟨1, 0, by omega, by omega, by omega⟩
  have sq : G q0 q1 q2 := (hG _ _ _).mpr ⟨0, 1, by omega, by omega, by omega⟩
  unfold oc_
  rw [rk_2 hr3 hr2]
  constructor
  · intro h
    have h3 : g3' ≠ 0 := by
      intro q
      unfold rk_ at h
      rw [if_neg (by omega)] at h
      split at h
      · omega
      · split at h <;> omega
    refine or_2n hG (fun q => h3 (Int.zero_dvd.mp ((hg3' 0).mpr ?_)))
    rw [la_d3 gG]
    constructor
    · intro x1 y1 z1 x2 y2 z2 x3 y3 z3 s1 s2 s3
      obtain ⟨i, j, rfl, rfl, rfl⟩ := (hG _ _ _).mp s1
      obtain ⟨i', j', rfl, rfl, rfl⟩ := (hG _ _ _).mp s2
      obtain ⟨i'', j'', rfl, rfl, rfl⟩ := (hG _ _ _).mp s3
      exact ⟨0, by unfold dt_; grind⟩
    · intro x1 y1 z1 x2 y2 z2 s1 s2
      obtain ⟨i, j, rfl, rfl, rfl⟩ := (hG _ _ _).mp s1
      obtain ⟨i', j', rfl, rfl, rfl⟩ := (hG _ _ _).mp s2
      have : dt_ x y z (i * p0 + j * q0) (i * p1 + j * q1) (i * p2 + j * q2) (i' * p0 + j' * q0) (i' * p1 + j' * q1) (i' * p2 + j' * q2) = (i * j' - j * i') * dt_ x y z p0 p1 p2 q0 q1 q2 := by unfold dt_; grind
      rw [this, q]
      exact ⟨0, by simp⟩
  · intro h
    have h3 : g3' = 0 := by
      by_cases q : g3' = 0
      · exact q
      · rw [rk_3 q] at h; omega
    have h4 : d3_ (la_ G x y z) 0 := (hg3' 0).mp (by rw [h3]; exact Int.dvd_refl _)
    have h5 := Int.zero_dvd.mp (h4 _ _ _ _ _ _ _ _ _ (la_pt gG x y z) (la_in sp) (la_in sq))
    exact or_2 gG hG h5 hr2 hg hg' p p'
theorem oc_1 {G : Int → Int → Int → Prop} {p0 p1 p2 x y z g1 g2 g3 g1' g2' g3' : Int} (gG : gr_ G) (hG : ∀ x y z, G x y z ↔ ∃ i : Int, x = i * p0 ∧ y = i * p1 ∧ z = i * p2) (hr3 : g3 = 0) (hr2 : g2 = 0) (hr1 : g1 ≠ 0) (hg : ∀ n : Int, n ∣ g1 ↔ d1_ G n) (hg' : ∀ n : Int, n ∣ g1' ↔ d1_ (la_ G x y z) n) (hg2' : ∀ n : Int, n ∣ g2' ↔ d2_ (la_ G x y z) n) (hg3' : ∀ n : Int, n ∣ g3' ↔ d3_ (la_ G x y z) n) (p : 0 ≤ g1) (p' : 0 ≤ g1') : oc_ G x y z g1 g2 g3 g1' g2' g3' := by
  have sp : G p0 p1 p2 := (hG _ _ _).mpr ⟨1, by omega, by omega, by omega⟩
  have h23 : g2' = 0 → g3' = 0 := fun q => Int.zero_dvd.mp ((hg3' 0).mpr (d23 ((hg2' 0).mp (by rw [q]; exact Int.dvd_refl _))))
  unfold oc_
  rw [rk_1 hr3 hr2 hr1]
  constructor
  · intro h
    have h2 : g2' ≠ 0 := by
      intro q
      have q3 := h23 q
      unfold rk_ at h
      rw [if_neg (by omega), if_neg (by omega)] at h
      split at h <;> omega
    refine or_1n hG (fun q => h2 (Int.zero_dvd.mp ((hg2' 0).mpr ?_)))
    rw [la_d2 gG]
    constructor
    · intro x1 y1 z1 x2 y2 z2 s1 s2
      obtain ⟨i, rfl, rfl, rfl⟩ := (hG _ _ _).mp s1
      obtain ⟨i', rfl, rfl, rfl⟩ := (hG _ _ _).mp s2
      unfold m1_ m2_ m3_
      exact ⟨⟨0, by grind⟩, ⟨0, by grind⟩, ⟨0, by grind⟩⟩
    · intro x1 y1 z1 s1
      obtain ⟨i, rfl, rfl, rfl⟩ := (hG _ _ _).mp s1
      obtain ⟨q1, q2, q3⟩ := q
      unfold m1_ m2_ m3_ at *
      exact ⟨⟨0, by grind⟩, ⟨0, by grind⟩, ⟨0, by grind⟩⟩
  · intro h
    have h3 : g2' = 0 := by
      by_cases q : g2' = 0
      · exact q
      · by_cases q3 : g3' = 0
        · rw [rk_2 q3 q] at h; omega
        · rw [rk_3 q3] at h; omega
    have h4 : d2_ (la_ G x y z) 0 := (hg2' 0).mp (by rw [h3]; exact Int.dvd_refl _)
    obtain ⟨k1, k2, k3⟩ := h4 _ _ _ _ _ _ (la_in sp) (la_pt gG x y z)
    exact or_1 gG hG ⟨Int.zero_dvd.mp k1, Int.zero_dvd.mp k2, Int.zero_dvd.mp k3⟩ hr1 hg hg' p p'
theorem oc_0 {G : Int → Int → Int → Prop} {x y z g1 g2 g3 g1' g2' g3' : Int} (gG : gr_ G) (hG : ∀ x y z, G x y z ↔ x = 0 ∧ y = 0 ∧ z = 0) (hr3 : g3 = 0) (hr2 : g2 = 0) (hr1 : g1 = 0) (hg' : ∀ n : Int, n ∣ g1' ↔ d1_ (la_ G x y z) n) (hg2' : ∀ n : Int, n ∣ g2' ↔ d2_ (la_ G x y z) n) (hg3' : ∀ n : Int, n ∣ g3' ↔ d3_ (la_ G x y z) n) : oc_ G x y z g1 g2 g3 g1' g2' g3' := by
  have h12 : g1' = 0 → g2' = 0 := fun q => Int.zero_dvd.mp ((hg2' 0).mpr (d12 ((hg' 0).mp (by rw [q]; exact Int.dvd_refl _))))
  have h23 : g2' = 0 → g3' = 0 := fun q => Int.zero_dvd.mp ((hg3' 0).mpr (d23 ((hg2' 0).mp (by rw [q]; exact Int.dvd_refl _))))
  unfold oc_
  rw [rk_0 hr3 hr2 hr1]
  constructor
  · intro h m hm s
    obtain ⟨e1, e2, e3⟩ := (hG _ _ _).mp s
    have e1 := (Int.mul_eq_zero.mp e1).resolve_left hm
    have e2 := (Int.mul_eq_zero.mp e2).resolve_left hm
    have e3 := (Int.mul_eq_zero.mp e3).resolve_left hm
    have q1 : g1' = 0 := by
      refine Int.zero_dvd.mp ((hg' 0).mpr ((la_d1 gG).mpr ⟨?_, by simp [e1], by simp [e2], by simp [e3]⟩))
      intro x1 y1 z1 s1
      obtain ⟨rfl, rfl, rfl⟩ := (hG _ _ _).mp s1
      simp
    rw [rk_0 (h23 (h12 q1)) (h12 q1) q1] at h
    omega
  · intro h
    have q1 : g1' = 0 := by
      by_cases q : g1' = 0
      · exact q
      · exfalso
        unfold rk_ at h
        split at h
        · omega
        · split at h
          · omega
          · omega
    obtain ⟨_, k1, k2, k3⟩ := (la_d1 gG).mp ((hg' 0).mp (by rw [q1]; exact Int.dvd_refl _))
    have k1 := Int.zero_dvd.mp k1
    have k2 := Int.zero_dvd.mp k2
    have k3 := Int.zero_dvd.mp k3
    have k0 : gk_ g1 g2 g3 0 / gk_ g1' g2' g3' 0 = 1 := rfl
    have k0' : gk_ g1' g2' g3' 0 = 1 := rfl
    rw [k0]
    refine ⟨by rw [k0']; decide, by decide, fun m => ?_⟩
    rw [hG, k1, k2, k3]
    simp
theorem oc_all {a b c d e f x y z g1 g2 g3 g1' g2' g3' : Int} (ha : a = 0 → b = 0 ∧ c = 0) (hd : d = 0 → e = 0)
    (h1 : ∀ n : Int, n ∣ g1 ↔ d1_ (hl_ a b c d e f) n) (h2 : ∀ n : Int, n ∣ g2 ↔ d2_ (hl_ a b c d e f) n) (h3 : ∀ n : Int, n ∣ g3 ↔ d3_ (hl_ a b c d e f) n)
    (h1' : ∀ n : Int, n ∣ g1' ↔ d1_ (la_ (hl_ a b c d e f) x y z) n) (h2' : ∀ n : Int, n ∣ g2' ↔ d2_ (la_ (hl_ a b c d e f) x y z) n) (h3' : ∀ n : Int, n ∣ g3' ↔ d3_ (la_ (hl_ a b c d e f) x y z) n)
    (p1 : 0 ≤ g1) (p2 : 0 ≤ g2) (p3 : 0 ≤ g3) (p1' : 0 ≤ g1') (p2' : 0 ≤ g2') (p3' : 0 ≤ g3') : oc_ (hl_ a b c d e f) x y z g1 g2 g3 g1' g2' g3' := by
  have gG := hl_gr a b c d e f
  by_cases q3 : g3 = 0
  · have k3 : a * d * f = 0 := Int.zero_dvd.mp (hl_d3.mp ((h3 0).mp (by rw [q3]; exact Int.dvd_refl _)))
    by_cases q2 : g2 = 0
    · obtain ⟨l1, l2, l3, l4, l5, l6⟩ := hl_d2.mp ((h2 0).mp (by rw [q2]; exact Int.dvd_refl _))
      have l1 := Int.zero_dvd.mp l1
      have l4 := Int.zero_dvd.mp l4
      have l6 := Int.zero_dvd.mp l6
      by_cases q1 : g1 = 0
      · obtain ⟨r1, r2, r3, r4, r5, r6⟩ := hl_d1.mp ((h1 0).mp (by rw [q1]; exact Int.dvd_refl _))
        have r1 := Int.zero_dvd.mp r1
        have r2 := Int.zero_dvd.mp r2
        have r3 := Int.zero_dvd.mp r3
        have r4 := Int.zero_dvd.mp r4
        have r5 := Int.zero_dvd.mp r5
        have r6 := Int.zero_dvd.mp r6
        subst r1; subst r2; subst r3; subst r4; subst r5; subst r6
        refine oc_0 gG (fun x y z => ⟨?_, ?_⟩) q3 q2 q1 h1' h2' h3'
        · rintro ⟨i, j, k, e1, e2, e3⟩; exact ⟨by simpa using e1, by simpa using e2, by simpa using e3⟩
        · rintro ⟨rfl, rfl, rfl⟩; exact gG.1
      · by_cases za : a = 0
        · obtain ⟨zb, zc⟩ := ha za
          by_cases zd : d = 0
          · have ze := hd zd
            subst za; subst zb; subst zc; subst zd; subst ze
            refine oc_1 (p0 := 0) (p1 := 0) (p2 := f) gG (fun x y z => ⟨?_, ?_⟩) q3 q2 q1 h1 h1' h2' h3' p1 p1'
            · rintro ⟨i, j, k, e1, e2, e3⟩; exact ⟨k, by simpa using e1, by simpa using e2, by simpa using e3⟩
            · rintro ⟨k, e1, e2, e3⟩; exact ⟨0, 0, k, by simpa using e1, by simpa using e2, by simpa using e3⟩
          · have zf : f = 0 := (Int.mul_eq_zero.mp l6).resolve_left zd
            subst za; subst zb; subst zc; subst zf
            refine oc_1 (p0 := 0) (p1 := d) (p2 := e) gG (fun x y z => ⟨?_, ?_⟩) q3 q2 q1 h1 h1' h2' h3' p1 p1'
            · rintro ⟨i, j, k, e1, e2, e3⟩; exact ⟨j, by simpa using e1, by simpa using e2, by simpa using e3⟩
            · rintro ⟨j, e1, e2, e3⟩; exact ⟨0, j, 0, by simpa using e1, by simpa using e2, by simpa using e3⟩
        · have zd : d = 0 := (Int.mul_eq_zero.mp l1).resolve_left za
          have zf : f = 0 := (Int.mul_eq_zero.mp l4).resolve_left za
          have ze := hd zd
          subst zd; subst ze; subst zf
          refine oc_1 (p0 := a) (p1 := b) (p2 := c) gG (fun x y z => ⟨?_, ?_⟩) q3 q2 q1 h1 h1' h2' h3' p1 p1'
          · rintro ⟨i, j, k, e1, e2, e3⟩; exact ⟨i, by simpa using e1, by simpa using e2, by simpa using e3⟩
          · rintro ⟨i, e1, e2, e3⟩; exact ⟨i, 0, 0, by simpa using e1, by simpa using e2, by simpa using e3⟩
    · by_cases zf : f = 0
      · subst zf
        refine oc_2 (p0 := a) (p1 := b) (p2 := c) (q0 := 0) (q1 := d) (q2 := e) gG (fun x y z => ⟨?_, ?_⟩) q3 q2 h2 h2' h3' p2 p2'
        · rintro ⟨i, j, k, e1, e2, e3⟩; exact ⟨i, j, by simpa using e1, by simpa using e2, by simpa using e3⟩
        · rintro ⟨i, j, e1, e2, e3⟩; exact ⟨i, j, 0, by simpa using e1, by simpa using e2, by simpa using e3⟩
      · by_cases za : a = 0
        · obtain ⟨zb, zc⟩ := ha za
          subst za; subst zb; subst zc
          refine oc_2 (p0 := 0) (p1 := d) (p2 := e) (q0 := 0) (q1 := 0) (q2 := f) gG (fun x y z => ⟨?_, ?_⟩) q3 q2 h2 h2' h3' p2 p2'
          · rintro ⟨i, j, k, e1, e2, e3⟩; exact ⟨j, k, by simpa using e1, by simpa using e2, by simpa using e3⟩
          · rintro ⟨j, k, e1, e2, e3⟩; exact ⟨0, j, k, by simpa using e1, by simpa using e2, by simpa using e3⟩
        · have zd : d = 0 := by
            rcases Int.mul_eq_zero.mp k3 with h | h
            · exact (Int.mul_eq_zero.mp h).resolve_left za
            · exact absurd h zf
          have ze := hd zd
          subst zd; subst ze
          refine oc_2 (p0 := a) (p1 := b) (p2 := c) (q0 := 0) (q1 := 0) (q2 := f) gG (fun x y z => ⟨?_, ?_⟩) q3 q2 h2 h2' h3' p2 p2'
          · rintro ⟨i, j, k, e1, e2, e3⟩; exact ⟨i, k, by simpa using e1, by simpa using e2, by simpa using e3⟩
          · rintro ⟨i, k, e1, e2, e3⟩; exact ⟨i, 0, k, by simpa using e1, by simpa using e2, by simpa using e3⟩
  · have k3 : a * d * f ≠ 0 := by
      intro q
      exact q3 (Int.zero_dvd.mp ((h3 0).mpr (hl_d3.mpr (by rw [q]; exact Int.dvd_refl _))))
    exact oc_3 k3 h3 h3' p3 p3' q3
end
section
/-! the reference: gcd, minors, determinants -/
theorem zn_rem {a b : Nat} (ha : a < 2147483648) (hb : b < 2147483648) : nI a - nI a / nI b * nI b = nI (a % b) := by
  rw [← zi_n a, ← zi_n b, zi_rem (zi_Rn ha) (zi_Rn hb), ← zi_n]
  rfl
theorem zn_div {a b : Nat} (ha : a < 2147483648) (hb : b < 2147483648) : nI a / nI b = nI (a / b) := by
  rw [← zi_n a, ← zi_n b, zi_div (zi_Rn ha) (zi_Rn hb), ← zi_n]
  rfl
theorem zn_gcd {a b : Nat} (ha : a < 2147483648) (hb : b < 2147483648) : Nat.gcd a b < 2147483648 := by
  rcases Nat.eq_zero_or_pos b with h | h
  · subst h; rw [Nat.gcd_zero_right]; exact ha
  · exact Nat.lt_of_le_of_lt (Nat.gcd_le_right a h) hb
theorem zi_abs {a : Int} (h : 0 ≤ a) : zi_v a = nI a.natAbs := by
  have : a = (a.natAbs : Int) := by omega
  rw [← zi_n, ← this]
theorem zi_absn {a : Int} (h : a < 0) : - zi_v a = nI a.natAbs := by
  rw [zi_neg, zi_abs (by omega), Int.natAbs_neg]
section
variable {gc gf gl : Int32} {aC : Nat → Int32} {post : Int32 → Prop}
theorem yg_23 : ∀ n b a : Nat, b < n → a < 2147483648 → b < 2147483648 → post (nI (Nat.gcd a b)) → wY_gcd_23 post gc gf gl aC n (nI a) (nI b) := by
  intro n
  induction n with
  | zero => intro b a h; exact absurd h (Nat.not_lt_zero _)
  | succ n ih =>
    intro b a hn ha hb hp
    rcases Nat.eq_zero_or_pos b with h | h
    · subst h; rw [Nat.gcd_zero_right] at hp; exact br_t nI_0 hp
    · have hne : ¬ nI b = 0 := nI_ne0 h hb
      refine br_f hne ⟨hne, nm_r (zn_rem ha hb) (ih _ _ ?_ hb ?_ ?_)⟩
      · have := Nat.mod_lt a h; omega
      · have := Nat.mod_lt a h; omega
      · rw [Nat.gcd_comm, ← Nat.gcd_rec, Nat.gcd_comm]; exact hp
theorem yg_10 {b : Int} {a : Nat} (ha : a < 2147483648) (hb : zi_R b) (hp : post (nI (Nat.gcd a b.natAbs))) : wY_gcd_10 post (zi_v b) (nI a) gc gf gl aC := by
  refine zc_le 0 b rfl rfl zi_R0 hb (fun h => ?_) (fun h => ?_)
  · rw [zi_abs h]; exact ⟨_, yg_23 _ _ _ (Nat.lt_succ_self _) ha (zi_absR hb) hp⟩
  · exact nm_r (zi_absn h) ⟨_, yg_23 _ _ _ (Nat.lt_succ_self _) ha (zi_absR hb) hp⟩
theorem yg_gcd {a b : Int} (ha : zi_R a) (hb : zi_R b) (hp : post (nI (Int.gcd a b))) : wpY_gcd post (gc, gf, gl, aC) (zi_v a) (zi_v b) := by
  refine zc_le 0 a rfl rfl zi_R0 ha (fun h => ?_) (fun h => ?_)
  · rw [zi_abs h]; exact yg_10 (zi_absR ha) hb hp
  · rw [zi_absn h]; exact yg_10 (zi_absR ha) hb hp
end
/-- a natural as an int -/
theorem zi_gn {g : Nat} : nI g = zi_v (g : Int) := (zi_n g).symm
section
variable {gc gf gl : Int32} {w : Nat → Nat → Int} {post : Int32 → Prop}
theorem ym_minor {r s c d : Nat} (hr : r < 5) (hs : s < 5) (hc : c < 3) (hd : d < 3) (hp : post (zi_v (w r c * w s d - w r d * w s c))) : wpY_minor post (gc, gf, gl, mE w) (nI r) (nI s) (nI c) (nI d) := by
  refine ⟨zn_in (by omega) (by omega), zn_in (by omega) (by omega), zn_in (by omega) (by omega), zn_in (by omega) (by omega), ?_⟩
  rw [mE_ix w hc (by omega), mE_ix w hd (by omega), mE_ix w hd (by omega), mE_ix w hc (by omega), zi_mul, zi_mul, zi_sub]
  exact hp
theorem ym_det {r s t : Nat} (hr : r < 5) (hs : s < 5) (ht : t < 5) (hp : post (zi_v (dt_ (w r 0) (w r 1) (w r 2) (w s 0) (w s 1) (w s 2) (w t 0) (w t 1) (w t 2)))) : wpY_determinant post (gc, gf, gl, mE w) (nI r) (nI s) (nI t) := by
  unfold wpY_determinant
  refine ym_minor (c := 1) (d := 2) hs ht (by omega) (by omega) ?_
  refine ym_minor (c := 0) (d := 2) hs ht (by omega) (by omega) ?_
  refine ym_minor (c := 0) (d := 1) hs ht (by omega) (by omega) ?_
  have e0 : (3 * nI r).toNatClampNeg = 3 * r + 0 := by
    have h3 : (3 : Int32) = nI 3 := rfl
    rw [h3, zn_mul]; exact nI_clamp (by omega)
  have e1 : (3 * nI r + 1).toNatClampNeg = 3 * r + 1 := zn_cl (r := r) (c := 1) (by omega)
  have e2 : (3 * nI r + 2).toNatClampNeg = 3 * r + 2 := zn_cl (r := r) (c := 2) (by omega)
  have i0 : vp_in (3 * nI r) 15 := by
    have h3 : (3 : Int32) = nI 3 := rfl
    rw [h3, zn_mul]; exact vp_in_nI (by omega) (by omega)
  refine ⟨i0, zn_in (r := r) (c := 1) (by omega) (by omega), zn_in (r := r) (c := 2) (by omega) (by omega), ?_⟩
  rw [e0, e1, e2, mE_at w (by omega), mE_at w (by omega), mE_at w (by omega), zi_mul, zi_mul, zi_mul, zi_sub, zi_add]
  exact hp
end
/-- the first so many columns -/
def pd_ (w : Nat → Nat → Int) (k : Nat) : Nat → Nat → Int := fun i j => if j < k then w i j else 0
/-- the numbers that the reference meets: rows within 9, the point within 5000 -/
def yb_ (w : Nat → Nat → Int) : Prop := (∀ i j, i < 4 → j < 3 → -9 ≤ w i j ∧ w i j ≤ 9) ∧ ∀ j, j < 3 → -5000 ≤ w 4 j ∧ w 4 j ≤ 5000
theorem zi_Rm {a b A B : Int} (ha : -A ≤ a ∧ a ≤ A) (hb : -B ≤ b ∧ b ≤ B) (hA : 0 ≤ A) : -(A * B) ≤ a * b ∧ a * b ≤ A * B := by
  have h1 : (a * b).natAbs = a.natAbs * b.natAbs := Int.natAbs_mul a b
  have h2 : a.natAbs * b.natAbs ≤ A.natAbs * B.natAbs := Nat.mul_le_mul (by omega) (by omega)
  have h3 : (A * B).natAbs = A.natAbs * B.natAbs := Int.natAbs_mul A B
  have h4 : 0 ≤ A * B := Int.mul_nonneg hA (by omega)
  omega
theorem yb_all {w : Nat → Nat → Int} (h : yb_ w) {i j : Nat} (hi : i < 5) (hj : j < 3) : -5000 ≤ w i j ∧ w i j ≤ 5000 := by
  by_cases c : i < 4
  · have := h.1 i j c hj; omega
  · have : i = 4 := by omega
    subst this; exact h.2 j hj
theorem yb_min {w : Nat → Nat → Int} (h : yb_ w) {r s c d : Nat} (hr : r < 5) (hs : s < 4) (hc : c < 3) (hd : d < 3) : -90000 ≤ w r c * w s d - w r d * w s c ∧ w r c * w s d - w r d * w s c ≤ 90000 := by
  have h1 := zi_Rm (yb_all h hr hc) (h.1 s d hs hd) (by omega)
  have h2 := zi_Rm (yb_all h hr hd) (h.1 s c hs hc) (by omega)
  omega
theorem yb_min9 {w : Nat → Nat → Int} (h : yb_ w) {r s c d : Nat} (hr : r < 4) (hs : s < 4) (hc : c < 3) (hd : d < 3) : -162 ≤ w r c * w s d - w r d * w s c ∧ w r c * w s d - w r d * w s c ≤ 162 := by
  have h1 := zi_Rm (h.1 r c hr hc) (h.1 s d hs hd) (by omega)
  have h2 := zi_Rm (h.1 r d hr hd) (h.1 s c hs hc) (by omega)
  omega
theorem yb_det {w : Nat → Nat → Int} (h : yb_ w) {r s t : Nat} (hr : r < 5) (hs : s < 4) (ht : t < 4) : zi_R (dt_ (w r 0) (w r 1) (w r 2) (w s 0) (w s 1) (w s 2) (w t 0) (w t 1) (w t 2)) := by
  have h1 := zi_Rm (yb_all h hr (j := 0) (by omega)) (yb_min9 h hs ht (c := 1) (d := 2) (by omega) (by omega)) (by omega)
  have h2 := zi_Rm (yb_all h hr (j := 1) (by omega)) (yb_min9 h hs ht (c := 0) (d := 2) (by omega) (by omega)) (by omega)
  have h3 := zi_Rm (yb_all h hr (j := 2) (by omega)) (yb_min9 h hs ht (c := 0) (d := 1) (by omega) (by omega)) (by omega)
  unfold zi_R dt_
  omega
section
variable {gc gf gl : Int32} {w : Nat → Nat → Int} {post : Int32 → Prop}
/-- what divides the minors of two rows in the first columns -/
def pm_ (w : Nat → Nat → Int) (n : Int) (r s : Nat) : Prop := n ∣ m1_ (w r 0) (w r 1) (w r 2) (w s 0) (w s 1) (w s 2) ∧ n ∣ m2_ (w r 0) (w r 1) (w r 2) (w s 0) (w s 1) (w s 2) ∧ n ∣ m3_ (w r 0) (w r 1) (w r 2) (w s 0) (w s 1) (w s 2)
theorem yp_pair {r s k : Nat} (hb : yb_ w) (hr : r < 5) (hs : s < 4) (hk : k < 4) (h0 : 0 < k) (hp : ∀ g : Int, zi_R g → (∀ n : Int, n ∣ g ↔ pm_ (pd_ w k) n r s) → post (zi_v g)) : wpY_pairDivisor post (gc, gf, gl, mE w) (nI r) (nI s) (nI k) := by
  refine zn_le (a := k) (b := 1) (by omega) (by omega) (fun h1 => ?_) (fun h1 => ?_)
  · have : k = 1 := by omega
    subst this
    refine zn_le (a := 1) (b := 2) (by omega) (by omega) (fun _ => ?_) (fun h2 => absurd h2 (by omega))
    refine hp 0 zi_R0 (fun n => ?_)
    unfold pm_ pd_ m1_ m2_ m3_
    simp
  · refine ym_minor (c := 0) (d := 1) hr (by omega) (by omega) (by omega) ?_
    refine zn_le (a := k) (b := 2) (by omega) (by omega) (fun h2 => ?_) (fun h2 => ?_)
    · have : k = 2 := by omega
      subst this
      have hm := yb_min hb hr hs (c := 0) (d := 1) (by omega) (by omega)
      refine hp _ ⟨by omega, by omega⟩ (fun n => ?_)
      unfold pm_ pd_ m1_ m2_ m3_
      simp
    · have : k = 3 := by omega
      subst this
      have ha := yb_min hb hr hs (c := 0) (d := 1) (by omega) (by omega)
      have hb' := yb_min hb hr hs (c := 0) (d := 2) (by omega) (by omega)
      have hc := yb_min hb hr hs (c := 1) (d := 2) (by omega) (by omega)
      refine ym_minor (c := 0) (d := 2) hr (by omega) (by omega) (by omega) ?_
      refine ym_minor (c := 1) (d := 2) hr (by omega) (by omega) (by omega) ?_
      have hR1 : zi_R (w r 0 * w s 1 - w r 1 * w s 0) := ⟨by omega, by omega⟩
      have hR2 : zi_R (w r 0 * w s 2 - w r 2 * w s 0) := ⟨by omega, by omega⟩
      have hR3 : zi_R (w r 1 * w s 2 - w r 2 * w s 1) := ⟨by omega, by omega⟩
      have hg1 := zn_gcd (zi_absR hR1) (zi_absR hR2)
      have hg2 := zn_gcd hg1 (zi_absR hR3)
      refine yg_gcd hR1 hR2 ?_
      rw [zi_gn]
      refine yg_gcd (zi_Rn hg1) hR3 ?_
      rw [zi_gn]
      refine hp _ (zi_Rn (by simpa [Int.gcd] using hg2)) (fun n => ?_)
      rw [Int.dvd_coe_gcd_iff, Int.dvd_coe_gcd_iff]
      unfold pm_ pd_ m1_ m2_ m3_
      simp [and_assoc]
end
end
section
/-! the reference: divisors of sets of rows -/
def bs_ (S r : Nat) : Prop := S / 2 ^ r % 2 = 1
theorem bs_dec : ∀ S, S < 32 → ∀ r, r < 5 → ((((nI S >>> (nI r &&& 31)) &&& 1) = 1) ↔ S / 2 ^ r % 2 = 1) := by decide +kernel
theorem bs_if {A B : Prop} {S r : Nat} (hS : S < 32) (hr : r < 5) (f : bs_ S r → A) (g : ¬ bs_ S r → B) : (((nI S >>> (nI r &&& 31)) &&& 1) = 1 → A) ∧ (¬ ((nI S >>> (nI r &&& 31)) &&& 1) = 1 → B) :=
  ⟨fun h => f ((bs_dec S hS r hr).mp h), fun h => g fun k => h ((bs_dec S hS r hr).mpr k)⟩
def dz_ (w : Nat → Nat → Int) (r s t : Nat) : Int := dt_ (w r 0) (w r 1) (w r 2) (w s 0) (w s 1) (w s 2) (w t 0) (w t 1) (w t 2)
section
variable {gc gf gl : Int32} {w : Nat → Nat → Int} {post : Int32 → Prop}
theorem yt_6 {r s S : Nat} (hb : yb_ w) (hr : r < 5) (hs : s < 4) (hS : S < 32) : ∀ d t g : Nat, t + d = s → g < 2147483648 → (∀ g' : Nat, g' < 2147483648 → (∀ n : Int, n ∣ g' ↔ n ∣ g ∧ ∀ t', t ≤ t' → t' < s → bs_ S t' → n ∣ dz_ w r s t') → post (nI g')) → wY_tripleDivisor_6 post (nI r) (nI s) (nI S) gc gf gl (mE w) (d + 1) (nI g) (nI t) := by
  intro d
  induction d with
  | zero =>
    intro t g ht hg hp
    refine zn_le (by omega) (by omega) (fun _ => ?_) (fun h => absurd h (by omega))
    exact hp g hg (fun n => ⟨fun h => ⟨h, fun t' h1 h2 => absurd h2 (by omega)⟩, fun h => h.1⟩)
  | succ d ih =>
    intro t g ht hg hp
    refine zn_le (by omega) (by omega) (fun h => absurd h (by omega)) (fun _ => ?_)
    refine bs_if hS (by omega) (fun hbt => ?_) (fun hbt => ?_)
    · have hR := yb_det hb hr hs (t := t) (by omega)
      refine ym_det hr (by omega) (by omega) ?_
      rw [zi_gn]
      refine yg_gcd (zi_Rn hg) hR ?_
      refine nm_r (nI_1 t) ?_
      refine ih (t + 1) _ (by omega) (zn_gcd hg (zi_absR hR)) (fun g' hg' hc => hp g' hg' (fun n => ?_))
      rw [hc, Int.dvd_coe_gcd_iff]
      constructor
      · rintro ⟨⟨h1, h2⟩, h3⟩
        refine ⟨h1, fun t' a b c => ?_⟩
        by_cases q : t' = t
        · subst q; exact h2
        · exact h3 t' (by omega) b c
      · rintro ⟨h1, h2⟩
        exact ⟨⟨h1, h2 t (by omega) (by omega) hbt⟩, fun t' a b c => h2 t' (by omega) b c⟩
    · refine nm_r (nI_1 t) ?_
      refine ih (t + 1) g (by omega) hg (fun g' hg' hc => hp g' hg' (fun n => ?_))
      rw [hc]
      constructor
      · rintro ⟨h1, h3⟩
        refine ⟨h1, fun t' a b c => ?_⟩
        by_cases q : t' = t
        · subst q; exact absurd c hbt
        · exact h3 t' (by omega) b c
      · rintro ⟨h1, h2⟩
        exact ⟨h1, fun t' a b c => h2 t' (by omega) b c⟩
theorem yt_triple {r s S : Nat} (hb : yb_ w) (hr : r < 5) (hs : s < 4) (hS : S < 32) (hp : ∀ g : Nat, g < 2147483648 → (∀ n : Int, n ∣ g ↔ ∀ t, t < s → bs_ S t → n ∣ dz_ w r s t) → post (nI g)) : wpY_tripleDivisor post (gc, gf, gl, mE w) (nI r) (nI s) (nI S) := by
  refine ⟨_, yt_6 hb hr hs hS s 0 0 (by omega) (by omega) (fun g' hg' hc => hp g' hg' (fun n => ?_))⟩
  rw [hc]
  constructor
  · rintro ⟨_, h⟩ t a b; exact h t (by omega) a b
  · intro h; exact ⟨⟨0, by simp⟩, fun t _ a b => h t a b⟩
/-- what a number must divide at row r, place s -/
def cd_ (k S : Nat) (w : Nat → Nat → Int) (c : Nat) (n : Int) (r s : Nat) : Prop :=
  (k = 1 → n ∣ w r s) ∧ (k = 2 → bs_ S s → pm_ (pd_ w c) n r s) ∧ (k = 3 → bs_ S s → ∀ t, t < s → bs_ S t → n ∣ dz_ (pd_ w c) r s t)
theorem yd_123 {J12 J34 : Int32 → Int32 → Prop} {x1 x2 x3 x5 x6 : Int32} {g s : Nat} {m : Int} (hg : g < 2147483648) (hm : zi_R m) (h : J34 (nI (Int.gcd g m)) (nI (s + 1))) : wY_divisorOf_123 post J12 J34 x1 x2 x3 (nI g) x5 x6 (nI s) (zi_v m) gc gf gl (mE w) := by
  unfold wY_divisorOf_123
  rw [zi_gn]
  exact yg_gcd (zi_Rn hg) hm (nm_r (nI_1 s) h)
theorem yd_34 {J12 : Int32 → Int32 → Prop} {k S c r lim : Nat} (hb : yb_ w) (hk : k = 1 ∨ k = 2 ∨ k = 3) (hS : S < 32) (hc : c < 4) (hc0 : 0 < c) (hr : r < 5) (hbit : bs_ S r) (hl : lim = if k = 1 then c else r) : ∀ d s g : Nat, s + d = lim → g < 2147483648 → (∀ g' : Nat, g' < 2147483648 → (∀ n : Int, n ∣ g' ↔ n ∣ g ∧ ∀ s', s ≤ s' → s' < lim → cd_ k S w c n r s') → J12 (nI g') (nI (r + 1))) → wY_divisorOf_34 post J12 (nI k) (nI S) (nI c) (nI r) (nI lim) gc gf gl (mE w) (d + 1) (nI g) (nI s) := by
  have hlim : lim < 5 := by rw [hl]; split <;> omega
  intro d
  induction d with
  | zero =>
    intro s g hs hg hp
    refine zn_le (by omega) (by omega) (fun _ => nm_r (nI_1 r) ?_) (fun h => absurd h (by omega))
    exact hp g hg (fun n => ⟨fun h => ⟨h, fun t' h1 h2 => absurd h2 (by omega)⟩, fun h => h.1⟩)
  | succ d ih =>
    intro s g hs hg hp
    refine zn_le (by omega) (by omega) (fun h => absurd h (by omega)) (fun _ => ?_)
    refine bs_if hS hr (fun _ => ?_) (fun h => absurd hbit h)
    have fin : ∀ m : Int, zi_R m → (∀ n : Int, n ∣ m ↔ cd_ k S w c n r s) → wY_divisorOf_34 post J12 (nI k) (nI S) (nI c) (nI r) (nI lim) gc gf gl (mE w) (d + 1) (nI (Int.gcd g m)) (nI (s + 1)) := by
      intro m hm hcd
      refine ih (s + 1) _ (by omega) (zn_gcd hg (zi_absR hm)) (fun g' hg' hc => hp g' hg' (fun n => ?_))
      rw [hc, Int.dvd_coe_gcd_iff, hcd]
      constructor
      · rintro ⟨⟨h1, h2⟩, h3⟩
        refine ⟨h1, fun s' a b => ?_⟩
        by_cases q : s' = s
        · subst q; exact h2
        · exact h3 s' (by omega) b
      · rintro ⟨h1, h2⟩
        exact ⟨⟨h1, h2 s (by omega) (by omega)⟩, fun s' a b => h2 s' (by omega) b⟩
    refine zn_eq (a := k) (b := 1) (by omega) (by omega) (fun h1 => ?_) (fun h1 => ?_)
    · have hlc : lim = c := by rw [hl, if_pos h1]
      have hsc : s < 3 := by omega
      refine ⟨zn_in (by omega) (by omega), nm_r (mE_ix w hsc (by omega)) ?_⟩
      have := yb_all hb hr hsc
      refine yd_123 hg ⟨by omega, by omega⟩ (fin _ ⟨by omega, by omega⟩ (fun n => ?_))
      unfold cd_
      subst h1
      exact ⟨fun h => ⟨fun _ => h, fun h => absurd h (by decide), fun h => absurd h (by decide)⟩, fun h => h.1 rfl⟩
    · have hlr : lim = r := by rw [hl, if_neg h1]
      refine bs_if hS (by omega) (fun hbs => ?_) (fun hbs => ?_)
      · refine zn_eq (a := k) (b := 2) (by omega) (by omega) (fun h2 => ?_) (fun h2 => ?_)
        · refine yp_pair hb hr (by omega) hc hc0 (fun m hm hpm => ?_)
          refine yd_123 hg hm (fin _ hm (fun n => ?_))
          rw [hpm]
          unfold cd_
          subst h2
          exact ⟨fun h => ⟨fun h => absurd h (by decide), fun _ _ => h, fun h => absurd h (by decide)⟩, fun h => h.2.1 rfl hbs⟩
        · have h3 : k = 3 := by omega
          refine zn_le (a := c) (b := 2) (by omega) (by omega) (fun h4 => ?_) (fun h4 => ?_)
          · refine yd_123 (m := 0) hg zi_R0 (fin 0 zi_R0 (fun n => ?_))
            unfold cd_ dz_ pd_ dt_
            subst h3
            refine ⟨fun _ => ⟨fun h => absurd h (by decide), fun h => absurd h (by decide), fun _ _ t _ _ => ?_⟩, fun _ => ⟨0, by simp⟩⟩
            have : ¬ 2 < c := by omega
            simp only [if_neg this]
            simp
          · have hc3 : c = 3 := by omega
            refine yt_triple hb hr (by omega) hS (fun m hm hpm => ?_)
            show wY_divisorOf_123 _ _ _ _ _ _ _ _ _ _ _ _ _ _ _
            rw [zi_gn (g := m)]
            refine yd_123 hg (zi_Rn hm) (fin _ (zi_Rn hm) (fun n => ?_))
            rw [hpm]
            have e : ∀ t, dz_ (pd_ w c) r s t = dz_ w r s t := by intro t; unfold dz_ pd_; subst hc3; rfl
            unfold cd_
            subst h3
            refine ⟨fun h => ⟨fun h => absurd h (by decide), fun h => absurd h (by decide), fun _ _ t a b => ?_⟩, fun h t a b => ?_⟩
            · rw [e]; exact h t a b
            · rw [← e]; exact h.2.2 rfl hbs t a b
      · refine yd_123 (m := 0) hg zi_R0 (fin 0 zi_R0 (fun n => ?_))
        unfold cd_
        exact ⟨fun _ => ⟨fun h => absurd h h1, fun _ h => absurd h hbs, fun _ h => absurd h hbs⟩, fun _ => ⟨0, by simp⟩⟩
theorem yd_34n {J12 : Int32 → Int32 → Prop} {x1 x3 x6 : Int32} {S r g : Nat} (hS : S < 32) (hr : r < 5) (hbit : ¬ bs_ S r) (h : J12 (nI g) (nI (r + 1))) : wY_divisorOf_34 post J12 x1 (nI S) x3 (nI r) x6 gc gf gl (mE w) 1 (nI g) 0 :=
  br_c (fun _ => nm_r (nI_1 r) h) (fun _ => bs_if hS hr (fun k => absurd k hbit) (fun _ => nm_r (nI_1 r) h))
theorem yd_12 {k S c : Nat} (hb : yb_ w) (hk : k = 1 ∨ k = 2 ∨ k = 3) (hS : S < 32) (hc : c < 4) (hc0 : 0 < c) : ∀ d r g : Nat, r + d = 5 → g < 2147483648 → (∀ g' : Nat, g' < 2147483648 → (∀ n : Int, n ∣ g' ↔ n ∣ g ∧ ∀ r', r ≤ r' → r' < 5 → bs_ S r' → ∀ s, (s < if k = 1 then c else r') → cd_ k S w c n r' s) → post (nI g')) → wY_divisorOf_12 post (nI k) (nI S) (nI c) gc gf gl (mE w) (d + 1) (nI g) (nI r) := by
  intro d
  induction d with
  | zero =>
    intro r g hr hg hp
    refine zn_le (a := 5) (b := r) (by omega) (by omega) (fun _ => ?_) (fun h => absurd h (by omega))
    exact hp g hg (fun n => ⟨fun h => ⟨h, fun t' h1 h2 => absurd h2 (by omega)⟩, fun h => h.1⟩)
  | succ d ih =>
    intro r g hr hg hp
    refine zn_le (a := 5) (b := r) (by omega) (by omega) (fun h => absurd h (by omega)) (fun _ => ?_)
    by_cases hbit : bs_ S r
    · have go : ∃ m, wY_divisorOf_34 post (wY_divisorOf_12 post (nI k) (nI S) (nI c) gc gf gl (mE w) (d + 1)) (nI k) (nI S) (nI c) (nI r) (nI (if k = 1 then c else r)) gc gf gl (mE w) m (nI g) (nI 0) := by
        refine ⟨_, yd_34 hb hk hS hc hc0 (by omega) hbit rfl (if k = 1 then c else r) 0 g (by omega) hg (fun g1 hg1 hc1 => ?_)⟩
        refine ih (r + 1) g1 (by omega) hg1 (fun g' hg' hc' => hp g' hg' (fun n => ?_))
        rw [hc', hc1]
        constructor
        · rintro ⟨⟨h1, h2⟩, h3⟩
          refine ⟨h1, fun r' a b e s hs => ?_⟩
          by_cases q : r' = r
          · subst q; exact h2 s (by omega) hs
          · exact h3 r' (by omega) b e s hs
        · rintro ⟨h1, h2⟩
          exact ⟨⟨h1, fun s _ hs => h2 r (by omega) (by omega) hbit s hs⟩, fun r' a b e s hs => h2 r' (by omega) b e s hs⟩
      refine zn_eq (a := k) (b := 1) (by omega) (by omega) (fun h1 => ?_) (fun h1 => ?_)
      · rw [if_pos h1] at go; exact go
      · rw [if_neg h1] at go; exact go
    · have go : ∀ x6, wY_divisorOf_34 post (wY_divisorOf_12 post (nI k) (nI S) (nI c) gc gf gl (mE w) (d + 1)) (nI k) (nI S) (nI c) (nI r) x6 gc gf gl (mE w) 1 (nI g) 0 := by
        intro x6
        refine yd_34n hS (by omega) hbit (ih (r + 1) g (by omega) hg (fun g' hg' hc' => hp g' hg' (fun n => ?_)))
        rw [hc']
        constructor
        · rintro ⟨h1, h3⟩
          refine ⟨h1, fun r' a b e s hs => ?_⟩
          by_cases q : r' = r
          · subst q; exact absurd e hbit
          · exact h3 r' (by omega) b e s hs
        · rintro ⟨h1, h2⟩
          exact ⟨h1, fun r' a b e s hs => h2 r' (by omega) b e s hs⟩
      exact br_c (fun _ => ⟨1, go _⟩) (fun _ => ⟨1, go _⟩)
end
end
section
/-! the reference: divisors are those of the grid; rank and order -/
def qs_ (S i : Nat) : Prop := i < 5 ∧ bs_ S i
theorem pm_sw {w : Nat → Nat → Int} {n : Int} {r s : Nat} (h : pm_ w n r s) : pm_ w n s r := m_sw h
theorem pm_rr (w : Nat → Nat → Int) (n : Int) (r : Nat) : pm_ w n r r := by
  unfold pm_ m1_ m2_ m3_
  exact ⟨⟨0, by grind⟩, ⟨0, by grind⟩, ⟨0, by grind⟩⟩
theorem dz_rot (w : Nat → Nat → Int) (r s t : Nat) : dz_ w s t r = dz_ w r s t := dt_rot _ _ _ _ _ _ _ _ _
theorem dz_sw (w : Nat → Nat → Int) (r s t : Nat) : dz_ w s r t = - dz_ w r s t := dt_sw _ _ _ _ _ _ _ _ _
theorem dz_rr (w : Nat → Nat → Int) (r t : Nat) : dz_ w r r t = 0 := by unfold dz_ dt_; grind
theorem dz_all {w : Nat → Nat → Int} {n : Int} {Q : Nat → Prop} (h : ∀ r s t, Q r → Q s → Q t → t < s → s < r → n ∣ dz_ w r s t) {r s t : Nat} (hr : Q r) (hs : Q s) (ht : Q t) : n ∣ dz_ w r s t := by
  have z : ∀ a b : Nat, n ∣ dz_ w a a b := fun a b => by rw [dz_rr]; exact ⟨0, by simp⟩
  rcases Nat.lt_trichotomy r s with h1 | h1 | h1
  · rcases Nat.lt_trichotomy s t with h2 | h2 | h2
    · have e : dz_ w r s t = - dz_ w t s r := by unfold dz_ dt_; grind
      rw [e, Int.dvd_neg]; exact h t s r ht hs hr h1 h2
    · subst h2; rw [← dz_rot]; exact z s r
    · rcases Nat.lt_trichotomy r t with h3 | h3 | h3
      · have e : dz_ w s t r = dz_ w r s t := dz_rot w r s t
        rw [← e]; exact h s t r hs ht hr h3 h2
      · subst h3; have e : dz_ w r r s = dz_ w r s r := by rw [← dz_rot w r r s]
        rw [← e]; exact z r s
      · rw [← Int.dvd_neg, ← dz_sw]; exact h s r t hs hr ht h3 h1
  · subst h1; exact z r t
  · rcases Nat.lt_trichotomy s t with h2 | h2 | h2
    · rcases Nat.lt_trichotomy r t with h3 | h3 | h3
      · have e : dz_ w t r s = dz_ w r s t := by rw [← dz_rot w t r s]
        rw [← e]; exact h t r s ht hr hs h1 h3
      · subst h3; have e : dz_ w r r s = dz_ w r s r := by rw [← dz_rot w r r s]
        rw [← e]; exact z r s
      · have e : dz_ w r s t = - dz_ w r t s := by unfold dz_ dt_; grind
        rw [e, Int.dvd_neg]; exact h r t s hr ht hs h2 h3
    · subst h2; rw [← dz_rot]; exact z s r
    · exact h r s t hr hs ht h2 h1
theorem qs_d1 {S c : Nat} {w : Nat → Nat → Int} {n : Int} (hc : c < 4) (hc0 : 0 < c) : (∀ r', 0 ≤ r' → r' < 5 → bs_ S r' → ∀ s, (s < if 1 = 1 then c else r') → cd_ 1 S w c n r' s) ↔ d1_ (sp_L (qs_ S) (pd_ w c)) n := by
  rw [sp_d1]
  constructor
  · intro h i hi
    have k : ∀ s, n ∣ pd_ w c i s := by
      intro s
      unfold pd_
      by_cases q : s < c
      · rw [if_pos q]; exact (h i (by omega) hi.1 hi.2 s (by rw [if_pos rfl]; exact q)).1 rfl
      · rw [if_neg q]; exact ⟨0, by simp⟩
    exact ⟨k 0, k 1, k 2⟩
  · intro h r _ hr hb s hs
    rw [if_pos rfl] at hs
    refine ⟨fun _ => ?_, fun q => absurd q (by decide), fun q => absurd q (by decide)⟩
    have k := h r ⟨hr, hb⟩
    unfold pd_ at k
    have e : w r s = if s < c then w r s else 0 := by rw [if_pos hs]
    rw [e]
    have : s = 0 ∨ s = 1 ∨ s = 2 := by omega
    rcases this with rfl | rfl | rfl
    · exact k.1
    · exact k.2.1
    · exact k.2.2
theorem qs_d2 {S c : Nat} {w : Nat → Nat → Int} {n : Int} : (∀ r', 0 ≤ r' → r' < 5 → bs_ S r' → ∀ s, (s < if 2 = 1 then c else r') → cd_ 2 S w c n r' s) ↔ d2_ (sp_L (qs_ S) (pd_ w c)) n := by
  rw [sp_d2]
  constructor
  · intro h i j hi hj
    have k : ∀ r s, qs_ S r → qs_ S s → s < r → pm_ (pd_ w c) n r s := fun r s hr hs q => (h r (by omega) hr.1 hr.2 s (by rw [if_neg (by decide)]; exact q)).2.1 rfl hs.2
    rcases Nat.lt_trichotomy i j with h1 | h1 | h1
    · exact pm_sw (k j i hj hi h1)
    · subst h1; exact pm_rr _ _ _
    · exact k i j hi hj h1
  · intro h r _ hr hb s hs
    rw [if_neg (by decide)] at hs
    exact ⟨fun q => absurd q (by decide), fun _ hbs => h r s ⟨hr, hb⟩ ⟨by omega, hbs⟩, fun q => absurd q (by decide)⟩
theorem qs_d3 {S c : Nat} {w : Nat → Nat → Int} {n : Int} : (∀ r', 0 ≤ r' → r' < 5 → bs_ S r' → ∀ s, (s < if 3 = 1 then c else r') → cd_ 3 S w c n r' s) ↔ d3_ (sp_L (qs_ S) (pd_ w c)) n := by
  rw [sp_d3]
  constructor
  · intro h i j k hi hj hk
    refine dz_all (Q := qs_ S) (fun r s t hr hs ht q1 q2 => ?_) hi hj hk
    exact (h r (by omega) hr.1 hr.2 s (by rw [if_neg (by decide)]; exact q2)).2.2 rfl hs.2 t q1 ht.2
  · intro h r _ hr hb s hs
    rw [if_neg (by decide)] at hs
    exact ⟨fun q => absurd q (by decide), fun q => absurd q (by decide), fun _ hbs t ht hbt => h r s t ⟨hr, hb⟩ ⟨by omega, hbs⟩ ⟨by omega, hbt⟩⟩
/-- the k-th divisor of a set of points -/
def dk_ (k : Nat) (G : Int → Int → Int → Prop) (n : Int) : Prop := if k = 1 then d1_ G n else if k = 2 then d2_ G n else d3_ G n
theorem nt_uniq {g g' : Nat} (h : ∀ n : Int, n ∣ (g : Int) ↔ n ∣ (g' : Int)) : g = g' :=
  Nat.dvd_antisymm (Int.natCast_dvd_natCast.mp ((h g).mp (Int.dvd_refl _))) (Int.natCast_dvd_natCast.mp ((h g').mpr (Int.dvd_refl _)))
section
variable {gc gf gl : Int32} {w : Nat → Nat → Int} {post : Int32 → Prop}
theorem yd_of {k S c : Nat} (hb : yb_ w) (hk : k = 1 ∨ k = 2 ∨ k = 3) (hS : S < 32) (hc : c < 4) (hc0 : 0 < c) (hp : ∀ g : Nat, g < 2147483648 → (∀ n : Int, n ∣ g ↔ dk_ k (sp_L (qs_ S) (pd_ w c)) n) → post (nI g)) : wpY_divisorOf post (gc, gf, gl, mE w) (nI k) (nI S) (nI c) := by
  refine br_f (nI_ne0 (by omega) (by omega)) ⟨_, yd_12 hb hk hS hc hc0 5 0 0 (by omega) (by omega) (fun g hg hcn => hp g hg (fun n => ?_))⟩
  rw [hcn]
  have e : (n ∣ ((0 : Nat) : Int) ∧ ∀ r', 0 ≤ r' → r' < 5 → bs_ S r' → ∀ s, (s < if k = 1 then c else r') → cd_ k S w c n r' s) ↔ (∀ r', 0 ≤ r' → r' < 5 → bs_ S r' → ∀ s, (s < if k = 1 then c else r') → cd_ k S w c n r' s) :=
    ⟨fun h => h.2, fun h => ⟨⟨0, by simp⟩, h⟩⟩
  rw [e]
  unfold dk_
  rcases hk with rfl | rfl | rfl
  · rw [if_pos rfl]; exact qs_d1 hc hc0
  · rw [if_neg (by decide), if_pos rfl]; exact qs_d2
  · rw [if_neg (by decide), if_neg (by decide)]; exact qs_d3
/-- with the divisor given -/
theorem yd_at {k S c g : Nat} (hb : yb_ w) (hk : k = 1 ∨ k = 2 ∨ k = 3) (hS : S < 32) (hc : c < 4) (hc0 : 0 < c) (hg : ∀ n : Int, n ∣ g ↔ dk_ k (sp_L (qs_ S) (pd_ w c)) n) (hp : g < 2147483648 → post (nI g)) : wpY_divisorOf post (gc, gf, gl, mE w) (nI k) (nI S) (nI c) := by
  refine yd_of hb hk hS hc hc0 (fun g' hg' hcn => ?_)
  have : g' = g := nt_uniq (fun n => by rw [hcn, hg])
  subst this
  exact hp hg'
end
/-- the three divisors of a grid -/
def dv_ (G : Int → Int → Int → Prop) (g1 g2 g3 : Nat) : Prop := (∀ n : Int, n ∣ g1 ↔ d1_ G n) ∧ (∀ n : Int, n ∣ g2 ↔ d2_ G n) ∧ (∀ n : Int, n ∣ g3 ↔ d3_ G n)
/-- divisors there are: closed under and, finite all -/
def de_ (P : Int → Prop) : Prop := ∃ g : Nat, ∀ n : Int, n ∣ (g : Int) ↔ P n
theorem de_c {P P' : Int → Prop} (h : de_ P) (e : ∀ n, P' n ↔ P n) : de_ P' := by
  obtain ⟨g, hg⟩ := h; exact ⟨g, fun n => by rw [hg, e]⟩
theorem de_n (x : Int) : de_ (fun n => n ∣ x) := ⟨x.natAbs, fun n => Int.dvd_natAbs⟩
theorem de_and {P P' : Int → Prop} (h : de_ P) (h' : de_ P') : de_ (fun n => P n ∧ P' n) := by
  obtain ⟨g, hg⟩ := h; obtain ⟨g', hg'⟩ := h'
  exact ⟨Int.gcd g g', fun n => by rw [Int.dvd_coe_gcd_iff, hg, hg']⟩
theorem de_t : de_ (fun _ => True) := ⟨0, fun n => ⟨fun _ => trivial, fun _ => ⟨0, by simp⟩⟩⟩
theorem de_imp {q : Prop} {P : Int → Prop} (h : de_ P) : de_ (fun n => q → P n) := by
  by_cases c : q
  · exact de_c h (fun n => ⟨fun k => k c, fun k _ => k⟩)
  · exact de_c de_t (fun n => ⟨fun _ => trivial, fun _ k => absurd k c⟩)
theorem de_all {P : Nat → Int → Prop} (h : ∀ i, de_ (P i)) (N : Nat) : de_ (fun n => ∀ i, i < N → P i n) := by
  induction N with
  | zero => exact de_c de_t (fun n => ⟨fun _ => trivial, fun _ i hi => absurd hi (by omega)⟩)
  | succ N ih =>
    refine de_c (de_and ih (h N)) (fun n => ⟨fun k => ⟨fun i hi => k i (by omega), k N (by omega)⟩, fun k i hi => ?_⟩)
    by_cases q : i = N
    · subst q; exact k.2
    · exact k.1 i (by omega)
theorem dv_ex (S : Nat) (w : Nat → Nat → Int) : ∃ g1 g2 g3, dv_ (sp_L (qs_ S) w) g1 g2 g3 := by
  have h1 : de_ (d1_ (sp_L (qs_ S) w)) := by
    refine de_c (de_all (P := fun i n => bs_ S i → n ∣ w i 0 ∧ n ∣ w i 1 ∧ n ∣ w i 2) (fun i => de_imp (de_and (de_n _) (de_and (de_n _) (de_n _)))) 5) (fun n => ?_)
    rw [sp_d1]
    exact ⟨fun h i a b => h i ⟨a, b⟩, fun h i a => h i a.1 a.2⟩
  have h2 : de_ (d2_ (sp_L (qs_ S) w)) := by
    refine de_c (de_all (P := fun i n => bs_ S i → ∀ j, j < 5 → bs_ S j → pm_ w n i j) (fun i => de_imp (de_all (P := fun j n => bs_ S j → pm_ w n i j) (fun j => de_imp (de_and (de_n _) (de_and (de_n _) (de_n _)))) 5)) 5) (fun n => ?_)
    rw [sp_d2]
    exact ⟨fun h i a b j a' b' => h i j ⟨a, b⟩ ⟨a', b'⟩, fun h i j a a' => h i a.1 a.2 j a'.1 a'.2⟩
  have h3 : de_ (d3_ (sp_L (qs_ S) w)) := by
    refine de_c (de_all (P := fun i n => bs_ S i → ∀ j, j < 5 → bs_ S j → ∀ k, k < 5 → bs_ S k → n ∣ dz_ w i j k) (fun i => de_imp (de_all (P := fun j n => bs_ S j → ∀ k, k < 5 → bs_ S k → n ∣ dz_ w i j k) (fun j => de_imp (de_all (P := fun k n => bs_ S k → n ∣ dz_ w i j k) (fun k => de_imp (de_n _)) 5)) 5)) 5) (fun n => ?_)
    rw [sp_d3]
    exact ⟨fun h i a b j a' b' k a'' b'' => h i j k ⟨a, b⟩ ⟨a', b'⟩ ⟨a'', b''⟩, fun h i j k a a' a'' => h i a.1 a.2 j a'.1 a'.2 k a''.1 a''.2⟩
  obtain ⟨g1, h1⟩ := h1
  obtain ⟨g2, h2⟩ := h2
  obtain ⟨g3, h3⟩ := h3
  exact ⟨g1, g2, g3, h1, h2, h3⟩
theorem dv_k {G : Int → Int → Int → Prop} {g1 g2 g3 : Nat} (h : dv_ G g1 g2 g3) {k : Nat} (hk : k = 1 ∨ k = 2 ∨ k = 3) (n : Int) : n ∣ (if k = 1 then g1 else if k = 2 then g2 else g3 : Nat) ↔ dk_ k G n := by
  unfold dk_
  rcases hk with rfl | rfl | rfl
  · exact h.1 n
  · exact h.2.1 n
  · exact h.2.2 n
end
section
def gn_ (g1 g2 g3 r : Nat) : Nat := if r = 0 then 1 else if r = 1 then g1 else if r = 2 then g2 else g3
theorem gn_gk (g1 g2 g3 r : Nat) : gk_ g1 g2 g3 r = (gn_ g1 g2 g3 r : Nat) := by
  unfold gk_ gn_
  split
  · rfl
  · split
    · rfl
    · split <;> rfl
theorem yo_16 : ∀ S, S < 16 → nI S ||| 16 = nI (S + 16) := by decide +kernel
theorem yo_b : ∀ S, S < 16 → ∀ i, i < 5 → ((S + 16) / 2 ^ i % 2 = 1 ↔ S / 2 ^ i % 2 = 1 ∨ i = 4) := by decide +kernel
theorem yo_qs {S : Nat} (hS : S < 16) (i : Nat) : qs_ (S + 16) i ↔ qs_ S i ∨ i = 4 := by
  unfold qs_ bs_
  constructor
  · rintro ⟨h1, h2⟩
    rcases (yo_b S hS i h1).mp h2 with h | h
    · exact Or.inl ⟨h1, h⟩
    · exact Or.inr h
  · rintro (⟨h1, h2⟩ | h)
    · exact ⟨h1, (yo_b S hS i h1).mpr (Or.inl h2)⟩
    · exact ⟨by omega, (yo_b S hS i (by omega)).mpr (Or.inr h)⟩
theorem yo_all : ∀ k, k < 5 → ((1 : Int32) <<< (nI k &&& 31)) - 1 = nI (2 ^ k - 1) := by decide +kernel
section
variable {gc gf gl : Int32} {w : Nat → Nat → Int} {post : Int32 → Prop}
theorem yr_5 {k S c g n : Nat} {x3 : Int32} (hb : yb_ w) (hk : k = 1 ∨ k = 2 ∨ k = 3) (hS : S < 32) (hc : c < 4) (hc0 : 0 < c) (hg : ∀ n : Int, n ∣ g ↔ dk_ k (sp_L (qs_ S) (pd_ w c)) n) (h : wY_rankOf_5 post (nI S) (nI c) gc gf gl (mE w) n (if g = 0 then x3 else nI k) (nI (k + 1))) : wY_rankOf_5 post (nI S) (nI c) gc gf gl (mE w) (n + 1) x3 (nI k) := by
  refine br_f (nI_ge (a := k) (b := 4) (by omega) (by omega)) ?_
  refine yd_at hb hk hS hc hc0 hg (fun hlt => ?_)
  refine ⟨fun q => nm_r (nI_1 k) ?_, fun q => nm_r (nI_1 k) ?_⟩
  · have : g = 0 := (nI_eq (b := 0) hlt (by omega)).mp q
    rw [if_pos this] at h; exact h
  · have : ¬ g = 0 := fun z => q (by rw [z]; rfl)
    rw [if_neg this] at h; exact h
theorem yr_rank {S c g1 g2 g3 : Nat} (hb : yb_ w) (hS : S < 32) (hc : c < 4) (hc0 : 0 < c) (hg : dv_ (sp_L (qs_ S) (pd_ w c)) g1 g2 g3) (hp : post (nI (rk_ g1 g2 g3))) : wpY_rankOf post (gc, gf, gl, mE w) (nI S) (nI c) := by
  refine ⟨4, yr_5 (k := 1) hb (by omega) hS hc hc0 (dv_k hg (k := 1) (by omega)) ?_⟩
  refine yr_5 (k := 2) hb (by omega) hS hc hc0 (dv_k hg (k := 2) (by omega)) ?_
  refine yr_5 (k := 3) hb (by omega) hS hc hc0 (dv_k hg (k := 3) (by omega)) ?_
  refine br_t (by decide) ?_
  unfold rk_ at hp
  show post (if g3 = 0 then (if g2 = 0 then (if g1 = 0 then 0 else nI 1) else nI 2) else nI 3)
  by_cases q3 : g3 = 0
  · rw [if_pos q3]
    rw [if_neg (by omega)] at hp
    by_cases q2 : g2 = 0
    · rw [if_pos q2]
      rw [if_neg (by omega)] at hp
      by_cases q1 : g1 = 0
      · rw [if_pos q1]; rw [if_neg (by omega)] at hp; exact hp
      · rw [if_neg q1]; rw [if_pos (by omega)] at hp; exact hp
    · rw [if_neg q2]; rw [if_pos (by omega)] at hp; exact hp
  · rw [if_neg q3]; rw [if_pos (by omega)] at hp; exact hp
theorem yd_gn {S c g1 g2 g3 r : Nat} (hb : yb_ w) (hS : S < 32) (hc : c < 4) (hc0 : 0 < c) (hr : r < 4) (hg : dv_ (sp_L (qs_ S) (pd_ w c)) g1 g2 g3) (hp : gn_ g1 g2 g3 r < 2147483648 → post (nI (gn_ g1 g2 g3 r))) : wpY_divisorOf post (gc, gf, gl, mE w) (nI r) (nI S) (nI c) := by
  by_cases h0 : r = 0
  · subst h0; exact br_t rfl (hp (by unfold gn_; rw [if_pos rfl]; decide))
  · have hk : r = 1 ∨ r = 2 ∨ r = 3 := by omega
    have e : gn_ g1 g2 g3 r = if r = 1 then g1 else if r = 2 then g2 else g3 := by unfold gn_; rw [if_neg h0]
    rw [e] at hp
    exact yd_at hb hk hS hc hc0 (dv_k hg hk) hp
theorem yo_of {S c g1 g2 g3 g1' g2' g3' : Nat} (hb : yb_ w) (hS : S < 16) (hc : c < 4) (hc0 : 0 < c) (hg : dv_ (sp_L (qs_ S) (pd_ w c)) g1 g2 g3) (hg' : dv_ (sp_L (qs_ (S + 16)) (pd_ w c)) g1' g2' g3') (h1 : rk_ g1 g2 g3 < rk_ g1' g2' g3' → post (-1000000)) (h2 : rk_ g1' g2' g3' ≤ rk_ g1 g2 g3 → 0 < gn_ g1' g2' g3' (rk_ g1 g2 g3) ∧ (gn_ g1 g2 g3 (rk_ g1 g2 g3) < 2147483648 → post (nI (gn_ g1 g2 g3 (rk_ g1 g2 g3) / gn_ g1' g2' g3' (rk_ g1 g2 g3))))) : wpY_orderOf post (gc, gf, gl, mE w) (nI S) (nI c) := by
  have hr := rk_lt g1 g2 g3
  have hr' := rk_lt g1' g2' g3'
  unfold wpY_orderOf
  refine yr_rank hb (by omega) hc hc0 hg ?_
  rw [yo_16 S hS]
  refine yr_rank hb (by omega) hc hc0 hg' ?_
  refine zn_le (by omega) (by omega) (fun h => ?_) h1
  obtain ⟨h3, h4⟩ := h2 h
  refine yd_gn hb (by omega) hc hc0 hr hg (fun l1 => ?_)
  refine yd_gn hb (by omega) hc hc0 hr hg' (fun l2 => ?_)
  refine ⟨nI_ne0 h3 l2, ?_⟩
  rw [zn_div l1 l2]
  exact h4 l1
/-- the reference's order is the order in the grid -/
theorem yo_order {S k : Nat} {a b c d e f : Int} (hb : yb_ w) (hS : S < 16) (hc : k < 4) (hc0 : 0 < k) (ha : a = 0 → b = 0 ∧ c = 0) (hd : d = 0 → e = 0) (hL : ∀ x y z, sp_L (qs_ S) (pd_ w k) x y z ↔ hl_ a b c d e f x y z) (h1 : on_ (hl_ a b c d e f) (pd_ w k 4 0) (pd_ w k 4 1) (pd_ w k 4 2) → post (-1000000)) (h2 : ∀ m : Nat, m < 2147483648 → oy_ (hl_ a b c d e f) (pd_ w k 4 0) (pd_ w k 4 1) (pd_ w k 4 2) m → post (nI m)) : wpY_orderOf post (gc, gf, gl, mE w) (nI S) (nI k) := by
  obtain ⟨g1, g2, g3, hg⟩ := dv_ex S (pd_ w k)
  obtain ⟨g1', g2', g3', hg'⟩ := dv_ex (S + 16) (pd_ w k)
  have eL : sp_L (qs_ S) (pd_ w k) = hl_ a b c d e f := by funext x y z; exact propext (hL x y z)
  have eL' : sp_L (qs_ (S + 16)) (pd_ w k) = la_ (hl_ a b c d e f) (pd_ w k 4 0) (pd_ w k 4 1) (pd_ w k 4 2) := by
    funext x y z; rw [← eL]; exact propext (la_sp (yo_qs hS) x y z)
  have o : oc_ (hl_ a b c d e f) (pd_ w k 4 0) (pd_ w k 4 1) (pd_ w k 4 2) g1 g2 g3 g1' g2' g3' := by
    refine oc_all ha hd ?_ ?_ ?_ ?_ ?_ ?_ (by omega) (by omega) (by omega) (by omega) (by omega) (by omega)
    · rw [← eL]; exact hg.1
    · rw [← eL]; exact hg.2.1
    · rw [← eL]; exact hg.2.2
    · rw [← eL']; exact hg'.1
    · rw [← eL']; exact hg'.2.1
    · rw [← eL']; exact hg'.2.2
  refine yo_of hb hS hc hc0 hg hg' (fun h => h1 (o.1 h)) (fun h => ?_)
  obtain ⟨o1, o2⟩ := o.2 h
  rw [gn_gk] at o1
  rw [gn_gk, gn_gk] at o2
  refine ⟨by omega, fun l => h2 _ ?_ ?_⟩
  · exact Nat.lt_of_le_of_lt (Nat.div_le_self _ _) l
  · rw [Int.natCast_ediv]; exact o2
end
end
section
/-! the class: small methods -/
section
variable {fc fr fk fs fh fl fb : Int32} {aR aW aS aO aQ aD aE : Nat → Int32} {post : Int32 → Prop}
theorem xf_34 {x3 z0 z1 : Int32} {b : Bool} (h : z1 = z0 ↔ b = true) (hp : post (if b then x3 else x3 - 1)) : wX_floorDiv_34 post x3 z0 z1 fc fr fk fs fh fl fb aR aW aS aO aQ aD aE := by
  cases b with
  | true => exact br_t (h.mpr rfl) hp
  | false => exact br_f (fun k => by have := h.mp k; contradiction) hp
theorem xf_div {a b : Int} (ha : zi_R a) (hb : zi_R b) (hp : post (zi_v (a.fdiv b))) : wpX_floorDiv post (fc, fr, fk, fs, fh, fl, fb, aR, aW, aS, aO, aQ, aD, aE) (zi_v a) (zi_v b) := by
  refine zc_eq b 0 rfl rfl hb zi_R0 (fun h => ?_) (fun h => ?_)
  · subst h; rw [Int.fdiv_zero] at hp; exact hp
  · have hne : ¬ zi_v b = 0 := fun k => h ((zi_eq hb zi_R0).mp k)
    refine ⟨hne, nm_r (zi_div ha hb) ⟨hne, ?_⟩⟩
    rw [zi_rem ha hb]
    rw [Int.fdiv_eq_tdiv] at hp
    refine zc_eq _ 0 rfl rfl (zi_Rtm ha) zi_R0 (fun k => ?_) (fun k => ?_)
    · rw [if_pos (Int.dvd_of_tmod_eq_zero k), Int.sub_zero] at hp; exact hp
    · rw [if_neg (fun q => k (Int.tmod_eq_zero_of_dvd q))] at hp
      refine zc_le 0 a rfl rfl zi_R0 ha (fun p => ?_) (fun p => ?_)
      · rw [if_pos p] at hp
        refine zc_le 0 b rfl rfl zi_R0 hb (fun q => ?_) (fun q => ?_)
        · rw [if_pos q, Int.sub_zero] at hp
          exact xf_34 (b := true) (by decide) hp
        · rw [if_neg (by omega), ← zi_sub] at hp
          exact xf_34 (b := false) (by decide) hp
      · rw [if_neg (by omega)] at hp
        refine zc_le 0 b rfl rfl zi_R0 hb (fun q => ?_) (fun q => ?_)
        · rw [if_pos q, Int.sign_eq_one_of_pos (by omega), ← zi_sub] at hp
          exact xf_34 (b := false) (by decide) hp
        · rw [if_neg (by omega), Int.sign_eq_neg_one_of_neg q] at hp
          rw [show (1 : Int) + -1 = 0 from rfl, Int.sub_zero] at hp
          exact xf_34 (b := true) (by decide) hp
theorem xf_size {a : Int} (ha : zi_R a) (hp : post (nI a.natAbs)) : wpX_size post (fc, fr, fk, fs, fh, fl, fb, aR, aW, aS, aO, aQ, aD, aE) (zi_v a) := by
  refine zc_le 0 a rfl rfl zi_R0 ha (fun h => ?_) (fun h => ?_)
  · rw [zi_abs h]; exact hp
  · rw [zi_absn h]; exact hp
end
/-! rows exchanged, a multiple of one taken from another -/
def ex_ (w : Nat → Nat → Int) (r s k : Nat) : Nat → Nat → Int := fun i j => if j < k then (if i = s then w r j else if i = r then w s j else w i j) else w i j
def sb_ (w : Nat → Nat → Int) (r : Nat) (q : Int) (s k : Nat) : Nat → Nat → Int := fun i j => if i = r ∧ j < k then w r j - q * w s j else w i j
theorem ex_0 (w : Nat → Nat → Int) (r s : Nat) : ex_ w r s 0 = w := by funext i j; unfold ex_; rw [if_neg (by omega)]
theorem sb_0 (w : Nat → Nat → Int) (r : Nat) (q : Int) (s : Nat) : sb_ w r q s 0 = w := by funext i j; unfold sb_; rw [if_neg (by omega)]
theorem ex_s (w : Nat → Nat → Int) (r s k : Nat) : ms_ (ms_ (ex_ w r s k) r k (w s k)) s k (w r k) = ex_ w r s (k + 1) := by
  funext i j; unfold ms_ ex_
  by_cases h : j = k
  · subst h
    rw [if_pos (show j < j + 1 by omega)]
    by_cases h1 : i = s
    · rw [if_pos ⟨h1, rfl⟩, if_pos h1]
    · rw [if_neg (fun q => h1 q.1), if_neg h1]
      by_cases h2 : i = r
      · rw [if_pos ⟨h2, rfl⟩, if_pos h2]
      · rw [if_neg (fun q => h2 q.1), if_neg h2, if_neg (by omega)]
  · rw [if_neg (fun q => h q.2), if_neg (fun q => h q.2)]
    by_cases h1 : j < k
    · rw [if_pos h1, if_pos (show j < k + 1 by omega)]
    · rw [if_neg h1, if_neg (show ¬ j < k + 1 by omega)]
theorem sb_s (w : Nat → Nat → Int) (r : Nat) (q : Int) (s k : Nat) : ms_ (sb_ w r q s k) r k (w r k - q * w s k) = sb_ w r q s (k + 1) := by
  funext i j; unfold ms_ sb_
  by_cases h : i = r ∧ j = k
  · rw [if_pos h, if_pos ⟨h.1, by omega⟩, h.2]
  · rw [if_neg h]
    by_cases h1 : i = r ∧ j < k
    · rw [if_pos h1, if_pos ⟨h1.1, by omega⟩]
    · rw [if_neg h1, if_neg (by omega)]
theorem ex_at (w : Nat → Nat → Int) (r s k i : Nat) : ex_ w r s k i k = w i k := by unfold ex_; rw [if_neg (by omega)]
theorem sb_at (w : Nat → Nat → Int) (r : Nat) (q : Int) (s k i : Nat) : sb_ w r q s k i k = w i k := by unfold sb_; rw [if_neg (by omega)]
section
variable {fc fr fk fs fh fl fb : Int32} {aR aW aS aO aQ aD aE : Nat → Int32} {w : Nat → Nat → Int} {post : SX → Prop}
theorem xe_2 {r s : Nat} (hr : r < 4) (hs : s < 4) (hp : post (fc, fr, fk, fs, fh, fl, fb, aR, mE (ex_ w r s 3), aS, aO, aQ, aD, aE)) : ∀ d k : Nat, k + d = 3 → wX_exchange_2 post (nI r) (nI s) fc fr fk fs fh fl fb (d + 1) (nI k) aR (mE (ex_ w r s k)) aS aO aQ aD aE := by
  intro d
  induction d with
  | zero =>
    intro k hk
    have : k = 3 := by omega
    subst this
    exact br_t (by decide) hp
  | succ d ih =>
    intro k hk
    refine br_f (nI_ge (a := k) (b := 3) (by omega) (by omega)) ⟨zn_in (by omega) (by omega), nm_r (mE_ix _ (by omega) (by omega)) ⟨zn_in (by omega) (by omega), zn_in (by omega) (by omega), ?_⟩⟩
    rw [mE_ix _ (show k < 3 by omega) (by omega), ex_at, ex_at]
    refine nm_r (mE_updx _ (by omega) (by omega) _) ⟨zn_in (by omega) (by omega), nm_r (mE_updx _ (by omega) (by omega) _) (nm_r (nI_1 k) ?_)⟩
    rw [ex_s]
    exact ih (k + 1) (by omega)
theorem xe_exchange {r s : Nat} (hr : r < 4) (hs : s < 4) (hp : post (fc, fr, fk, fs, fh, fl, fb, aR, mE (ex_ w r s 3), aS, aO, aQ, aD, aE)) : wpX_exchange post (fc, fr, fk, fs, fh, fl, fb, aR, mE w, aS, aO, aQ, aD, aE) (nI r) (nI s) := by
  have := xe_2 (w := w) hr hs hp 3 0 (by omega)
  rw [ex_0] at this
  exact ⟨_, this⟩
theorem xs_3 {r s : Nat} {q : Int} (hr : r < 4) (hs : s < 4) (hp : post (fc, fr, fk, fs, fh, fl, fb, aR, mE (sb_ w r q s 3), aS, aO, aQ, aD, aE)) : ∀ d k : Nat, k + d = 3 → wX_subtract_3 post (nI r) (zi_v q) (nI s) fc fr fk fs fh fl fb (d + 1) (nI k) aR (mE (sb_ w r q s k)) aS aO aQ aD aE := by
  intro d
  induction d with
  | zero =>
    intro k hk
    have : k = 3 := by omega
    subst this
    exact br_t (by decide) hp
  | succ d ih =>
    intro k hk
    refine br_f (nI_ge (a := k) (b := 3) (by omega) (by omega)) ⟨zn_in (by omega) (by omega), zn_in (by omega) (by omega), zn_in (by omega) (by omega), ?_⟩
    rw [mE_ix _ (show k < 3 by omega) (by omega), mE_ix _ (show k < 3 by omega) (by omega), sb_at, sb_at, zi_mul, zi_sub]
    refine nm_r (mE_updx _ (by omega) (by omega) _) (nm_r (nI_1 k) ?_)
    rw [sb_s]
    exact ih (k + 1) (by omega)
theorem xs_subtract {r s : Nat} {q : Int} (hr : r < 4) (hs : s < 4) (hp : post (fc, fr, fk, fs, fh, fl, fb, aR, mE (sb_ w r q s 3), aS, aO, aQ, aD, aE)) : wpX_subtract post (fc, fr, fk, fs, fh, fl, fb, aR, mE w, aS, aO, aQ, aD, aE) (nI r) (zi_v q) (nI s) := by
  have := xs_3 (w := w) (q := q) hr hs hp 3 0 (by omega)
  rw [sb_0] at this
  exact ⟨_, this⟩
end
end
section
/-! the least number of a column; a column cleared -/
def oe_ : Option Nat → Int32
  | none => -1
  | some b => nI b
/-- the first of the rows f .. r - 1 with the least number other than 0 in column c -/
def lo_ (w : Nat → Nat → Int) (c f r : Nat) : Option Nat → Prop
  | none => ∀ i, f ≤ i → i < r → w i c = 0
  | some b => f ≤ b ∧ b < r ∧ w b c ≠ 0 ∧ (∀ i, f ≤ i → i < r → w i c ≠ 0 → (w b c).natAbs ≤ (w i c).natAbs) ∧ (∀ i, f ≤ i → i < b → w i c ≠ 0 → (w b c).natAbs < (w i c).natAbs)
section
variable {fc fr fk fs fh fl fb : Int32} {aR aW aS aO aQ aD aE : Nat → Int32} {w : Nat → Nat → Int} {post : Int32 → Prop}
theorem xl_6 {c f n : Nat} (hc : c < 3) (hn : n < 5) (hR : ∀ i, f ≤ i → i < n → zi_R (w i c)) (hp : ∀ b, lo_ w c f n b → post (oe_ b)) : ∀ d r : Nat, ∀ b : Option Nat, r + d = n → f ≤ r → lo_ w c f r b → wX_leastIn_6 post (nI c) (nI n) fc fr fk fs fh fl fb aR (mE w) aS aO aQ aD aE (d + 1) (oe_ b) (nI r) := by
  intro d
  induction d with
  | zero =>
    intro r b hr hf hb
    have : r = n := by omega
    subst this
    exact br_t (nI_le (by omega) (by omega)) (hp b hb)
  | succ d ih =>
    intro r b hr hf hb
    refine br_f (nI_ge (by omega) (by omega)) ⟨zn_in (by omega) (by omega), ?_⟩
    rw [mE_ix w hc (by omega)]
    have hRr := hR r hf (by omega)
    refine xf_size hRr ?_
    refine zn_eq (b := 0) (zi_absR hRr) (by omega) (fun h0 => nm_r (nI_1 r) (ih (r + 1) b (by omega) (by omega) ?_)) (fun h0 => ?_)
    · have z : w r c = 0 := by omega
      cases b with
      | none =>
        intro i h1 h2
        by_cases q : i = r
        · subst q; exact z
        · exact hb i h1 (by omega)
      | some b =>
        obtain ⟨b1, b2, b3, b4, b5⟩ := hb
        refine ⟨b1, by omega, b3, fun i h1 h2 h3 => ?_, b5⟩
        by_cases q : i = r
        · subst q; exact absurd z h3
        · exact b4 i h1 (by omega) h3
    · have z : w r c ≠ 0 := by omega
      cases b with
      | none =>
        refine br_t (by decide) (nm_r (nI_1 r) (ih (r + 1) (some r) (by omega) (by omega) ?_))
        refine ⟨hf, by omega, z, fun i h1 h2 h3 => ?_, fun i h1 h2 h3 => absurd (hb i h1 h2) h3⟩
        by_cases q : i = r
        · subst q; omega
        · exact absurd (hb i h1 (by omega)) h3
      | some b =>
        obtain ⟨b1, b2, b3, b4, b5⟩ := hb
        have hRb := hR b b1 (by omega)
        refine br_f (nI_pos (by omega)) ⟨zn_in (by omega) (by omega), ?_⟩
        show wpX_size _ _ (mE w (3 * nI b + nI c).toNatClampNeg)
        rw [mE_ix w hc (by omega)]
        refine xf_size hRb ?_
        refine zn_le (zi_absR hRb) (zi_absR hRr) (fun h1 => nm_r (nI_1 r) (ih (r + 1) (some b) (by omega) (by omega) ?_)) (fun h1 => nm_r (nI_1 r) (ih (r + 1) (some r) (by omega) (by omega) ?_))
        · refine ⟨b1, by omega, b3, fun i k1 k2 k3 => ?_, b5⟩
          by_cases q : i = r
          · subst q; exact h1
          · exact b4 i k1 (by omega) k3
        · refine ⟨hf, by omega, z, fun i k1 k2 k3 => ?_, fun i k1 k2 k3 => ?_⟩
          · by_cases q : i = r
            · subst q; omega
            · have := b4 i k1 (by omega) k3; omega
          · have := b4 i k1 k2 k3; omega
theorem xl_least {c f n : Nat} (hc : c < 3) (hn : n < 5) (hf : f ≤ n) (hR : ∀ i, f ≤ i → i < n → zi_R (w i c)) (hp : ∀ b, lo_ w c f n b → post (oe_ b)) : wpX_leastIn post (fc, fr, fk, fs, fh, fl, fb, aR, mE w, aS, aO, aQ, aD, aE) (nI c) (nI f) (nI n) :=
  ⟨_, xl_6 hc hn hR hp (n - f) f none (by omega) (Nat.le_refl _) (fun i h1 h2 => absurd h2 (by omega))⟩
end
/-- rows f + 1 .. r - 1 less their multiples of row f -/
def rp_ (v : Nat → Nat → Int) (c f r : Nat) : Nat → Nat → Int := fun i j => if f < i ∧ i < r then v i j - (v i c).fdiv (v f c) * v f j else v i j
/-- one round: row s comes to f, then the others are reduced by it -/
def xw_ (w : Nat → Nat → Int) (f s : Nat) : Nat → Nat → Int := fun i j => if i = s then w f j else if i = f then w s j else w i j
def rd_ (w : Nat → Nat → Int) (c f n s : Nat) : Nat → Nat → Int := rp_ (xw_ w f s) c f n
def cl_ (w : Nat → Nat → Int) (c f n : Nat) : Prop := ∀ i, f < i → i < n → w i c = 0
def rs_ (c f n : Nat) : Nat → (Nat → Nat → Int) → (Nat → Nat → Int) → Prop
  | 0, w, w' => w' = w
  | k + 1, w, w' => ∃ s, lo_ w c f n (some s) ∧ rs_ c f n k (rd_ w c f n s) w'
/-- so many rounds clear the column -/
def tm_ (c f n : Nat) : Nat → (Nat → Nat → Int) → Prop
  | 0, _ => False
  | k + 1, w => ∀ s, lo_ w c f n (some s) → cl_ (rd_ w c f n s) c f n ∨ tm_ c f n k (rd_ w c f n s)
theorem rp_0 (v : Nat → Nat → Int) (c f : Nat) : rp_ v c f (f + 1) = v := by funext i j; unfold rp_; rw [if_neg (by omega)]
theorem fm_lt {a b : Int} (hb : b ≠ 0) : (a - a.fdiv b * b).natAbs < b.natAbs := by
  have e : a - a.fdiv b * b = a.fmod b := by rw [Int.fmod_def, Int.mul_comm]
  rw [e]
  by_cases h : 0 < b
  · have h1 := Int.fmod_nonneg_of_pos a h
    have h2 := Int.fmod_lt_of_pos a h
    omega
  · have h1 := Int.fmod_nonneg_of_pos (-a) (b := -b) (by omega)
    have h2 := Int.fmod_lt_of_pos (-a) (b := -b) (by omega)
    rw [Int.neg_fmod_neg] at h1 h2
    omega
theorem lo_s {w : Nat → Nat → Int} {c f n s : Nat} (h : lo_ w c f n (some s)) : f ≤ s ∧ s < n ∧ w s c ≠ 0 := ⟨h.1, h.2.1, h.2.2.1⟩
theorem rd_R {w : Nat → Nat → Int} {c f n s : Nat} (h : lo_ w c f n (some s)) (hR : ∀ i, f ≤ i → i < n → zi_R (w i c)) : ∀ i, f ≤ i → i < n → zi_R (rd_ w c f n s i c) := by
  obtain ⟨h1, h2, h3⟩ := lo_s h
  have hx : ∀ i, f ≤ i → i < n → zi_R (xw_ w f s i c) := by
    intro i a b
    unfold xw_
    by_cases q : i = s
    · rw [if_pos q]; exact hR f (by omega) (by omega)
    · rw [if_neg q]
      by_cases q' : i = f
      · rw [if_pos q']; exact hR s h1 h2
      · rw [if_neg q']; exact hR i a b
  have hf : xw_ w f s f c = w s c := by
    unfold xw_
    by_cases q : f = s
    · rw [if_pos q, q]
    · rw [if_neg q, if_pos rfl]
  intro i a b
  unfold rd_ rp_
  by_cases q : f < i ∧ i < n
  · rw [if_pos q]
    have k := fm_lt (a := xw_ w f s i c) (b := xw_ w f s f c) (by rw [hf]; exact h3)
    have := zi_absR (hx f (by omega) (by omega))
    exact zi_Rabs (by omega)
  · rw [if_neg q]; exact hx i a b
section
variable {fc fr fk fs fh fl fb : Int32} {aR aW aS aO aQ aD aE : Nat → Int32} {post : SX → Prop}
/-- the flag: whether something is left -/
def mf_ (v : Nat → Nat → Int) (c f r : Nat) (x : Int32) : Prop := (x = 0 ∧ ∀ i, f < i → i < r → v i c = 0) ∨ (x = 1 ∧ ∃ i, f < i ∧ i < r ∧ v i c ≠ 0)
theorem xc_47 {J6 : Int32 → Int32 → Int32 → Int32 → Int32 → Int32 → Int32 → Int32 → Int32 → (Nat → Int32) → (Nat → Int32) → (Nat → Int32) → (Nat → Int32) → (Nat → Int32) → (Nat → Int32) → (Nat → Int32) → Prop} {v : Nat → Nat → Int} {c f n k : Nat} (hc : c < 3) (hn : n < 5) (hf : v f c ≠ 0) (hR : ∀ i, f ≤ i → i < n → zi_R (v i c)) (hfn : f < n) (hJ : ∀ x, mf_ (rp_ v c f n) c f n x → J6 x (nI (k + 1)) fc fr fk fs fh fl fb aR (mE (rp_ v c f n)) aS aO aQ aD aE) : ∀ d r : Nat, ∀ x : Int32, r + d = n → f < r → mf_ (rp_ v c f r) c f r x → wX_clearColumn_47 post J6 (nI c) (nI f) (nI n) (nI k) (d + 1) x (nI r) fc fr fk fs fh fl fb aR (mE (rp_ v c f r)) aS aO aQ aD aE := by
  intro d
  induction d with
  | zero =>
    intro r x hr hf' hx
    have : r = n := by omega
    subst this
    exact br_t (nI_le (by omega) (by omega)) (nm_r (nI_1 k) (hJ x hx))
  | succ d ih =>
    intro r x hr hf' hx
    have e1 : rp_ v c f r r c = v r c := by unfold rp_; rw [if_neg (by omega)]
    have e2 : rp_ v c f r f c = v f c := by unfold rp_; rw [if_neg (by omega)]
    refine br_f (nI_ge (by omega) (by omega)) ⟨zn_in (by omega) (by omega), zn_in (by omega) (by omega), ?_⟩
    rw [mE_ix _ hc (by omega), mE_ix _ hc (by omega), e1, e2]
    refine xf_div (hR r (by omega) (by omega)) (hR f (by omega) (by omega)) ?_
    refine xs_subtract (r := r) (s := f) (by omega) (by omega) ?_
    have e3 : mE (sb_ (rp_ v c f r) r ((v r c).fdiv (v f c)) f 3) = mE (rp_ v c f (r + 1)) := by
      refine mE_ext (fun i j hj => ?_)
      unfold sb_ rp_
      by_cases q : i = r
      · subst q
        rw [if_pos ⟨rfl, hj⟩, if_neg (by omega), if_neg (by omega), if_pos (by omega)]
      · rw [if_neg (by omega)]
        by_cases q' : f < i ∧ i < r
        · rw [if_pos q', if_pos (by omega)]
        · rw [if_neg q', if_neg (by omega)]
    rw [e3]
    have old : ∀ i, i < r → rp_ v c f (r + 1) i c = rp_ v c f r i c := by
      intro i hi
      unfold rp_
      by_cases q' : f < i
      · rw [if_pos ⟨q', by omega⟩, if_pos ⟨q', by omega⟩]
      · rw [if_neg (by omega), if_neg (by omega)]
    have hv : rp_ v c f (r + 1) r c = v r c - (v r c).fdiv (v f c) * v f c := by unfold rp_; rw [if_pos (by omega)]
    have hvR : zi_R (rp_ v c f (r + 1) r c) := by
      rw [hv]
      have k1 := fm_lt (a := v r c) hf
      have := zi_absR (hR f (by omega) (by omega))
      exact zi_Rabs (by omega)
    rcases hx with ⟨hx, hz⟩ | ⟨hx, i0, i1, i2, i3⟩
    · subst hx
      refine br_t rfl ⟨zn_in (by omega) (by omega), ?_⟩
      rw [mE_ix _ hc (by omega)]
      refine zc_eq _ 0 rfl rfl hvR zi_R0 (fun z => nm_r (nI_1 r) (ih (r + 1) 0 (by omega) (by omega) (Or.inl ⟨rfl, fun i a b => ?_⟩))) (fun z => nm_r (nI_1 r) (ih (r + 1) 1 (by omega) (by omega) (Or.inr ⟨rfl, r, by omega, by omega, z⟩)))
      by_cases q : i = r
      · subst q; exact z
      · rw [old i (by omega)]; exact hz i a (by omega)
    · subst hx
      refine br_f (by decide) (nm_r (nI_1 r) (ih (r + 1) 1 (by omega) (by omega) (Or.inr ⟨rfl, i0, i1, by omega, ?_⟩)))
      rw [old i0 i2]; exact i3
theorem xc_6 {c f n : Nat} (hc : c < 3) (hn : n < 5) (hfn : f ≤ n) : ∀ j k : Nat, k + j = 40 → ∀ w : Nat → Nat → Int, (∀ i, f ≤ i → i < n → zi_R (w i c)) → tm_ c f n j w → (∀ m w', rs_ c f n m w w' → cl_ w' c f n → post (fc, fr, fk, fs, fh, fl, fb, aR, mE w', aS, aO, aQ, aD, aE)) → wX_clearColumn_6 post (nI c) (nI f) (nI n) (j + 1) 1 (nI k) fc fr fk fs fh fl fb aR (mE w) aS aO aQ aD aE := by
  intro j
  induction j with
  | zero => intro k _ w _ h; exact absurd h (fun h => h)
  | succ j ih =>
    intro k hk w hR ht hp
    refine br_f (nI_ge (a := k) (b := 40) (by omega) (by omega)) (br_f (by decide) ?_)
    refine xl_least hc hn hfn hR (fun b hb => ?_)
    cases b with
    | none =>
      refine br_t (by decide) (nm_r (nI_1 k) ?_)
      have : post (fc, fr, fk, fs, fh, fl, fb, aR, mE w, aS, aO, aQ, aD, aE) := hp 0 w rfl (fun i a b => hb i (by omega) b)
      exact br_c (fun _ => this) (fun _ => br_t rfl this)
    | some s =>
      obtain ⟨s1, s2, s3⟩ := lo_s hb
      refine br_f (nI_pos (by omega)) ?_
      refine xe_exchange (r := f) (s := s) (by omega) (by omega) ?_
      have e : mE (ex_ w f s 3) = mE (xw_ w f s) := mE_ext (fun i j hj => by unfold ex_ xw_; rw [if_pos hj])
      rw [e]
      have hf : xw_ w f s f c = w s c := by
        unfold xw_
        by_cases q : f = s
        · rw [if_pos q, q]
        · rw [if_neg q, if_pos rfl]
      have hx : ∀ i, f ≤ i → i < n → zi_R (xw_ w f s i c) := by
        intro i a b
        unfold xw_
        by_cases q : i = s
        · rw [if_pos q]; exact hR f (by omega) (by omega)
        · rw [if_neg q]
          by_cases q' : i = f
          · rw [if_pos q']; exact hR s s1 s2
          · rw [if_neg q']; exact hR i a b
      have main : ∃ m, wX_clearColumn_47 post (wX_clearColumn_6 post (nI c) (nI f) (nI n) (j + 1)) (nI c) (nI f) (nI n) (nI k) m 0 (nI (f + 1)) fc fr fk fs fh fl fb aR (mE (rp_ (xw_ w f s) c f (f + 1))) aS aO aQ aD aE := by
        refine ⟨_, xc_47 hc hn (by rw [hf]; exact s3) hx (by omega) (fun x hx => ?_) (n - (f + 1)) (f + 1) 0 (by omega) (by omega) (Or.inl ⟨rfl, fun i a b => absurd b (by omega)⟩)⟩
        rcases hx with ⟨hx, hz⟩ | ⟨hx, i0, i1, i2, i3⟩
        · subst hx
          have : post (fc, fr, fk, fs, fh, fl, fb, aR, mE (rd_ w c f n s), aS, aO, aQ, aD, aE) := hp 1 _ ⟨s, hb, rfl⟩ hz
          exact br_c (fun _ => this) (fun _ => br_t rfl this)
        · subst hx
          have ht' : tm_ c f n j (rd_ w c f n s) := by
            rcases ht s hb with h | h
            · exact absurd (h i0 i1 i2) i3
            · exact h
          exact ih (k + 1) (by omega) (rd_ w c f n s) (rd_R hb hR) ht' (fun m w' h1 h2 => hp (m + 1) w' ⟨s, hb, h1⟩ h2)
      rw [rp_0] at main
      exact nm_r (nI_1 f) main
theorem xc_clear {c f n : Nat} {w : Nat → Nat → Int} (hc : c < 3) (hn : n < 5) (hfn : f ≤ n) (hR : ∀ i, f ≤ i → i < n → zi_R (w i c)) (ht : tm_ c f n 40 w) (hp : ∀ m w', rs_ c f n m w w' → cl_ w' c f n → post (fc, fr, fk, fs, fh, fl, fb, aR, mE w', aS, aO, aQ, aD, aE)) : wpX_clearColumn post (fc, fr, fk, fs, fh, fl, fb, aR, mE w, aS, aO, aQ, aD, aE) (nI c) (nI f) (nI n) :=
  ⟨_, xc_6 hc hn hfn 40 0 (by omega) w hR ht hp⟩
end
end
section
/-! rounds of a column: what they keep, and that they end -/
def fb_ : Nat → Nat
  | 0 => 0
  | 1 => 1
  | k + 2 => fb_ (k + 1) + fb_ k
theorem fb_s (k : Nat) : fb_ (k + 2) = fb_ (k + 1) + fb_ k := rfl
theorem fb_41 : fb_ 41 = 165580141 := by
  have h0 : fb_ 0 = 0 := rfl
  have h1 : fb_ 1 = 1 := rfl
  have h2 : fb_ 2 = 1 := by rw [fb_s, h1, h0]
  have h3 : fb_ 3 = 2 := by rw [fb_s, h2, h1]
  have h4 : fb_ 4 = 3 := by rw [fb_s, h3, h2]
  have h5 : fb_ 5 = 5 := by rw [fb_s, h4, h3]
  have h6 : fb_ 6 = 8 := by rw [fb_s, h5, h4]
  have h7 : fb_ 7 = 13 := by rw [fb_s, h6, h5]
  have h8 : fb_ 8 = 21 := by rw [fb_s, h7, h6]
  have h9 : fb_ 9 = 34 := by rw [fb_s, h8, h7]
  have h10 : fb_ 10 = 55 := by rw [fb_s, h9, h8]
  have h11 : fb_ 11 = 89 := by rw [fb_s, h10, h9]
  have h12 : fb_ 12 = 144 := by rw [fb_s, h11, h10]
  have h13 : fb_ 13 = 233 := by rw [fb_s, h12, h11]
  have h14 : fb_ 14 = 377 := by rw [fb_s, h13, h12]
  have h15 : fb_ 15 = 610 := by rw [fb_s, h14, h13]
  have h16 : fb_ 16 = 987 := by rw [fb_s, h15, h14]
  have h17 : fb_ 17 = 1597 := by rw [fb_s, h16, h15]
  have h18 : fb_ 18 = 2584 := by rw [fb_s, h17, h16]
  have h19 : fb_ 19 = 4181 := by rw [fb_s, h18, h17]
  have h20 : fb_ 20 = 6765 := by rw [fb_s, h19, h18]
  have h21 : fb_ 21 = 10946 := by rw [fb_s, h20, h19]
  have h22 : fb_ 22 = 17711 := by rw [fb_s, h21, h20]
  have h23 : fb_ 23 = 28657 := by rw [fb_s, h22, h21]
  have h24 : fb_ 24 = 46368 := by rw [fb_s, h23, h22]
  have h25 : fb_ 25 = 75025 := by rw [fb_s, h24, h23]
  have h26 : fb_ 26 = 121393 := by rw [fb_s, h25, h24]
  have h27 : fb_ 27 = 196418 := by rw [fb_s, h26, h25]
  have h28 : fb_ 28 = 317811 := by rw [fb_s, h27, h26]
  have h29 : fb_ 29 = 514229 := by rw [fb_s, h28, h27]
  have h30 : fb_ 30 = 832040 := by rw [fb_s, h29, h28]
  have h31 : fb_ 31 = 1346269 := by rw [fb_s, h30, h29]
  have h32 : fb_ 32 = 2178309 := by rw [fb_s, h31, h30]
  have h33 : fb_ 33 = 3524578 := by rw [fb_s, h32, h31]
  have h34 : fb_ 34 = 5702887 := by rw [fb_s, h33, h32]
  have h35 : fb_ 35 = 9227465 := by rw [fb_s, h34, h33]
  have h36 : fb_ 36 = 14930352 := by rw [fb_s, h35, h34]
  have h37 : fb_ 37 = 24157817 := by rw [fb_s, h36, h35]
  have h38 : fb_ 38 = 39088169 := by rw [fb_s, h37, h36]
  have h39 : fb_ 39 = 63245986 := by rw [fb_s, h38, h37]
  have h40 : fb_ 40 = 102334155 := by rw [fb_s, h39, h38]
  have h41 : fb_ 41 = 165580141 := by rw [fb_s, h40, h39]
  exact h41
theorem fb_mono (k : Nat) : fb_ (k + 1) ≤ fb_ (k + 2) := by rw [fb_s]; omega
theorem rs_ind {c f n : Nat} (P : (Nat → Nat → Int) → Prop) (h : ∀ w s, P w → lo_ w c f n (some s) → P (rd_ w c f n s)) : ∀ k w w', rs_ c f n k w w' → P w → P w' := by
  intro k
  induction k with
  | zero => intro w w' e hw; cases e; exact hw
  | succ k ih =>
    rintro w w' ⟨s, hs, hr⟩ hw
    exact ih _ _ hr (h w s hw hs)
theorem xw_f (w : Nat → Nat → Int) (f s j : Nat) : xw_ w f s f j = w s j := by
  unfold xw_
  by_cases q : f = s
  · rw [if_pos q, q]
  · rw [if_neg q, if_pos rfl]
theorem xw_s (w : Nat → Nat → Int) (f s j : Nat) : xw_ w f s s j = w f j := by unfold xw_; rw [if_pos rfl]
theorem xw_o (w : Nat → Nat → Int) {f s i : Nat} (h1 : i ≠ s) (h2 : i ≠ f) (j : Nat) : xw_ w f s i j = w i j := by unfold xw_; rw [if_neg h1, if_neg h2]
theorem rd_f (w : Nat → Nat → Int) (c f n s j : Nat) : rd_ w c f n s f j = w s j := by unfold rd_ rp_; rw [if_neg (by omega), xw_f]
theorem rd_i (w : Nat → Nat → Int) {c f n s i : Nat} (h1 : f < i) (h2 : i < n) (j : Nat) : rd_ w c f n s i j = xw_ w f s i j - (xw_ w f s i c).fdiv (w s c) * w s j := by
  unfold rd_ rp_; rw [if_pos ⟨h1, h2⟩, xw_f, xw_f]
theorem rd_out {w : Nat → Nat → Int} {c f n s i : Nat} (h1 : f ≤ s) (h2 : s < n) (h : i < f ∨ n ≤ i) (j : Nat) : rd_ w c f n s i j = w i j := by
  unfold rd_ rp_; rw [if_neg (by omega)]
  exact xw_o w (by omega) (by omega) j
/-- the same points -/
theorem sp_xw {Q : Nat → Prop} {w : Nat → Nat → Int} {f s : Nat} (hf : Q f) (hs : Q s) (x y z : Int) : sp_L Q (xw_ w f s) x y z ↔ sp_L Q w x y z := by
  constructor
  · refine sp_le (fun i hi => ?_)
    by_cases q : i = s
    · subst q; rw [xw_s, xw_s, xw_s]; exact sp_row hf
    · by_cases q' : i = f
      · subst q'; rw [xw_f, xw_f, xw_f]; exact sp_row hs
      · rw [xw_o w q q', xw_o w q q', xw_o w q q']; exact sp_row hi
  · refine sp_le (fun i hi => ?_)
    by_cases q : i = s
    · subst q; have := sp_row (w := xw_ w f i) hf; rw [xw_f, xw_f, xw_f] at this; exact this
    · by_cases q' : i = f
      · subst q'; have := sp_row (w := xw_ w i s) hs; rw [xw_s, xw_s, xw_s] at this; exact this
      · have := sp_row (w := xw_ w f s) hi; rw [xw_o w q q', xw_o w q q', xw_o w q q'] at this; exact this
/-- rows that differ by multiples of one that stays -/
theorem sp_mul {Q : Nat → Prop} {v v' : Nat → Nat → Int} {f : Nat} (hf : Q f) (hv : ∀ j, v' f j = v f j) (h : ∀ i, Q i → ∃ q : Int, ∀ j, v' i j = v i j - q * v f j) (x y z : Int) : sp_L Q v' x y z ↔ sp_L Q v x y z := by
  constructor
  · refine sp_le (fun i hi => ?_)
    obtain ⟨q, e⟩ := h i hi
    rw [e, e, e]
    exact gr_sub (sp_gr _ _) (sp_row hi) (sp_row hf) q
  · refine sp_le (fun i hi => ?_)
    obtain ⟨q, e⟩ := h i hi
    have h1 := gr_sub (sp_gr Q v') (sp_row hi) (sp_row hf) (-q)
    rw [e, e, e, hv, hv, hv] at h1
    exact gr_e h1 (by grind) (by grind) (by grind)
theorem sp_rd {Q : Nat → Prop} {w : Nat → Nat → Int} {c f n s : Nat} (hf : Q f) (hs : Q s) (x y z : Int) : sp_L Q (rd_ w c f n s) x y z ↔ sp_L Q w x y z := by
  refine Iff.trans ?_ (sp_xw (w := w) hf hs x y z)
  refine sp_mul hf (fun j => ?_) (fun i hi => ?_) x y z
  · rw [rd_f, xw_f]
  · by_cases q : f < i ∧ i < n
    · exact ⟨_, fun j => by unfold rd_ rp_; rw [if_pos q]⟩
    · exact ⟨0, fun j => by unfold rd_ rp_; rw [if_neg q]; omega⟩
theorem sp_rs {Q : Nat → Prop} {c f n k : Nat} {w w' : Nat → Nat → Int} (hQ : ∀ i, f ≤ i → i < n → Q i) (h : rs_ c f n k w w') (x y z : Int) : sp_L Q w' x y z ↔ sp_L Q w x y z := by
  refine rs_ind (fun v => sp_L Q v x y z ↔ sp_L Q w x y z) (fun v s hv hs => ?_) k w w' h Iff.rfl
  obtain ⟨h1, h2, _⟩ := lo_s hs
  rw [sp_rd (hQ f (by omega) (by omega)) (hQ s h1 h2)]
  exact hv
theorem rs_out {c f n k : Nat} {w w' : Nat → Nat → Int} (h : rs_ c f n k w w') : ∀ i, (i < f ∨ n ≤ i) → ∀ j, w' i j = w i j := by
  refine rs_ind (fun v => ∀ i, (i < f ∨ n ≤ i) → ∀ j, v i j = w i j) (fun v s hv hs i hi j => ?_) k w w' h (fun _ _ _ => rfl)
  obtain ⟨h1, h2, _⟩ := lo_s hs
  rw [rd_out h1 h2 hi]; exact hv i hi j
/-- a column of zeros stays one -/
theorem rs_zero {c f n k j : Nat} {w w' : Nat → Nat → Int} (h : rs_ c f n k w w') (hz : ∀ i, f ≤ i → i < n → w i j = 0) : ∀ i, f ≤ i → i < n → w' i j = 0 := by
  refine rs_ind (fun v => ∀ i, f ≤ i → i < n → v i j = 0) (fun v s hv hs i hi hin => ?_) k w w' h hz
  obtain ⟨h1, h2, _⟩ := lo_s hs
  have hx : xw_ v f s i j = 0 := by
    by_cases q : i = s
    · subst q; rw [xw_s]; exact hv f (by omega) (by omega)
    · by_cases q' : i = f
      · subst q'; rw [xw_f]; exact hv s h1 h2
      · rw [xw_o v q q']; exact hv i hi hin
  by_cases q : f < i
  · rw [rd_i v q hin, hx, hv s h1 h2]; omega
  · have : i = f := by omega
    subst this; rw [rd_f]; exact hv s h1 h2
/-- numbers of one sign -/
def sg_ (w : Nat → Nat → Int) (c f n : Nat) : Prop := (∀ i, f ≤ i → i < n → 0 ≤ w i c) ∨ (∀ i, f ≤ i → i < n → w i c ≤ 0)
/-- after a round: row f's number is other than 0, the others' are of its sign, below it -/
def st_ (w : Nat → Nat → Int) (c f n : Nat) : Prop := w f c ≠ 0 ∧ sg_ w c f n ∧ ∀ i, f < i → i < n → (w i c).natAbs < (w f c).natAbs
theorem fm_pos {a b : Int} (h : 0 < b) : 0 ≤ a - a.fdiv b * b := by
  have e : a - a.fdiv b * b = a.fmod b := by rw [Int.fmod_def, Int.mul_comm]
  rw [e]; exact Int.fmod_nonneg_of_pos a h
theorem fm_neg {a b : Int} (h : b < 0) : a - a.fdiv b * b ≤ 0 := by
  have e : a - a.fdiv b * b = a.fmod b := by rw [Int.fmod_def, Int.mul_comm]
  rw [e]
  have h1 := Int.fmod_nonneg_of_pos (-a) (b := -b) (by omega)
  rw [Int.neg_fmod_neg] at h1
  omega
theorem rd_st {w : Nat → Nat → Int} {c f n s : Nat} (hs : lo_ w c f n (some s)) : st_ (rd_ w c f n s) c f n := by
  obtain ⟨h1, h2, h3⟩ := lo_s hs
  refine ⟨by rw [rd_f]; exact h3, ?_, fun i a b => ?_⟩
  · by_cases h : 0 < w s c
    · refine Or.inl (fun i a b => ?_)
      by_cases q : f < i
      · rw [rd_i w q b]; exact fm_pos h
      · have : i = f := by omega
        subst this; rw [rd_f]; omega
    · refine Or.inr (fun i a b => ?_)
      by_cases q : f < i
      · rw [rd_i w q b]; exact fm_neg (by omega)
      · have : i = f := by omega
        subst this; rw [rd_f]; omega
  · rw [rd_i w a b, rd_f]; exact fm_lt h3
/-- division of numbers of one sign -/
theorem fd_abs {a b : Int} (h : (0 ≤ a ∧ 0 < b) ∨ (a ≤ 0 ∧ b < 0)) : (a.fdiv b).natAbs = a.natAbs / b.natAbs ∧ (a - a.fdiv b * b).natAbs = a.natAbs % b.natAbs := by
  have pos : ∀ x y : Int, 0 ≤ x → 0 < y → (x.fdiv y).natAbs = x.natAbs / y.natAbs ∧ (x - x.fdiv y * y).natAbs = x.natAbs % y.natAbs := by
    intro x y hx hy
    obtain ⟨X, rfl⟩ := Int.eq_ofNat_of_zero_le hx
    obtain ⟨Y, rfl⟩ := Int.eq_ofNat_of_zero_le (Int.le_of_lt hy)
    have e1 : ((X : Int).fdiv (Y : Int)) = ((X / Y : Nat) : Int) := (Int.ofNat_fdiv X Y).symm
    rw [e1]
    refine ⟨by simp only [Int.natAbs_natCast], ?_⟩
    have e2 : (X : Int) - ((X / Y : Nat) : Int) * (Y : Int) = ((X % Y : Nat) : Int) := by
      have := Nat.div_add_mod X Y
      have h2 : ((Y * (X / Y) + X % Y : Nat) : Int) = (X : Int) := by rw [this]
      push_cast at h2 ⊢
      grind
    rw [e2]; simp only [Int.natAbs_natCast]
  rcases h with ⟨h1, h2⟩ | ⟨h1, h2⟩
  · exact pos a b h1 h2
  · obtain ⟨k1, k2⟩ := pos (-a) (-b) (by omega) (by omega)
    rw [Int.neg_fdiv_neg] at k1 k2
    refine ⟨by rw [k1]; simp, ?_⟩
    have e : a - a.fdiv b * b = -(-a - a.fdiv b * -b) := by grind
    rw [e, Int.natAbs_neg, k2]; simp
/-- within one sign: the numbers of a round -/
theorem rd_nat {w : Nat → Nat → Int} {c f n s i : Nat} (hs : lo_ w c f n (some s)) (hg : sg_ w c f n) (h1 : f < i) (h2 : i < n) : ((xw_ w f s i c).fdiv (w s c)).natAbs = (xw_ w f s i c).natAbs / (w s c).natAbs ∧ (rd_ w c f n s i c).natAbs = (xw_ w f s i c).natAbs % (w s c).natAbs := by
  obtain ⟨k1, k2, k3⟩ := lo_s hs
  rw [rd_i w h1 h2]
  refine fd_abs ?_
  have hx : ∀ P : Int → Prop, (∀ i, f ≤ i → i < n → P (w i c)) → P (xw_ w f s i c) := by
    intro P hP
    by_cases q : i = s
    · subst q; rw [xw_s]; exact hP f (by omega) (by omega)
    · rw [xw_o w q (by omega)]; exact hP i (by omega) h2
  rcases hg with g | g
  · have a1 := hx (fun x => 0 ≤ x) g
    have a2 := g s k1 k2
    exact Or.inl ⟨a1, by omega⟩
  · have a1 := hx (fun x => x ≤ 0) g
    have a2 := g s k1 k2
    exact Or.inr ⟨a1, by omega⟩
def fi_ (w : Nat → Nat → Int) (c f n j : Nat) : Prop := (w f c).natAbs < fb_ (j + 2) ∨ ∃ i, f < i ∧ i < n ∧ w i c ≠ 0 ∧ (w i c).natAbs < fb_ (j + 1)
theorem fi_tm {c f n : Nat} : ∀ j w, st_ w c f n → ¬ cl_ w c f n → fi_ w c f n j → tm_ c f n j w := by
  intro j
  induction j with
  | zero =>
    intro w hs _ hf
    have e1 : fb_ (0 + 1) = 1 := rfl
    have e2 : fb_ (0 + 2) = 1 := rfl
    have := hs.1
    rcases hf with h | ⟨i, _, _, h3, h4⟩ <;> omega
  | succ j ih =>
    intro w hst hcl hf s hs
    by_cases q : cl_ (rd_ w c f n s) c f n
    · exact Or.inl q
    · refine Or.inr (ih _ (rd_st hs) q ?_)
      obtain ⟨s1, s2, s3, s4, s5⟩ := hs
      have hs : lo_ w c f n (some s) := ⟨s1, s2, s3, s4, s5⟩
      obtain ⟨p1, p2, p3⟩ := hst
      have ⟨i0, j1, j2, j3⟩ : ∃ i, f < i ∧ i < n ∧ w i c ≠ 0 := by
        apply Classical.byContradiction
        intro k
        exact hcl (fun i a b => Classical.byContradiction fun z => k ⟨i, a, b, z⟩)
      have hsf : f < s := by
        by_cases z : s = f
        · have a1 := s4 i0 (by omega) j2 j3
          have a2 := p3 i0 j1 j2
          rw [z] at a1; omega
        · omega
      have he := p3 s hsf s2
      unfold fi_
      rw [rd_f]
      by_cases z : (w s c).natAbs < fb_ (j + 2)
      · exact Or.inl z
      · have hP : (w f c).natAbs < fb_ (j + 3) := by
          rcases hf with h | ⟨i, a1, a2, a3, a4⟩
          · exact h
          · have := s4 i (by omega) a2 a3
            have a5 : (w i c).natAbs < fb_ (j + 2) := a4
            omega
        have e3 : fb_ (j + 3) = fb_ (j + 2) + fb_ (j + 1) := fb_s (j + 1)
        have e4 := fb_mono j
        obtain ⟨_, r2⟩ := rd_nat hs p2 hsf s2
        rw [xw_s] at r2
        have hpos : 0 < (w s c).natAbs := by omega
        have d1 := Nat.div_add_mod (w f c).natAbs (w s c).natAbs
        have d2 := Nat.mod_lt (w f c).natAbs hpos
        have d3 : 1 ≤ (w f c).natAbs / (w s c).natAbs := (Nat.le_div_iff_mul_le hpos).mpr (by omega)
        refine Or.inr ⟨s, hsf, s2, ?_, ?_⟩
        · intro z0
          rw [z0] at r2
          have r3 : (w f c).natAbs % (w s c).natAbs = 0 := by rw [← r2]; rfl
          have d4 : (w f c).natAbs / (w s c).natAbs ≠ 1 := by
            intro z1; rw [z1, r3] at d1; omega
          have d5 : (w s c).natAbs * 2 ≤ (w s c).natAbs * ((w f c).natAbs / (w s c).natAbs) := Nat.mul_le_mul_left _ (by omega)
          omega
        · rw [r2]
          have d5 : (w s c).natAbs * 1 ≤ (w s c).natAbs * ((w f c).natAbs / (w s c).natAbs) := Nat.mul_le_mul_left _ d3
          omega
theorem tm_40 {w : Nat → Nat → Int} {c f n : Nat} (h : ∀ i, f ≤ i → i < n → (w i c).natAbs < 165580141) : tm_ c f n 40 w := by
  intro s hs
  by_cases q : cl_ (rd_ w c f n s) c f n
  · exact Or.inl q
  · refine Or.inr (fi_tm 39 _ (rd_st hs) q (Or.inl ?_))
    obtain ⟨s1, s2, s3⟩ := lo_s hs
    rw [rd_f, fb_41]
    exact h s s1 s2
end
section
/-! how the other columns grow while one is cleared -/
theorem gv_a {e q r p b : Nat} (hp : p = e * q + r) (hq : 1 ≤ q) (hb : e ≤ b) : (1 + q) * (e * (e + r)) ≤ p * (p + b) := by
  obtain ⟨t, rfl⟩ : ∃ t, q = t + 1 := ⟨q - 1, by omega⟩
  have h1 : p * (p + e) ≤ p * (p + b) := Nat.mul_le_mul_left _ (by omega)
  refine Nat.le_trans ?_ h1
  have : p * (p + e) = (1 + (t + 1)) * (e * (e + r)) + (e * e * (t + 2) * t + e * (t + 1) * r + r * r) := by rw [hp]; grind
  rw [this]; exact Nat.le_add_right _ _
theorem gv_b {e q p b : Nat} (hp : p = e * q) (hq : 2 ≤ q) (hb : e ≤ b) : (1 + q) * (e * (e + (e - 1))) ≤ p * (p + b) := by
  obtain ⟨t, rfl⟩ : ∃ t, q = t + 2 := ⟨q - 2, by omega⟩
  have h1 : p * (p + e) ≤ p * (p + b) := Nat.mul_le_mul_left _ (by omega)
  have h2 : (1 + (t + 2)) * (e * (e + (e - 1))) ≤ (1 + (t + 2)) * (e * (2 * e)) := Nat.mul_le_mul_left _ (Nat.mul_le_mul_left _ (by omega))
  refine Nat.le_trans h2 (Nat.le_trans ?_ h1)
  have : p * (p + e) = (1 + (t + 2)) * (e * (2 * e)) + e * e * (t + 3) * t := by rw [hp]; grind
  rw [this]; exact Nat.le_add_right _ _
theorem fd_le {a b : Int} (hb : b ≠ 0) : (a.fdiv b).natAbs * b.natAbs ≤ a.natAbs + b.natAbs := by
  have h := fm_lt (a := a) hb
  rw [← Int.natAbs_mul]
  generalize a.fdiv b * b = x at *
  omega
theorem ab_sub (x q y : Int) : (x - q * y).natAbs ≤ x.natAbs + q.natAbs * y.natAbs := by
  rw [← Int.natAbs_mul]
  generalize q * y = z
  omega
def gv_ (w : Nat → Nat → Int) (c f n j K : Nat) : Prop := st_ w c f n ∧ 6 * (w f j).natAbs ≤ K ∧ ∃ M b : Nat, (∀ i, f ≤ i → i < n → (w i j).natAbs ≤ M) ∧ b < (w f c).natAbs ∧ M * ((w f c).natAbs * ((w f c).natAbs + b)) ≤ K ∧ (cl_ w c f n ∨ ∃ i, f < i ∧ i < n ∧ w i c ≠ 0 ∧ (w i c).natAbs ≤ b)
theorem xw_all {w : Nat → Nat → Int} {f n s j : Nat} {P : Int → Prop} (h1 : f ≤ s) (h2 : s < n) (h : ∀ i, f ≤ i → i < n → P (w i j)) : ∀ i, f ≤ i → i < n → P (xw_ w f s i j) := by
  intro i a b
  by_cases q : i = s
  · subst q; rw [xw_s]; exact h f (by omega) (by omega)
  · by_cases q' : i = f
    · subst q'; rw [xw_f]; exact h s h1 h2
    · rw [xw_o w q q']; exact h i a b
theorem gv_step {w : Nat → Nat → Int} {c f n j K s : Nat} (h : gv_ w c f n j K) (hs : lo_ w c f n (some s)) : gv_ (rd_ w c f n s) c f n j K := by
  obtain ⟨⟨p1, p2, p3⟩, hK6, M, b, hM, hb, hK, hor⟩ := h
  obtain ⟨s1, s2, s3, s4, s5⟩ := hs
  have hs : lo_ w c f n (some s) := ⟨s1, s2, s3, s4, s5⟩
  by_cases hcl : cl_ w c f n
  · have hsf : s = f := by
      by_cases z : s = f
      · exact z
      · exact absurd (hcl s (by omega) s2) s3
    subst hsf
    have e : ∀ i j, s ≤ i → i < n → rd_ w c s n s i j = w i j := by
      intro i j' a b'
      by_cases q : s < i
      · rw [rd_i w q b', xw_o w (by omega) (by omega), xw_o w (by omega) (by omega), hcl i q b']; simp
      · have : i = s := by omega
        subst this; rw [rd_f]
    refine ⟨rd_st hs, by rw [rd_f]; exact hK6, M, b, fun i a b' => by rw [e i j a b']; exact hM i a b', by rw [rd_f]; exact hb, by rw [rd_f]; exact hK, Or.inl fun i a b' => ?_⟩
    rw [e i c (by omega) b']; exact hcl i a b'
  · obtain ⟨i0, j1, j2, j3, j4⟩ := hor.resolve_left hcl
    have a1 := s4 i0 (by omega) j2 j3
    have hsf : f < s := by
      by_cases z : s = f
      · have a2 := p3 i0 j1 j2
        rw [z] at a1; omega
      · omega
    have he := p3 s hsf s2
    have hpos : 0 < (w s c).natAbs := by omega
    have hMs := hM s s1 s2
    have d1 := Nat.div_add_mod (w f c).natAbs (w s c).natAbs
    have d2 := Nat.mod_lt (w f c).natAbs hpos
    have d3 : 1 ≤ (w f c).natAbs / (w s c).natAbs := (Nat.le_div_iff_mul_le hpos).mpr (by omega)
    have hp : (w f c).natAbs = (w s c).natAbs * ((w f c).natAbs / (w s c).natAbs) + (w f c).natAbs % (w s c).natAbs := d1.symm
    have hM' : ∀ i, f ≤ i → i < n → (rd_ w c f n s i j).natAbs ≤ M * (1 + (w f c).natAbs / (w s c).natAbs) := by
      intro i a b'
      by_cases q : f < i
      · rw [rd_i w q b']
        obtain ⟨r1, _⟩ := rd_nat hs p2 q b'
        have x1 := xw_all (P := fun x => x.natAbs ≤ M) s1 s2 hM i a b'
        have x2 : (xw_ w f s i c).natAbs ≤ (w f c).natAbs := by
          refine xw_all (P := fun x => x.natAbs ≤ (w f c).natAbs) s1 s2 (fun i a b' => ?_) i a b'
          by_cases q : f < i
          · exact Nat.le_of_lt (p3 i q b')
          · have : i = f := by omega
            subst this; exact Nat.le_refl _
        have x3 := ab_sub (xw_ w f s i j) ((xw_ w f s i c).fdiv (w s c)) (w s j)
        rw [r1] at x3
        have x4 : (xw_ w f s i c).natAbs / (w s c).natAbs ≤ (w f c).natAbs / (w s c).natAbs := Nat.div_le_div_right x2
        have x5 : (xw_ w f s i c).natAbs / (w s c).natAbs * (w s j).natAbs ≤ (w f c).natAbs / (w s c).natAbs * M := Nat.mul_le_mul x4 hMs
        have x6 : M * (1 + (w f c).natAbs / (w s c).natAbs) = M + (w f c).natAbs / (w s c).natAbs * M := by grind
        omega
      · have : i = f := by omega
        subst this
        rw [rd_f]
        exact Nat.le_trans hMs (Nat.le_mul_of_pos_right _ (by omega))
    have h6 : 6 * (w s j).natAbs ≤ K := by
      have y1 : 2 * (2 + 1) ≤ (w f c).natAbs * ((w f c).natAbs + b) := Nat.mul_le_mul (by omega) (by omega)
      have y2 : M * (2 * (2 + 1)) ≤ M * ((w f c).natAbs * ((w f c).natAbs + b)) := Nat.mul_le_mul_left _ y1
      omega
    refine ⟨rd_st hs, by rw [rd_f]; exact h6, M * (1 + (w f c).natAbs / (w s c).natAbs), ?_⟩
    rw [rd_f]
    by_cases hr : (w f c).natAbs % (w s c).natAbs = 0
    · refine ⟨(w s c).natAbs - 1, hM', by omega, ?_, ?_⟩
      · have q2 : 2 ≤ (w f c).natAbs / (w s c).natAbs := by
          have : (w f c).natAbs / (w s c).natAbs ≠ 1 := by intro z; rw [z, hr] at hp; omega
          omega
        have g := gv_b (e := (w s c).natAbs) (p := (w f c).natAbs) (b := b) (by rw [hr] at hp; exact hp) q2 (by omega)
        have g2 := Nat.mul_le_mul_left M g
        rw [Nat.mul_assoc]
        exact Nat.le_trans g2 hK
      · by_cases hcl' : cl_ (rd_ w c f n s) c f n
        · exact Or.inl hcl'
        · have ⟨i, k1, k2, k3⟩ : ∃ i, f < i ∧ i < n ∧ rd_ w c f n s i c ≠ 0 := by
            apply Classical.byContradiction
            intro k
            exact hcl' (fun i a b => Classical.byContradiction fun z => k ⟨i, a, b, z⟩)
          have := (rd_st hs).2.2 i k1 k2
          rw [rd_f] at this
          exact Or.inr ⟨i, k1, k2, k3, by omega⟩
    · refine ⟨(w f c).natAbs % (w s c).natAbs, hM', d2, ?_, ?_⟩
      · have g := gv_a (e := (w s c).natAbs) (p := (w f c).natAbs) (b := b) hp d3 (by omega)
        have g2 := Nat.mul_le_mul_left M g
        rw [Nat.mul_assoc]
        exact Nat.le_trans g2 hK
      · obtain ⟨_, r2⟩ := rd_nat hs p2 hsf s2
        rw [xw_s] at r2
        exact Or.inr ⟨s, hsf, s2, by omega, by omega⟩
theorem gv_first {w : Nat → Nat → Int} {c f n j N M s : Nat} (hN : ∀ i, f ≤ i → i < n → (w i c).natAbs ≤ N) (hM : ∀ i, f ≤ i → i < n → (w i j).natAbs ≤ M) (hs : lo_ w c f n (some s)) : gv_ (rd_ w c f n s) c f n j (6 * M * N * N) := by
  obtain ⟨s1, s2, s3⟩ := lo_s hs
  have hpos : 0 < (w s c).natAbs := by omega
  have hpN := hN s s1 s2
  have hMs := hM s s1 s2
  have hst := rd_st hs
  have k1 : 6 * M * N * N = 6 * M * (N * N) := by grind
  have k2 : 1 ≤ N * N := Nat.mul_le_mul (show 1 ≤ N by omega) (show 1 ≤ N by omega)
  have k3 : 6 * M * 1 ≤ 6 * M * (N * N) := Nat.mul_le_mul_left _ k2
  refine ⟨hst, by rw [rd_f]; omega, M * (1 + (N + (w s c).natAbs) / (w s c).natAbs), (w s c).natAbs - 1, fun i a b' => ?_, by rw [rd_f]; omega, ?_, ?_⟩
  · by_cases q : f < i
    · rw [rd_i w q b']
      have x1 := xw_all (P := fun x => x.natAbs ≤ M) s1 s2 hM i a b'
      have x2 := xw_all (P := fun x => x.natAbs ≤ N) s1 s2 hN i a b'
      have x3 := ab_sub (xw_ w f s i j) ((xw_ w f s i c).fdiv (w s c)) (w s j)
      have x4 := fd_le (a := xw_ w f s i c) s3
      have x5 : ((xw_ w f s i c).fdiv (w s c)).natAbs ≤ (N + (w s c).natAbs) / (w s c).natAbs := (Nat.le_div_iff_mul_le hpos).mpr (by omega)
      have x6 : ((xw_ w f s i c).fdiv (w s c)).natAbs * (w s j).natAbs ≤ (N + (w s c).natAbs) / (w s c).natAbs * M := Nat.mul_le_mul x5 hMs
      have x7 : M * (1 + (N + (w s c).natAbs) / (w s c).natAbs) = M + (N + (w s c).natAbs) / (w s c).natAbs * M := by grind
      omega
    · have : i = f := by omega
      subst this
      rw [rd_f]
      exact Nat.le_trans hMs (Nat.le_mul_of_pos_right _ (Nat.add_pos_left (by decide) _))
  · rw [rd_f]
    generalize (w s c).natAbs = p at *
    have y1 : (N + p) / p * p ≤ N + p := Nat.div_mul_le_self _ _
    have y2 : (1 + (N + p) / p) * p ≤ 3 * N := by
      have : (1 + (N + p) / p) * p = p + (N + p) / p * p := by grind
      omega
    have y3 : p + (p - 1) ≤ 2 * N := by omega
    have y4 : ((1 + (N + p) / p) * p) * (p + (p - 1)) ≤ (3 * N) * (2 * N) := Nat.mul_le_mul y2 y3
    have y5 : M * (1 + (N + p) / p) * (p * (p + (p - 1))) = M * (((1 + (N + p) / p) * p) * (p + (p - 1))) := by grind
    have y6 : M * ((3 * N) * (2 * N)) = 6 * M * N * N := by grind
    rw [y5, ← y6]
    exact Nat.mul_le_mul_left _ y4
  · by_cases hcl' : cl_ (rd_ w c f n s) c f n
    · exact Or.inl hcl'
    · have ⟨i, k1, k2, k3⟩ : ∃ i, f < i ∧ i < n ∧ rd_ w c f n s i c ≠ 0 := by
        apply Classical.byContradiction
        intro k
        exact hcl' (fun i a b => Classical.byContradiction fun z => k ⟨i, a, b, z⟩)
      have := hst.2.2 i k1 k2
      rw [rd_f] at this
      exact Or.inr ⟨i, k1, k2, k3, by omega⟩
/-- after a clearing: at most 6 M N^2, in the first row at most a sixth of it -/
theorem gv_fin {w w' : Nat → Nat → Int} {c f n j N M k : Nat} (h0 : 1 ≤ N) (hN : ∀ i, f ≤ i → i < n → (w i c).natAbs ≤ N) (hM : ∀ i, f ≤ i → i < n → (w i j).natAbs ≤ M) (h : rs_ c f n k w w') : (∀ i, f ≤ i → i < n → (w' i j).natAbs ≤ 6 * M * N * N) ∧ (f < n → 6 * (w' f j).natAbs ≤ 6 * M * N * N) := by
  have k1 : 6 * M * N * N = 6 * M * (N * N) := by grind
  have k2 : 1 ≤ N * N := Nat.mul_le_mul h0 h0
  have k3 : 6 * M * 1 ≤ 6 * M * (N * N) := Nat.mul_le_mul_left _ k2
  cases k with
  | zero =>
    cases h
    refine ⟨fun i a b => ?_, fun a => ?_⟩
    · have := hM i a b; omega
    · have := hM f (by omega) a; omega
  | succ k =>
    obtain ⟨s, hs, hr⟩ := h
    have g := rs_ind (fun v => gv_ v c f n j (6 * M * N * N)) (fun v s hv hs => gv_step hv hs) k _ _ hr (gv_first hN hM hs)
    obtain ⟨⟨p1, _, _⟩, h6, M', b, hM', hb, hK, _⟩ := g
    refine ⟨fun i a b' => Nat.le_trans (hM' i a b') (Nat.le_trans ?_ hK), fun _ => h6⟩
    refine Nat.le_mul_of_pos_right _ (Nat.mul_pos (by omega) (by omega))
end
section
/-! the first column: numbers up to 9; a table of all runs -/
def ck_ : Nat → Nat → Nat → Nat → Nat → Nat → Nat → Nat → Nat → Nat → Bool
  | 0, _, _, _, _, _, _, _, _, _ => false
  | k + 1, p, u0, u1, u2, u3, m0, m1, m2, m3 =>
    (decide ((u0 + 9 * m0) / p + m0 ≤ 30) && (decide ((u1 + 9 * m1) / p + m1 ≤ 30) && (decide ((u2 + 9 * m2) / p + m2 ≤ 30) && decide ((u3 + 9 * m3) / p + m3 ≤ 30)))) &&
    (if u1 = 0 ∧ u2 = 0 ∧ u3 = 0 then decide ((u0 + 9 * m0) / p + m0 ≤ 10)
     else if u1 ≠ 0 ∧ (u2 = 0 ∨ u1 ≤ u2) ∧ (u3 = 0 ∨ u1 ≤ u3) then ck_ k p u1 (u0 % u1) (u2 % u1) (u3 % u1) m1 (m0 + u0 / u1 * m1) (m2 + u2 / u1 * m1) (m3 + u3 / u1 * m1)
     else if u2 ≠ 0 ∧ (u3 = 0 ∨ u2 ≤ u3) then ck_ k p u2 (u1 % u2) (u0 % u2) (u3 % u2) m2 (m1 + u1 / u2 * m2) (m0 + u0 / u2 * m2) (m3 + u3 / u2 * m2)
     else ck_ k p u3 (u1 % u3) (u2 % u3) (u0 % u3) m3 (m1 + u1 / u3 * m3) (m2 + u2 / u3 * m3) (m0 + u0 / u3 * m3))
def al_ : Nat → (Nat → Bool) → Bool
  | 0, _ => true
  | n + 1, f => f n && al_ n f
theorem al_at {f : Nat → Bool} : ∀ {n i : Nat}, al_ n f = true → i < n → f i = true := by
  intro n
  induction n with
  | zero => intro i _ h; omega
  | succ n ih =>
    intro i h hi
    rw [al_, Bool.and_eq_true] at h
    by_cases q : i = n
    · subst q; exact h.1
    · exact ih h.2 (by omega)
theorem ck_tab : al_ 10 (fun p => al_ p (fun b1 => al_ p (fun b2 => al_ p (fun b3 => ck_ 6 p p b1 b2 b3 0 1 1 1)))) = true := by decide +kernel
theorem ck_at {p b1 b2 b3 : Nat} (hp : p < 10) (h1 : b1 < p) (h2 : b2 < p) (h3 : b3 < p) : ck_ 6 p p b1 b2 b3 0 1 1 1 = true := by
  have t1 := al_at ck_tab hp
  have t2 := al_at t1 h1
  have t3 := al_at t2 h2
  exact al_at (f := fun b3 => ck_ 6 p p b1 b2 b3 0 1 1 1) t3 h3
def ci_ (w : Nat → Nat → Int) (n : Nat) (P : Nat → Int) (u m : Nat → Nat) : Prop := st_ w 0 0 n ∧ (∀ i, i < n → (w i 0).natAbs = u i) ∧ (∀ i, n ≤ i → u i = 0) ∧ ∀ i, i < n → ∃ α : Int, ∀ j, j < 3 → (w i j - α * P j).natAbs ≤ 9 * m i
def cv_ (w : Nat → Nat → Int) (n : Nat) (P : Nat → Int) : Prop := ∃ k u m, ci_ w n P u m ∧ ck_ k (P 0).natAbs (u 0) (u 1) (u 2) (u 3) (m 0) (m 1) (m 2) (m 3) = true
theorem ci_bd {w : Nat → Nat → Int} {n B : Nat} {P : Nat → Int} {u m : Nat → Nat} (h : ci_ w n P u m) (hP : ∀ j, j < 3 → (P j).natAbs ≤ 9) (h0 : 0 < (P 0).natAbs) {i : Nat} (hi : i < n) (hB : (u i + 9 * m i) / (P 0).natAbs + m i ≤ B) : ∀ j, j < 3 → (w i j).natAbs ≤ 9 * B := by
  obtain ⟨_, h1, _, h2⟩ := h
  obtain ⟨α, ha⟩ := h2 i hi
  have a0 := ha 0 (by omega)
  have e0 := h1 i hi
  have a1 : α.natAbs * (P 0).natAbs ≤ u i + 9 * m i := by
    rw [← Int.natAbs_mul]
    generalize α * P 0 = x at *
    omega
  have a2 : α.natAbs ≤ (u i + 9 * m i) / (P 0).natAbs := (Nat.le_div_iff_mul_le h0).mpr a1
  intro j hj
  have b0 := ha j hj
  have b1 : α.natAbs * (P j).natAbs ≤ α.natAbs * 9 := Nat.mul_le_mul_left _ (hP j hj)
  rw [← Int.natAbs_mul] at b1
  generalize α * P j = x at *
  omega
theorem cn_ck {k p u0 u1 u2 u3 m0 m1 m2 m3 : Nat} (h : ck_ (k + 1) p u0 u1 u2 u3 m0 m1 m2 m3 = true) : ((u0 + 9 * m0) / p + m0 ≤ 30 ∧ (u1 + 9 * m1) / p + m1 ≤ 30 ∧ (u2 + 9 * m2) / p + m2 ≤ 30 ∧ (u3 + 9 * m3) / p + m3 ≤ 30) ∧
    (u1 = 0 ∧ u2 = 0 ∧ u3 = 0 → (u0 + 9 * m0) / p + m0 ≤ 10) ∧
    (u1 ≠ 0 → (u2 = 0 ∨ u1 ≤ u2) → (u3 = 0 ∨ u1 ≤ u3) → ck_ k p u1 (u0 % u1) (u2 % u1) (u3 % u1) m1 (m0 + u0 / u1 * m1) (m2 + u2 / u1 * m1) (m3 + u3 / u1 * m1) = true) ∧
    (u2 ≠ 0 → (u1 = 0 ∨ u2 < u1) → (u3 = 0 ∨ u2 ≤ u3) → ck_ k p u2 (u1 % u2) (u0 % u2) (u3 % u2) m2 (m1 + u1 / u2 * m2) (m0 + u0 / u2 * m2) (m3 + u3 / u2 * m2) = true) ∧
    (u3 ≠ 0 → (u1 = 0 ∨ u3 < u1) → (u2 = 0 ∨ u3 < u2) → ck_ k p u3 (u1 % u3) (u2 % u3) (u0 % u3) m3 (m1 + u1 / u3 * m3) (m2 + u2 / u3 * m3) (m0 + u0 / u3 * m3) = true) := by
  rw [ck_, Bool.and_eq_true, Bool.and_eq_true, Bool.and_eq_true, Bool.and_eq_true, decide_eq_true_eq, decide_eq_true_eq, decide_eq_true_eq, decide_eq_true_eq] at h
  obtain ⟨h1, h2⟩ := h
  refine ⟨h1, fun z => ?_, fun a b c => ?_, fun a b c => ?_, fun a b c => ?_⟩
  · rw [if_pos z, decide_eq_true_eq] at h2; exact h2
  · rw [if_neg (by omega), if_pos ⟨a, b, c⟩] at h2; exact h2
  · rw [if_neg (by omega), if_neg (by omega), if_pos ⟨a, c⟩] at h2; exact h2
  · rw [if_neg (by omega), if_neg (by omega), if_neg (by omega)] at h2; exact h2
theorem ci_step {w : Nat → Nat → Int} {n s : Nat} {P : Nat → Int} {u m : Nat → Nat} (h : ci_ w n P u m) (hs : lo_ w 0 0 n (some s)) (h0 : 0 < s) :
    ci_ (rd_ w 0 0 n s) n P (fun i => if i = 0 then u s else (if i = s then u 0 else u i) % u s) (fun i => if i = 0 then m s else (if i = s then m 0 else m i) + (if i = s then u 0 else u i) / u s * m s) := by
  obtain ⟨⟨p1, p2, p3⟩, h1, h2, h3⟩ := h
  obtain ⟨s1, s2, s3⟩ := lo_s hs
  have eu : ∀ i, 0 < i → i < n → (xw_ w 0 s i 0).natAbs = if i = s then u 0 else u i := by
    intro i a b
    by_cases q : i = s
    · subst q; rw [xw_s, if_pos rfl]; exact h1 0 (by omega)
    · rw [xw_o w q (by omega), if_neg q]; exact h1 i b
  refine ⟨rd_st hs, fun i hi => ?_, fun i hi => ?_, fun i hi => ?_⟩
  · dsimp only
    by_cases q : i = 0
    · subst q; rw [rd_f, if_pos rfl]; exact h1 s s2
    · rw [if_neg q, (rd_nat hs p2 (by omega) hi).2, eu i (by omega) hi, h1 s s2]
  · dsimp only
    rw [if_neg (by omega), if_neg (by omega), h2 i hi, Nat.zero_mod]
  · dsimp only
    by_cases q : i = 0
    · subst q
      obtain ⟨α, ha⟩ := h3 s s2
      exact ⟨α, fun j hj => by rw [rd_f, if_pos rfl]; exact ha j hj⟩
    · obtain ⟨β, hb⟩ := h3 s s2
      have ⟨α, ha⟩ : ∃ α : Int, ∀ j, j < 3 → (xw_ w 0 s i j - α * P j).natAbs ≤ 9 * (if i = s then m 0 else m i) := by
        by_cases q' : i = s
        · subst q'
          obtain ⟨α, ha⟩ := h3 0 (by omega)
          exact ⟨α, fun j hj => by rw [xw_s, if_pos rfl]; exact ha j hj⟩
        · obtain ⟨α, ha⟩ := h3 i hi
          exact ⟨α, fun j hj => by rw [xw_o w q' q, if_neg q']; exact ha j hj⟩
      refine ⟨α - (xw_ w 0 s i 0).fdiv (w s 0) * β, fun j hj => ?_⟩
      rw [rd_i w (by omega) hi, if_neg q]
      have e1 : ((xw_ w 0 s i 0).fdiv (w s 0)).natAbs = (if i = s then u 0 else u i) / u s := by
        rw [(rd_nat hs p2 (by omega) hi).1, eu i (by omega) hi, h1 s s2]
      have a1 := ha j hj
      have b1 := hb j hj
      have c1 := ab_sub (xw_ w 0 s i j - α * P j) ((xw_ w 0 s i 0).fdiv (w s 0)) (w s j - β * P j)
      rw [e1] at c1
      have c2 : (if i = s then u 0 else u i) / u s * (w s j - β * P j).natAbs ≤ (if i = s then u 0 else u i) / u s * (9 * m s) := Nat.mul_le_mul_left _ b1
      have c3 : xw_ w 0 s i j - (xw_ w 0 s i 0).fdiv (w s 0) * w s j - (α - (xw_ w 0 s i 0).fdiv (w s 0) * β) * P j = xw_ w 0 s i j - α * P j - (xw_ w 0 s i 0).fdiv (w s 0) * (w s j - β * P j) := by grind
      rw [c3]
      have c4 : 9 * ((if i = s then m 0 else m i) + (if i = s then u 0 else u i) / u s * m s) = 9 * (if i = s then m 0 else m i) + (if i = s then u 0 else u i) / u s * (9 * m s) := by grind
      rw [c4]
      omega
theorem cv_step {w : Nat → Nat → Int} {n s : Nat} {P : Nat → Int} (hn : n < 5) (h : cv_ w n P) (hs : lo_ w 0 0 n (some s)) : cv_ (rd_ w 0 0 n s) n P := by
  obtain ⟨k, u, m, hc, hk⟩ := h
  obtain ⟨s1, s2, s3, s4, s5⟩ := hs
  have hs : lo_ w 0 0 n (some s) := ⟨s1, s2, s3, s4, s5⟩
  have hc' := hc
  obtain ⟨⟨p1, p2, p3⟩, h1, h2, h3⟩ := hc'
  by_cases h0 : s = 0
  · subst h0
    have z : ∀ i, 0 < i → i < n → w i 0 = 0 := by
      intro i a b
      apply Classical.byContradiction
      intro q
      have a1 := s4 i (by omega) b q
      have a2 := p3 i a b
      omega
    have e : ∀ i j, i < n → rd_ w 0 0 n 0 i j = w i j := by
      intro i j b
      by_cases q : 0 < i
      · rw [rd_i w q b, xw_o w (by omega) (by omega), xw_o w (by omega) (by omega), z i q b]; simp
      · have : i = 0 := by omega
        subst this; rw [rd_f]
    refine ⟨k, u, m, ⟨rd_st hs, fun i hi => by rw [e i 0 hi]; exact h1 i hi, h2, fun i hi => ?_⟩, hk⟩
    obtain ⟨α, ha⟩ := h3 i hi
    exact ⟨α, fun j hj => by rw [e i j hi]; exact ha j hj⟩
  · cases k with
    | zero => rw [ck_] at hk; exact absurd hk (by decide)
    | succ k =>
      obtain ⟨_, _, c1, c2, c3⟩ := cn_ck hk
      refine ⟨k, _, _, ci_step hc hs (by omega), ?_⟩
      have un : u s ≠ 0 := by rw [← h1 s s2]; omega
      have ul : ∀ i, u i = 0 ∨ u s ≤ u i := by
        intro i
        by_cases q : i < n
        · rw [← h1 i q, ← h1 s s2]
          by_cases z : w i 0 = 0
          · left; omega
          · right; exact s4 i (by omega) q z
        · left; exact h2 i (by omega)
      have uf : ∀ i, i < s → u i = 0 ∨ u s < u i := by
        intro i a
        rw [← h1 i (by omega), ← h1 s s2]
        by_cases z : w i 0 = 0
        · left; omega
        · right; exact s5 i (by omega) a z
      have : s = 1 ∨ s = 2 ∨ s = 3 := by omega
      rcases this with rfl | rfl | rfl
      · exact c1 un (ul 2) (ul 3)
      · exact c2 un (uf 1 (by omega)) (ul 3)
      · exact c3 un (uf 1 (by omega)) (uf 2 (by omega))
theorem cv_first {w : Nat → Nat → Int} {n s : Nat} (hn : n < 5) (hw : ∀ i j, i < n → j < 3 → (w i j).natAbs ≤ 9) (hs : lo_ w 0 0 n (some s)) : cv_ (rd_ w 0 0 n s) n (w s) := by
  obtain ⟨s1, s2, s3⟩ := lo_s hs
  have hst := rd_st hs
  refine ⟨6, fun i => if i < n then (rd_ w 0 0 n s i 0).natAbs else 0, fun i => if i = 0 then 0 else 1, ⟨hst, fun i hi => ?_, fun i hi => ?_, fun i hi => ?_⟩, ?_⟩
  · dsimp only; rw [if_pos hi]
  · dsimp only; rw [if_neg (by omega)]
  · dsimp only
    by_cases q : i = 0
    · subst q
      exact ⟨1, fun j hj => by rw [rd_f, if_pos rfl, Int.one_mul, Int.sub_self]; decide⟩
    · refine ⟨- (xw_ w 0 s i 0).fdiv (w s 0), fun j hj => ?_⟩
      rw [rd_i w (by omega) hi, if_neg q]
      have e : xw_ w 0 s i j - (xw_ w 0 s i 0).fdiv (w s 0) * w s j - -(xw_ w 0 s i 0).fdiv (w s 0) * w s j = xw_ w 0 s i j := by grind
      rw [e]
      exact xw_all (P := fun x => x.natAbs ≤ 9) s1 s2 (fun i _ b => hw i j b hj) i (by omega) hi
  · have e0 : (if 0 < n then (rd_ w 0 0 n s 0 0).natAbs else 0) = (w s 0).natAbs := by rw [if_pos (by omega), rd_f]
    have lt : ∀ i, 0 < i → (if i < n then (rd_ w 0 0 n s i 0).natAbs else 0) < (w s 0).natAbs := by
      intro i a
      by_cases q : i < n
      · rw [if_pos q]
        have := hst.2.2 i a q
        rw [rd_f] at this; exact this
      · rw [if_neg q]; omega
    have h9 := hw s 0 s2 (by omega)
    show ck_ 6 (w s 0).natAbs (if 0 < n then (rd_ w 0 0 n s 0 0).natAbs else 0) _ _ _ 0 1 1 1 = true
    rw [e0]
    exact ck_at (by omega) (lt 1 (by omega)) (lt 2 (by omega)) (lt 3 (by omega))
/-- after the first column's clearing -/
theorem c0_fin {w w' : Nat → Nat → Int} {n k : Nat} (hn : n < 5) (hw : ∀ i j, i < n → j < 3 → (w i j).natAbs ≤ 9) (h : rs_ 0 0 n k w w') (hcl : cl_ w' 0 0 n) : (∀ i j, i < n → j < 3 → (w' i j).natAbs ≤ 270) ∧ (0 < n → ∀ j, j < 3 → (w' 0 j).natAbs ≤ 90) := by
  cases k with
  | zero =>
    cases h
    exact ⟨fun i j a b => Nat.le_trans (hw i j a b) (by decide), fun a j b => Nat.le_trans (hw 0 j a b) (by decide)⟩
  | succ k =>
    obtain ⟨s, hs, hr⟩ := h
    obtain ⟨s1, s2, s3⟩ := lo_s hs
    have g := rs_ind (fun v => cv_ v n (w s)) (fun v s' hv hs' => cv_step hn hv hs') k _ _ hr (cv_first hn hw hs)
    obtain ⟨k', u, m, hc, hk⟩ := g
    have hP : ∀ j, j < 3 → (w s j).natAbs ≤ 9 := fun j hj => hw s j s2 hj
    have h0 : 0 < (w s 0).natAbs := by omega
    cases k' with
    | zero => rw [ck_] at hk; exact absurd hk (by decide)
    | succ k' =>
      obtain ⟨⟨b0, b1, b2, b3⟩, z, _⟩ := cn_ck hk
      have uz : ∀ i, 0 < i → u i = 0 := by
        intro i a
        by_cases q : i < n
        · rw [← hc.2.1 i q, hcl i a q]; rfl
        · exact hc.2.2.1 i (by omega)
      refine ⟨fun i j a b => ?_, fun a j b => ?_⟩
      · have : i = 0 ∨ i = 1 ∨ i = 2 ∨ i = 3 := by omega
        rcases this with rfl | rfl | rfl | rfl
        · exact ci_bd hc hP h0 a b0 j b
        · exact ci_bd hc hP h0 a b1 j b
        · exact ci_bd hc hP h0 a b2 j b
        · exact ci_bd hc hP h0 a b3 j b
      · exact ci_bd hc hP h0 a (z ⟨uz 1 (by omega), uz 2 (by omega), uz 3 (by omega)⟩) j b
end
section
/-! the class: the stair form, its walk -/
def ct_ (v R : Nat → Nat → Int) (m r k : Nat) : Nat → Nat → Int := fun i j => if i = m ∧ j < k then R r j else v i j
theorem ct_0 (v R : Nat → Nat → Int) (m r : Nat) : ct_ v R m r 0 = v := by funext i j; unfold ct_; rw [if_neg (by omega)]
theorem ct_s (v R : Nat → Nat → Int) (m r k : Nat) : ms_ (ct_ v R m r k) m k (R r k) = ct_ v R m r (k + 1) := by
  funext i j; unfold ms_ ct_
  by_cases h : i = m ∧ j = k
  · rw [if_pos h, if_pos ⟨h.1, by omega⟩, h.2]
  · rw [if_neg h]
    by_cases h1 : i = m ∧ j < k
    · rw [if_pos h1, if_pos ⟨h1.1, by omega⟩]
    · rw [if_neg h1, if_neg (by omega)]
/-- row t of the other sign -/
def ng_ (w : Nat → Nat → Int) (t : Nat) : Nat → Nat → Int := fun i j => if i = t then - w t j else w i j
/-- rows above r less multiples of row t -/
def up_ (w : Nat → Nat → Int) (c t r : Nat) : Nat → Nat → Int := fun i j => if i < r then w i j - (w i c).fdiv (w t c) * w t j else w i j
theorem up_0 (w : Nat → Nat → Int) (c t : Nat) : up_ w c t 0 = w := by funext i j; unfold up_; rw [if_neg (by omega)]
/-- what a column's turn does -/
def cs_ (c n t : Nat) (so : Nat → Int) (w : Nat → Nat → Int) (t' : Nat) (so' : Nat → Int) (w' : Nat → Nat → Int) : Prop :=
  ∃ k w1, rs_ c t n k w w1 ∧ cl_ w1 c t n ∧
    ((¬ (t < n ∧ w1 t c ≠ 0) ∧ t' = t ∧ so' = vs_ so c (-1) ∧ w' = w1) ∨
     (t < n ∧ ∃ w2, (w2 = w1 ∧ 0 < w1 t c ∨ w2 = ng_ w1 t ∧ w1 t c < 0) ∧ t' = t + 1 ∧ so' = vs_ so c t ∧ w' = up_ w2 c t t))
/-- the array of stairs as it is copied -/
def sq_ (a s : Nat → Int32) (t k : Nat) : Nat → Int32 := fun i => if i < k then (if i < 3 * t then a i else 0) else s i
theorem sq_0 (a s : Nat → Int32) (t : Nat) : sq_ a s t 0 = s := by funext i; unfold sq_; rw [if_neg (by omega)]
theorem sq_s1 {a s : Nat → Int32} {t k : Nat} (h : k < 3 * t) : upd (sq_ a s t k) k (a k) = sq_ a s t (k + 1) := by
  funext i; unfold upd sq_
  by_cases q : i = k
  · subst q; rw [if_pos rfl, if_pos (by omega), if_pos h]
  · rw [if_neg q]
    by_cases q' : i < k
    · rw [if_pos q', if_pos (show i < k + 1 by omega)]
    · rw [if_neg q', if_neg (show ¬ i < k + 1 by omega)]
theorem sq_s0 {a s : Nat → Int32} {t k : Nat} (h : 3 * t ≤ k) : upd (sq_ a s t k) k 0 = sq_ a s t (k + 1) := by
  funext i; unfold upd sq_
  by_cases q : i = k
  · subst q; rw [if_pos rfl, if_pos (by omega), if_neg (by omega)]
  · rw [if_neg q]
    by_cases q' : i < k
    · rw [if_pos q', if_pos (show i < k + 1 by omega)]
    · rw [if_neg q', if_neg (show ¬ i < k + 1 by omega)]
section
variable {fc fr fk fs fh fl fb : Int32} {aR aW aS aO aQ aD aE : Nat → Int32} {post : SX → Prop}
theorem xb_228 {t : Nat} (ht : t < 4) (hp : post (fc, fr, fk, nI t, fh, fl, fb, aR, aW, sq_ aW aS t 9, aO, aQ, aD, aE)) : ∀ d k : Nat, k + d = 9 → wX_buildStairs_228 post fc fr fk (nI t) fh fl fb (d + 1) (nI k) aR aW (sq_ aW aS t k) aO aQ aD aE := by
  intro d
  induction d with
  | zero =>
    intro k hk
    have : k = 9 := by omega
    subst this
    exact br_t (by decide) hp
  | succ d ih =>
    intro k hk
    refine br_f (nI_ge (a := k) (b := 9) (by omega) (by omega)) ?_
    have e3 : 3 * nI t = nI (3 * t) := by
      have h3 : (3 : Int32) = nI 3 := rfl
      rw [h3, zn_mul]
    rw [e3]
    have ec : (nI k).toNatClampNeg = k := nI_clamp (by omega)
    refine zn_le (by omega) (by omega) (fun h => ⟨vp_in_nI (by omega) (by omega), ?_⟩) (fun h => ⟨vp_in_nI (by omega) (by omega), vp_in_nI (by omega) (by omega), ?_⟩)
    · rw [ec]
      exact nm_r (sq_s0 h) (nm_r (nI_1 k) (ih (k + 1) (by omega)))
    · rw [ec]
      exact nm_r (sq_s1 h) (nm_r (nI_1 k) (ih (k + 1) (by omega)))
theorem xb_156 {J69 : Int32 → Int32 → Int32 → Int32 → Int32 → Int32 → Int32 → Int32 → (Nat → Int32) → (Nat → Int32) → (Nat → Int32) → (Nat → Int32) → (Nat → Int32) → (Nat → Int32) → (Nat → Int32) → Prop} {x1 : Int32} {w : Nat → Nat → Int} {c t : Nat} (hc : c < 3) (ht : t < 4) (hR : ∀ i, i ≤ t → zi_R (w i c)) (hJ : J69 (nI (c + 1)) fc fr fk (nI (t + 1)) fh fl fb aR (mE (up_ w c t t)) aS aO aQ aD aE) : ∀ d r : Nat, r + d = t → wX_buildStairs_156 post J69 x1 (nI c) (d + 1) (nI r) fc fr fk (nI t) fh fl fb aR (mE (up_ w c t r)) aS aO aQ aD aE := by
  intro d
  induction d with
  | zero =>
    intro r hr
    have : r = t := by omega
    subst this
    exact br_t (nI_le (by omega) (by omega)) (nm_r (nI_1 r) (nm_r (nI_1 c) hJ))
  | succ d ih =>
    intro r hr
    have e1 : up_ w c t r r c = w r c := by unfold up_; rw [if_neg (by omega)]
    have e2 : up_ w c t r t c = w t c := by unfold up_; rw [if_neg (by omega)]
    refine br_f (nI_ge (by omega) (by omega)) ⟨zn_in (by omega) (by omega), zn_in (by omega) (by omega), ?_⟩
    rw [mE_ix _ hc (by omega), mE_ix _ hc (by omega), e1, e2]
    refine xf_div (hR r (by omega)) (hR t (by omega)) ?_
    refine xs_subtract (r := r) (s := t) (by omega) (by omega) ?_
    have e3 : mE (sb_ (up_ w c t r) r ((w r c).fdiv (w t c)) t 3) = mE (up_ w c t (r + 1)) := by
      refine mE_ext (fun i j hj => ?_)
      unfold sb_ up_
      by_cases q : i = r
      · subst q
        rw [if_pos ⟨rfl, hj⟩, if_neg (by omega), if_neg (by omega), if_pos (by omega)]
      · rw [if_neg (by omega)]
        by_cases q' : i < r
        · rw [if_pos q', if_pos (by omega)]
        · rw [if_neg q', if_neg (by omega)]
    rw [e3]
    exact nm_r (nI_1 r) (ih (r + 1) (by omega))
theorem xb_144 {J69 : Int32 → Int32 → Int32 → Int32 → Int32 → Int32 → Int32 → Int32 → (Nat → Int32) → (Nat → Int32) → (Nat → Int32) → (Nat → Int32) → (Nat → Int32) → (Nat → Int32) → (Nat → Int32) → Prop} {x1 : Int32} {w : Nat → Nat → Int} {so : Nat → Int} {c t : Nat} (hc : c < 3) (ht : t < 4) (hR : ∀ i, i ≤ t → zi_R (w i c)) (hJ : J69 (nI (c + 1)) fc fr fk (nI (t + 1)) fh fl fb aR (mE (up_ w c t t)) aS (vE (vs_ so c t)) aQ aD aE) : wX_buildStairs_144 post J69 x1 (nI c) fc fr fk (nI t) fh fl fb aR (mE w) aS (vE so) aQ aD aE := by
  have ec : (nI c).toNatClampNeg = c := nI_clamp (by omega)
  refine ⟨vp_in_nI hc (by omega), ?_⟩
  rw [ec, ← zi_n t, vE_upd, zi_n t]
  refine nm_e ?_
  have := xb_156 (post := post) (aO := vE (vs_ so c t)) (x1 := x1) hc ht hR hJ t 0 (by omega)
  rw [up_0] at this
  exact ⟨_, this⟩
theorem xb_69 {c n t m : Nat} {so : Nat → Int} {w : Nat → Nat → Int} (hc : c < 3) (hn : n < 5) (ht : t ≤ n) (ht3 : t < 4) (hR : ∀ i, t ≤ i → i < n → (w i c).natAbs < 165580141) (hR' : ∀ i, i < t → zi_R (w i c))
    (hp : ∀ t' so' w', cs_ c n t so w t' so' w' → wX_buildStairs_69 post (nI n) m (nI (c + 1)) fc fr fk (nI t') fh fl fb aR (mE w') aS (vE so') aQ aD aE) : wX_buildStairs_69 post (nI n) (m + 1) (nI c) fc fr fk (nI t) fh fl fb aR (mE w) aS (vE so) aQ aD aE := by
  have ec : (nI c).toNatClampNeg = c := nI_clamp (by omega)
  refine br_f (nI_ge (a := c) (b := 3) (by omega) (by omega)) ⟨vp_in_nI hc (by omega), ?_⟩
  have em : (-1 : Int32) = zi_v (-1) := by decide
  rw [ec, em, vE_upd]
  refine nm_e ?_
  have hRz : ∀ i, t ≤ i → i < n → zi_R (w i c) := fun i a b => zi_Rabs (by have := hR i a b; omega)
  refine xc_clear hc hn ht hRz (tm_40 hR) (fun k w1 hk hcl => ?_)
  have hR1 : ∀ i, t ≤ i → i < n → zi_R (w1 i c) := rs_ind (fun v => ∀ i, t ≤ i → i < n → zi_R (v i c)) (fun v s hv hs => rd_R hs hv) k w w1 hk hRz
  have hR1' : ∀ i, i < t → zi_R (w1 i c) := fun i hi => by rw [rs_out hk i (Or.inl hi)]; exact hR' i hi
  refine zn_le (by omega) (by omega) (fun h => nm_r (nI_1 c) (hp _ _ _ ⟨k, w1, hk, hcl, Or.inl ⟨by omega, rfl, rfl, rfl⟩⟩)) (fun h => ⟨zn_in (by omega) (by omega), ?_⟩)
  have e1 : mE w1 (3 * nI t + nI c).toNatClampNeg = zi_v (w1 t c) := mE_ix _ hc (by omega)
  rw [e1]
  have hRt := hR1 t (by omega) h
  refine zc_eq _ 0 rfl rfl hRt zi_R0 (fun z => nm_r (nI_1 c) (hp _ _ _ ⟨k, w1, hk, hcl, Or.inl ⟨by omega, rfl, rfl, rfl⟩⟩)) (fun z => ⟨zn_in (by omega) (by omega), ?_⟩)
  have fin : ∀ w2, (w2 = w1 ∧ 0 < w1 t c ∨ w2 = ng_ w1 t ∧ w1 t c < 0) → wX_buildStairs_144 post (wX_buildStairs_69 post (nI n) m) (nI n) (nI c) fc fr fk (nI t) fh fl fb aR (mE w2) aS (vE (vs_ so c (-1))) aQ aD aE := by
    intro w2 h2
    refine xb_144 hc ht3 (fun i hi => ?_) ?_
    · rcases h2 with ⟨h2, _⟩ | ⟨h2, _⟩
      · subst h2
        by_cases q : i < t
        · exact hR1' i q
        · have : i = t := by omega
          subst this; exact hRt
      · subst h2
        unfold ng_
        by_cases q : i = t
        · rw [if_pos q]; exact ⟨by have := hRt.2; omega, by have := hRt.1; omega⟩
        · rw [if_neg q]; exact hR1' i (by omega)
    · have e : vs_ (vs_ so c (-1)) c t = vs_ so c t := by
        funext i; unfold vs_
        by_cases q : i = c
        · rw [if_pos q, if_pos q]
        · rw [if_neg q, if_neg q, if_neg q]
      rw [e]
      exact hp _ _ _ ⟨k, w1, hk, hcl, Or.inr ⟨h, w2, h2, rfl, rfl, rfl⟩⟩
  refine zc_le 0 _ rfl rfl zi_R0 hRt (fun q => fin w1 (Or.inl ⟨rfl, by omega⟩)) (fun q => ?_)
  have e2 : (2 : Int32) = zi_v 2 := by decide
  rw [e2]
  refine xs_subtract (r := t) (s := t) ht3 ht3 ?_
  have e3 : mE (sb_ w1 t 2 t 3) = mE (ng_ w1 t) := by
    refine mE_ext (fun i j hj => ?_)
    unfold sb_ ng_
    by_cases q : i = t
    · rw [if_pos ⟨q, hj⟩, if_pos q]; omega
    · rw [if_neg (by omega), if_neg q]
  rw [e3]
  exact fin _ (Or.inr ⟨rfl, q⟩)
end
end
section
/-! the stair form, column by column -/
theorem sp_ng {Q : Nat → Prop} {w : Nat → Nat → Int} {t : Nat} (x y z : Int) : sp_L Q (ng_ w t) x y z ↔ sp_L Q w x y z := by
  constructor
  · refine sp_le (fun i hi => ?_)
    unfold ng_
    by_cases q : i = t
    · subst q; rw [if_pos rfl, if_pos rfl, if_pos rfl]; exact gr_neg (sp_gr _ _) (sp_row hi)
    · rw [if_neg q, if_neg q, if_neg q]; exact sp_row hi
  · refine sp_le (fun i hi => ?_)
    have h := sp_row (w := ng_ w t) hi
    unfold ng_ at h
    by_cases q : i = t
    · subst q
      rw [if_pos rfl, if_pos rfl, if_pos rfl] at h
      exact gr_e (gr_neg (sp_gr _ _) h) (by omega) (by omega) (by omega)
    · rw [if_neg q, if_neg q, if_neg q] at h; exact h
theorem sp_up {Q : Nat → Prop} {w : Nat → Nat → Int} {c t : Nat} (ht : Q t) (x y z : Int) : sp_L Q (up_ w c t t) x y z ↔ sp_L Q w x y z := by
  refine sp_mul ht (fun j => ?_) (fun i hi => ?_) x y z
  · unfold up_; rw [if_neg (by omega)]
  · by_cases q : i < t
    · exact ⟨_, fun j => by unfold up_; rw [if_pos q]⟩
    · exact ⟨0, fun j => by unfold up_; rw [if_neg q]; omega⟩
theorem cs_sp {c n t t' : Nat} {so so' : Nat → Int} {w w' : Nat → Nat → Int} (h : cs_ c n t so w t' so' w') (x y z : Int) : sp_L (fun i => i < n) w' x y z ↔ sp_L (fun i => i < n) w x y z := by
  obtain ⟨k, w1, hk, _, h⟩ := h
  rw [← sp_rs (Q := fun i => i < n) (fun i _ b => b) hk]
  rcases h with ⟨_, _, _, rfl⟩ | ⟨htn, w2, h2, _, _, rfl⟩
  · rfl
  · rw [sp_up (Q := fun i => i < n) htn]
    rcases h2 with ⟨rfl, _⟩ | ⟨rfl, _⟩
    · rfl
    · exact sp_ng x y z
/-- what is known after a column's turn -/
theorem cs_fact {c n t t' : Nat} {so so' : Nat → Int} {w w' : Nat → Nat → Int} (h : cs_ c n t so w t' so' w') : ∃ k w1, rs_ c t n k w w1 ∧ cl_ w1 c t n ∧
    ((t' = t ∧ so' = vs_ so c (-1) ∧ w' = w1 ∧ ∀ i, t ≤ i → i < n → w' i c = 0) ∨
     (t < n ∧ t' = t + 1 ∧ so' = vs_ so c t ∧ 0 < w' t c ∧ (∀ j, (w' t j).natAbs = (w1 t j).natAbs) ∧ (∀ i, t < i → ∀ j, w' i j = w1 i j) ∧ ∀ i, i < t → ∀ j, w' i j = w i j - (w i c).fdiv (w' t c) * w' t j)) := by
  obtain ⟨k, w1, hk, hcl, h⟩ := h
  refine ⟨k, w1, hk, hcl, ?_⟩
  rcases h with ⟨h1, h2, h3, rfl⟩ | ⟨htn, w2, h2, h3, h4, rfl⟩
  · refine Or.inl ⟨h2, h3, rfl, fun i a b => ?_⟩
    by_cases q : i = t
    · subst q
      apply Classical.byContradiction
      intro z; exact h1 ⟨b, z⟩
    · exact hcl i (by omega) b
  · have et : ∀ j, up_ w2 c t t t j = w2 t j := fun j => by unfold up_; rw [if_neg (by omega)]
    have eo : ∀ i, i ≠ t → ∀ j, w2 i j = w1 i j := by
      intro i hi j
      rcases h2 with ⟨rfl, _⟩ | ⟨rfl, _⟩
      · rfl
      · unfold ng_; rw [if_neg hi]
    refine Or.inr ⟨htn, h3, h4, ?_, fun j => ?_, fun i hi j => ?_, fun i hi j => ?_⟩
    · rw [et]
      rcases h2 with ⟨rfl, h⟩ | ⟨rfl, h⟩
      · exact h
      · unfold ng_; rw [if_pos rfl]; omega
    · rw [et]
      rcases h2 with ⟨rfl, h⟩ | ⟨rfl, h⟩
      · rfl
      · unfold ng_; rw [if_pos rfl]; omega
    · have : up_ w2 c t t i j = w2 i j := by unfold up_; rw [if_neg (by omega)]
      rw [this]; exact eo i (by omega) j
    · rw [et, et]
      have : up_ w2 c t t i j = w2 i j - (w2 i c).fdiv (w2 t c) * w2 t j := by unfold up_; rw [if_pos hi]
      rw [this, eo i (by omega), eo i (by omega), rs_out hk i (Or.inl hi), rs_out hk i (Or.inl hi)]
theorem vs_s (d : Nat → Int) (k : Nat) (v : Int) : vs_ d k v k = v := by unfold vs_; rw [if_pos rfl]
theorem vs_o (d : Nat → Int) {k i : Nat} (v : Int) (h : i ≠ k) : vs_ d k v i = d i := by unfold vs_; rw [if_neg h]
/-- after the first column -/
def s1_ (n t : Nat) (so : Nat → Int) (w : Nat → Nat → Int) : Prop :=
  t ≤ n ∧ t ≤ 1 ∧ (∀ i, t ≤ i → i < n → w i 0 = 0) ∧ (∀ i j, t ≤ i → i < n → j < 3 → (w i j).natAbs ≤ 270) ∧
  ((t = 0 ∧ so 0 = -1) ∨ (t = 1 ∧ so 0 = 0 ∧ 0 < w 0 0 ∧ ∀ j, j < 3 → (w 0 j).natAbs ≤ 90))
theorem s1_of {n t' : Nat} {so so' : Nat → Int} {w w' : Nat → Nat → Int} (hn : n < 5) (hw : ∀ i j, i < n → j < 3 → (w i j).natAbs ≤ 9) (h : cs_ 0 n 0 so w t' so' w') : s1_ n t' so' w' := by
  obtain ⟨k, w1, hk, hcl, h⟩ := cs_fact h
  obtain ⟨b1, b2⟩ := c0_fin hn hw hk hcl
  rcases h with ⟨rfl, rfl, rfl, hz⟩ | ⟨htn, rfl, rfl, hp, ha, ho, _⟩
  · exact ⟨by omega, by omega, hz, fun i j _ b c => b1 i j b c, Or.inl ⟨rfl, vs_s _ _ _⟩⟩
  · refine ⟨by omega, by omega, fun i a b => ?_, fun i j a b c => ?_, Or.inr ⟨rfl, vs_s _ _ _, hp, fun j hj => ?_⟩⟩
    · rw [ho i (by omega)]; exact hcl i (by omega) b
    · rw [ho i (by omega)]; exact b1 i j b c
    · rw [ha]; exact b2 htn j hj
/-- after the second -/
def s2_ (n t : Nat) (so : Nat → Int) (w : Nat → Nat → Int) : Prop :=
  t ≤ n ∧ t ≤ 2 ∧ (∀ i, t ≤ i → i < n → w i 0 = 0 ∧ w i 1 = 0) ∧ (∀ i, t ≤ i → i < n → (w i 2).natAbs ≤ 118098000) ∧
  ∃ t1 : Nat, ((t1 = 0 ∧ so 0 = -1) ∨ (t1 = 1 ∧ so 0 = 0 ∧ 0 < w 0 0 ∧ (w 0 2).natAbs ≤ 1771470090)) ∧
   ((t = t1 ∧ so 1 = -1) ∨ (t = t1 + 1 ∧ so 1 = t1 ∧ w t1 0 = 0 ∧ 0 < w t1 1 ∧ (w t1 2).natAbs ≤ 118098000 ∧ (t1 = 1 → 0 ≤ w 0 1 ∧ w 0 1 < w 1 1)))
theorem s2_of {n t t' : Nat} {so so' : Nat → Int} {w w' : Nat → Nat → Int} (hs : s1_ n t so w) (h : cs_ 1 n t so w t' so' w') : s2_ n t' so' w' := by
  obtain ⟨h1, h2, h3, h4, h5⟩ := hs
  obtain ⟨k, w1, hk, hcl, h⟩ := cs_fact h
  obtain ⟨g1, g2⟩ := gv_fin (N := 270) (M := 270) (j := 2) (by omega) (fun i a b => h4 i 1 a b (by omega)) (fun i a b => h4 i 2 a b (by omega)) hk
  have z0 := rs_zero hk h3
  have hout : ∀ i, i < t → ∀ j, w1 i j = w i j := fun i hi j => rs_out hk i (Or.inl hi) j
  rcases h with ⟨rfl, rfl, rfl, hz⟩ | ⟨htn, rfl, rfl, hp, ha, ho, hu⟩
  · refine ⟨h1, by omega, fun i a b => ⟨z0 i a b, hz i a b⟩, fun i a b => by have := g1 i a b; omega, t', ?_, Or.inl ⟨rfl, vs_s _ _ _⟩⟩
    rcases h5 with ⟨q1, q2⟩ | ⟨q1, q2, q3, q4⟩
    · exact Or.inl ⟨q1, by rw [vs_o _ _ (by omega)]; exact q2⟩
    · refine Or.inr ⟨q1, by rw [vs_o _ _ (by omega)]; exact q2, by rw [hout 0 (by omega)]; exact q3, ?_⟩
      rw [hout 0 (by omega)]
      have := q4 2 (by omega); omega
  · have wt0 : w' t 0 = 0 := by have := ha 0; rw [z0 t (by omega) htn] at this; omega
    have wt2 : (w' t 2).natAbs ≤ 118098000 := by rw [ha]; have := g1 t (by omega) htn; omega
    refine ⟨by omega, by omega, fun i a b => ?_, fun i a b => ?_, t, ?_, Or.inr ⟨rfl, vs_s _ _ _, wt0, hp, wt2, fun q => ?_⟩⟩
    · rw [ho i (by omega), ho i (by omega)]; exact ⟨z0 i (by omega) b, hcl i (by omega) b⟩
    · rw [ho i (by omega)]; have := g1 i (by omega) b; omega
    · rcases h5 with ⟨q1, q2⟩ | ⟨q1, q2, q3, q4⟩
      · exact Or.inl ⟨q1, by rw [vs_o _ _ (by omega)]; exact q2⟩
      · refine Or.inr ⟨q1, by rw [vs_o _ _ (by omega)]; exact q2, ?_, ?_⟩
        · rw [hu 0 (by omega), wt0]; omega
        · rw [hu 0 (by omega)]
          have x1 := ab_sub (w 0 2) ((w 0 1).fdiv (w' t 1)) (w' t 2)
          have x2 := Int.natAbs_fdiv_le_natAbs (w 0 1) (w' t 1)
          have x3 := q4 1 (by omega)
          have x4 := q4 2 (by omega)
          have x5 := g2 htn
          have x6 := ha 2
          have x7 : ((w 0 1).fdiv (w' t 1)).natAbs * (w' t 2).natAbs ≤ 90 * 19683000 := Nat.mul_le_mul (by omega) (by omega)
          omega
    · subst q
      rw [hu 0 (by omega)]
      have y1 := fm_pos (a := w 0 1) hp
      have y2 := fm_lt (a := w 0 1) (b := w' 1 1) (by omega)
      omega
/-- six numbers as they lie in the two arrays -/
def sa_ (t : Nat) (so : Nat → Int) (w : Nat → Nat → Int) (a b c d e f : Int) : Prop :=
  ∃ t1 t2 : Nat, ((a = 0 ∧ t1 = 0 ∧ so 0 = -1) ∨ (0 < a ∧ t1 = 1 ∧ so 0 = 0 ∧ w 0 0 = a ∧ w 0 1 = b ∧ w 0 2 = c)) ∧
   ((d = 0 ∧ t2 = t1 ∧ so 1 = -1) ∨ (0 < d ∧ t2 = t1 + 1 ∧ so 1 = t1 ∧ w t1 0 = 0 ∧ w t1 1 = d ∧ w t1 2 = e)) ∧
   ((f = 0 ∧ t = t2 ∧ so 2 = -1) ∨ (0 < f ∧ t = t2 + 1 ∧ so 2 = t2 ∧ w t2 0 = 0 ∧ w t2 1 = 0 ∧ w t2 2 = f))
theorem s3_of {n t t' : Nat} {so so' : Nat → Int} {w w' : Nat → Nat → Int} (hs : s2_ n t so w) (h : cs_ 2 n t so w t' so' w') : ∃ a b c d e f, hn_ a b c d e f ∧ sa_ t' so' w' a b c d e f ∧ t' ≤ 3 ∧ t' ≤ n ∧ ∀ i, t' ≤ i → i < n → w' i 0 = 0 ∧ w' i 1 = 0 ∧ w' i 2 = 0 := by
  obtain ⟨h1, h2, h3, h4, t1, h5, h6⟩ := hs
  obtain ⟨k, w1, hk, hcl, h⟩ := cs_fact h
  have z0 := rs_zero hk (fun i a b => (h3 i a b).1)
  have z1 := rs_zero hk (fun i a b => (h3 i a b).2)
  have hout : ∀ i, i < t → ∀ j, w1 i j = w i j := fun i hi j => rs_out hk i (Or.inl hi) j
  have ht1 : t1 ≤ 1 ∧ t1 ≤ t := by
    rcases h5 with ⟨q, _⟩ | ⟨q, _⟩ <;> rcases h6 with ⟨q', _⟩ | ⟨q', _⟩ <;> omega
  rcases h with ⟨rfl, rfl, rfl, hz⟩ | ⟨htn, rfl, rfl, hp, ha, ho, hu⟩
  · refine ⟨if t1 = 0 then 0 else w' 0 0, if t1 = 0 then 0 else w' 0 1, if t1 = 0 then 0 else w' 0 2, if t' = t1 then 0 else w' t1 1, if t' = t1 then 0 else w' t1 2, 0, ?_, ⟨t1, t', ?_, ?_, Or.inl ⟨rfl, rfl, vs_s _ _ _⟩⟩, by omega, h1, fun i a b => ⟨z0 i a b, z1 i a b, hz i a b⟩⟩
    · rcases h5 with ⟨q1, q2⟩ | ⟨q1, q2, q3, q4⟩
      · rw [if_pos q1, if_pos q1, if_pos q1]
        rcases h6 with ⟨p1, p2⟩ | ⟨p1, p2, p3, p4, p5, p6⟩
        · rw [if_pos p1, if_pos p1]; refine ⟨by omega, by omega, by omega, by omega, by omega, by omega, by omega⟩
        · rw [if_neg (by omega), if_neg (by omega), hout t1 (by omega), hout t1 (by omega)]
          refine ⟨by omega, by omega, by omega, by omega, by omega, by omega, by omega⟩
      · rw [if_neg (by omega), if_neg (by omega), if_neg (by omega), hout 0 (by omega), hout 0 (by omega), hout 0 (by omega)]
        rcases h6 with ⟨p1, p2⟩ | ⟨p1, p2, p3, p4, p5, p6⟩
        · rw [if_pos p1, if_pos p1]; refine ⟨by omega, by omega, by omega, by omega, by omega, by omega, by omega⟩
        · rw [if_neg (by omega), if_neg (by omega), hout t1 (by omega), hout t1 (by omega)]
          subst q1
          have := p6 rfl
          refine ⟨by omega, by omega, by omega, by omega, by omega, by omega, by omega⟩
    · rcases h5 with ⟨q1, q2⟩ | ⟨q1, q2, q3, q4⟩
      · exact Or.inl ⟨by rw [if_pos q1], q1, by rw [vs_o _ _ (by omega)]; exact q2⟩
      · rw [if_neg (by omega), if_neg (by omega), if_neg (by omega)]
        exact Or.inr ⟨by rw [hout 0 (by omega)]; exact q3, q1, by rw [vs_o _ _ (by omega)]; exact q2, rfl, rfl, rfl⟩
    · rcases h6 with ⟨p1, p2⟩ | ⟨p1, p2, p3, p4, p5, p6⟩
      · exact Or.inl ⟨by rw [if_pos p1], p1, by rw [vs_o _ _ (by omega)]; exact p2⟩
      · rw [if_neg (by omega), if_neg (by omega)]
        exact Or.inr ⟨by rw [hout t1 (by omega)]; exact p4, p1, by rw [vs_o _ _ (by omega)]; exact p2, by rw [hout t1 (by omega)]; exact p3, rfl, rfl⟩
  · have wt0 : w' t 0 = 0 := by have := ha 0; rw [z0 t (by omega) htn] at this; omega
    have wt1 : w' t 1 = 0 := by have := ha 1; rw [z1 t (by omega) htn] at this; omega
    have u0 : ∀ i, i < t → w' i 0 = w i 0 := fun i hi => by rw [hu i hi, wt0]; omega
    have u1 : ∀ i, i < t → w' i 1 = w i 1 := fun i hi => by rw [hu i hi, wt1]; omega
    have u2 : ∀ i, i < t → 0 ≤ w' i 2 ∧ w' i 2 < w' t 2 := by
      intro i hi
      rw [hu i hi]
      have y1 := fm_pos (a := w i 2) hp
      have y2 := fm_lt (a := w i 2) (b := w' t 2) (by omega)
      omega
    refine ⟨if t1 = 0 then 0 else w' 0 0, if t1 = 0 then 0 else w' 0 1, if t1 = 0 then 0 else w' 0 2, if t = t1 then 0 else w' t1 1, if t = t1 then 0 else w' t1 2, w' t 2, ?_, ⟨t1, t, ?_, ?_, Or.inr ⟨hp, rfl, vs_s _ _ _, wt0, wt1, rfl⟩⟩, by omega, by omega, fun i a b => ?_⟩
    · rcases h5 with ⟨q1, q2⟩ | ⟨q1, q2, q3, q4⟩
      · rw [if_pos q1, if_pos q1, if_pos q1]
        rcases h6 with ⟨p1, p2⟩ | ⟨p1, p2, p3, p4, p5, p6⟩
        · rw [if_pos p1, if_pos p1]; refine ⟨by omega, by omega, by omega, by omega, by omega, by omega, by omega⟩
        · have k1 := u1 t1 (by omega)
          have k2 := u2 t1 (by omega)
          rw [if_neg (by omega), if_neg (by omega)]
          refine ⟨by omega, by omega, by omega, by omega, by omega, by omega, by omega⟩
      · have l0 := u0 0 (by omega)
        have l1 := u1 0 (by omega)
        have l2 := u2 0 (by omega)
        rw [if_neg (by omega), if_neg (by omega), if_neg (by omega)]
        rcases h6 with ⟨p1, p2⟩ | ⟨p1, p2, p3, p4, p5, p6⟩
        · rw [if_pos p1, if_pos p1]; refine ⟨by omega, by omega, by omega, by omega, by omega, by omega, by omega⟩
        · have k1 := u1 t1 (by omega)
          have k2 := u2 t1 (by omega)
          rw [if_neg (by omega), if_neg (by omega)]
          subst q1
          have := p6 rfl
          refine ⟨by omega, by omega, by omega, by omega, by omega, by omega, by omega⟩
    · rcases h5 with ⟨q1, q2⟩ | ⟨q1, q2, q3, q4⟩
      · exact Or.inl ⟨by rw [if_pos q1], q1, by rw [vs_o _ _ (by omega)]; exact q2⟩
      · rw [if_neg (by omega), if_neg (by omega), if_neg (by omega)]
        exact Or.inr ⟨by rw [u0 0 (by omega)]; exact q3, q1, by rw [vs_o _ _ (by omega)]; exact q2, rfl, rfl, rfl⟩
    · rcases h6 with ⟨p1, p2⟩ | ⟨p1, p2, p3, p4, p5, p6⟩
      · exact Or.inl ⟨by rw [if_pos p1], p1, by rw [vs_o _ _ (by omega)]; exact p2⟩
      · rw [if_neg (by omega), if_neg (by omega)]
        exact Or.inr ⟨by rw [u1 t1 (by omega)]; exact p4, p1, by rw [vs_o _ _ (by omega)]; exact p2, by rw [u0 t1 (by omega)]; exact p3, rfl, rfl⟩
    · rw [ho i (by omega), ho i (by omega), ho i (by omega)]
      exact ⟨z0 i (by omega) b, z1 i (by omega) b, hcl i (by omega) b⟩
end
section
/-! the class: the stair form is that of the rows' grid -/
theorem sa_hl {n t : Nat} {so : Nat → Int} {w : Nat → Nat → Int} {a b c d e f : Int} (hn : hn_ a b c d e f) (hs : sa_ t so w a b c d e f) (htn : t ≤ n) (hz : ∀ i, t ≤ i → i < n → w i 0 = 0 ∧ w i 1 = 0 ∧ w i 2 = 0) (x y z : Int) : sp_L (fun i => i < n) w x y z ↔ hl_ a b c d e f x y z := by
  obtain ⟨t1, t2, g0, g1, g2⟩ := hs
  obtain ⟨_, _, _, ha, hd, _, _⟩ := hn
  constructor
  · refine fun s => s _ (hl_gr a b c d e f) (fun i hi => ?_)
    by_cases q : t ≤ i
    · obtain ⟨e0, e1, e2⟩ := hz i q hi
      rw [e0, e1, e2]; exact (hl_gr a b c d e f).1
    · by_cases q2 : t2 ≤ i
      · rcases g2 with ⟨_, k, _⟩ | ⟨_, k, _, k0, k1, k2⟩
        · omega
        · have : i = t2 := by omega
          subst this; rw [k0, k1, k2]; exact hl_2 _ _ _ _ _ _
      · by_cases q1 : t1 ≤ i
        · rcases g1 with ⟨_, k, _⟩ | ⟨_, k, _, k0, k1, k2⟩
          · omega
          · have : i = t1 := by omega
            subst this; rw [k0, k1, k2]; exact hl_1 _ _ _ _ _ _
        · rcases g0 with ⟨_, k, _⟩ | ⟨_, k, _, k0, k1, k2⟩
          · omega
          · have : i = 0 := by omega
            subst this; rw [k0, k1, k2]; exact hl_0 _ _ _ _ _ _
  · have r0 : sp_L (fun i => i < n) w a b c := by
      rcases g0 with ⟨k, _⟩ | ⟨_, k, _, k0, k1, k2⟩
      · obtain ⟨kb, kc⟩ := ha k; rw [k, kb, kc]; exact (sp_gr _ _).1
      · have hlt : 0 < n := by
          rcases g1 with ⟨_, l, _⟩ | ⟨_, l, _⟩ <;> rcases g2 with ⟨_, l', _⟩ | ⟨_, l', _⟩ <;> omega
        have := sp_row (Q := fun i => i < n) (w := w) hlt
        rw [k0, k1, k2] at this; exact this
    have r1 : sp_L (fun i => i < n) w 0 d e := by
      rcases g1 with ⟨k, _⟩ | ⟨_, k, _, k0, k1, k2⟩
      · rw [k, hd k]; exact (sp_gr _ _).1
      · have hlt : t1 < n := by
          rcases g2 with ⟨_, l', _⟩ | ⟨_, l', _⟩ <;> omega
        have := sp_row (Q := fun i => i < n) (w := w) hlt
        rw [k0, k1, k2] at this; exact this
    have r2 : sp_L (fun i => i < n) w 0 0 f := by
      rcases g2 with ⟨k, _⟩ | ⟨_, k, _, k0, k1, k2⟩
      · rw [k]; exact (sp_gr _ _).1
      · have hlt : t2 < n := by omega
        have := sp_row (Q := fun i => i < n) (w := w) hlt
        rw [k0, k1, k2] at this; exact this
    rintro ⟨i, j, k, rfl, rfl, rfl⟩
    have g := sp_gr (fun i => i < n) w
    exact gr_e (gr_add g (gr_add g (gr_mul g r0 i) (gr_mul g r1 j)) (gr_mul g r2 k)) (by omega) (by omega) (by omega)
/-- the arrays hold the stair form -/
def xs_ (fs : Int32) (aS aO : Nat → Int32) (a b c d e f : Int) : Prop := ∃ (t : Nat) (so : Nat → Int) (h : Nat → Nat → Int), fs = nI t ∧ aO = vE so ∧ aS = mE h ∧ sa_ t so h a b c d e f ∧ t ≤ 3 ∧ ∀ i j, t ≤ i → i < 3 → j < 3 → h i j = 0
theorem sa_c {t : Nat} {so : Nat → Int} {w h : Nat → Nat → Int} {a b c d e f : Int} (hs : sa_ t so w a b c d e f) (hw : ∀ i j, i < t → j < 3 → h i j = w i j) : sa_ t so h a b c d e f := by
  obtain ⟨t1, t2, g0, g1, g2⟩ := hs
  refine ⟨t1, t2, ?_, ?_, ?_⟩
  · rcases g0 with g | ⟨k, k', k'', k0, k1, k2⟩
    · exact Or.inl g
    · have hlt : 0 < t := by
        rcases g1 with ⟨_, l, _⟩ | ⟨_, l, _⟩ <;> rcases g2 with ⟨_, l', _⟩ | ⟨_, l', _⟩ <;> omega
      exact Or.inr ⟨k, k', k'', by rw [hw 0 0 hlt (by omega)]; exact k0, by rw [hw 0 1 hlt (by omega)]; exact k1, by rw [hw 0 2 hlt (by omega)]; exact k2⟩
  · rcases g1 with g | ⟨k, k', k'', k0, k1, k2⟩
    · exact Or.inl g
    · have hlt : t1 < t := by
        rcases g2 with ⟨_, l', _⟩ | ⟨_, l', _⟩ <;> omega
      exact Or.inr ⟨k, k', k'', by rw [hw _ 0 hlt (by omega)]; exact k0, by rw [hw _ 1 hlt (by omega)]; exact k1, by rw [hw _ 2 hlt (by omega)]; exact k2⟩
  · rcases g2 with g | ⟨k, k', k'', k0, k1, k2⟩
    · exact Or.inl g
    · have hlt : t2 < t := by omega
      exact Or.inr ⟨k, k', k'', by rw [hw _ 0 hlt (by omega)]; exact k0, by rw [hw _ 1 hlt (by omega)]; exact k1, by rw [hw _ 2 hlt (by omega)]; exact k2⟩
theorem xs_of {t : Nat} {so : Nat → Int} {w : Nat → Nat → Int} {s : Nat → Int32} {a b c d e f : Int} (hs : sa_ t so w a b c d e f) (ht : t ≤ 3) : xs_ (nI t) (sq_ (mE w) s t 9) (vE so) a b c d e f := by
  refine ⟨t, so, fun i j => if 3 * i + j < 9 then (if i < t then w i j else 0) else (s (3 * i + j)).toInt, rfl, rfl, ?_, sa_c hs (fun i j h1 h2 => ?_), ht, fun i j h1 h2 h3 => ?_⟩
  · funext i
    unfold sq_ mE
    dsimp only
    have e : 3 * (i / 3) + i % 3 = i := by omega
    rw [e]
    by_cases q : i < 9
    · rw [if_pos q, if_pos q]
      by_cases q' : i < 3 * t
      · rw [if_pos q', if_pos (by omega)]
      · rw [if_neg q', if_neg (by omega)]; rfl
    · rw [if_neg q, if_neg q, zi_of]
  · rw [if_pos (by omega), if_pos h1]
  · dsimp only
    rw [if_pos (by omega), if_neg (by omega)]
/-- the rows as they are copied, one left out -/
def cp_ (sk : Nat → Prop) (R v : Nat → Nat → Int) (m r : Nat) : Prop := m ≤ r ∧ (∀ i, i < m → ∃ r', r' < r ∧ ¬ sk r' ∧ ∀ j, j < 3 → v i j = R r' j) ∧ ∀ r', r' < r → ¬ sk r' → ∃ i, i < m ∧ ∀ j, j < 3 → v i j = R r' j
theorem cp_sp {sk : Nat → Prop} {R v : Nat → Nat → Int} {m r : Nat} (h : cp_ sk R v m r) (x y z : Int) : sp_L (fun i => i < m) v x y z ↔ sp_L (fun i => i < r ∧ ¬ sk i) R x y z := by
  constructor
  · refine sp_le (fun i hi => ?_)
    obtain ⟨r', h1, h2, h3⟩ := h.2.1 i hi
    rw [h3 0 (by omega), h3 1 (by omega), h3 2 (by omega)]
    exact sp_row (Q := fun i => i < r ∧ ¬ sk i) ⟨h1, h2⟩
  · refine sp_le (fun i hi => ?_)
    obtain ⟨i', h1, h3⟩ := h.2.2 i hi.1 hi.2
    rw [← h3 0 (by omega), ← h3 1 (by omega), ← h3 2 (by omega)]
    exact sp_row (Q := fun i => i < m) h1
section
variable {fc fr fk fs fh fl fb : Int32} {aR aW aS aO aQ aD aE : Nat → Int32} {post : SX → Prop}
theorem xb_22 {J4 : Int32 → Int32 → (Nat → Int32) → (Nat → Int32) → (Nat → Int32) → (Nat → Int32) → (Nat → Int32) → (Nat → Int32) → (Nat → Int32) → Prop} {R v : Nat → Nat → Int} {m r : Nat} (hm : m < 4) (hr : r < 4) (hJ : J4 (nI (m + 1)) (nI (r + 1)) (mE R) (mE (ct_ v R m r 3)) aS aO aQ aD aE) : ∀ d k : Nat, k + d = 3 → wX_buildStairs_22 post J4 (nI m) (nI r) fc fr fk fs fh fl fb (d + 1) (nI k) (mE R) (mE (ct_ v R m r k)) aS aO aQ aD aE := by
  intro d
  induction d with
  | zero =>
    intro k hk
    have : k = 3 := by omega
    subst this
    exact br_t (by decide) (nm_r (nI_1 m) (nm_r (nI_1 r) hJ))
  | succ d ih =>
    intro k hk
    refine br_f (nI_ge (a := k) (b := 3) (by omega) (by omega)) ⟨zn_in (by omega) (by omega), zn_in (by omega) (by omega), ?_⟩
    rw [mE_ix R (show k < 3 by omega) (by omega)]
    refine nm_r (mE_updx _ (by omega) (by omega) _) (nm_r (nI_1 k) ?_)
    rw [ct_s]
    exact ih (k + 1) (by omega)
theorem xb_4 {N : Nat} {R : Nat → Nat → Int} {sk : Nat → Prop} (hN : N < 5) (hsk : ∀ r, r < N → (nI r = fk ↔ sk r)) (hp : ∀ m v, cp_ sk R v m N → ∃ k, wX_buildStairs_69 post (nI m) k 0 (nI N) fr fk 0 fh fl fb (mE R) (mE v) aS aO aQ aD aE) : ∀ d r m : Nat, ∀ v, r + d = N → cp_ sk R v m r → wX_buildStairs_4 post (nI N) fr fk fs fh fl fb (d + 1) (nI m) (nI r) (mE R) (mE v) aS aO aQ aD aE := by
  intro d
  induction d with
  | zero =>
    intro r m v hr hc
    have : r = N := by omega
    subst this
    exact br_t (nI_le (by omega) (by omega)) (hp m v hc)
  | succ d ih =>
    intro r m v hr hc
    obtain ⟨c1, c2, c3⟩ := hc
    refine br_f (nI_ge (by omega) (by omega)) ⟨fun q => nm_r (nI_1 r) (ih (r + 1) m v (by omega) ⟨by omega, fun i hi => ?_, fun r' h1 h2 => ?_⟩), fun q => ?_⟩
    · obtain ⟨r', h1, h2, h3⟩ := c2 i hi
      exact ⟨r', by omega, h2, h3⟩
    · by_cases z : r' = r
      · subst z; exact absurd ((hsk r' (by omega)).mp q) h2
      · exact c3 r' (by omega) h2
    · have hns : ¬ sk r := fun z => q ((hsk r (by omega)).mpr z)
      have key := ih (r + 1) (m + 1) (ct_ v R m r 3) (by omega) ⟨by omega, fun i hi => ?_, fun r' h1 h2 => ?_⟩
      · have := xb_22 (post := post) (fc := nI N) (fr := fr) (fk := fk) (fs := fs) (fh := fh) (fl := fl) (fb := fb) (R := R) (v := v) (m := m) (r := r) (by omega) (by omega) key 3 0 (by omega)
        rw [ct_0] at this
        exact ⟨_, this⟩
      · by_cases z : i = m
        · exact ⟨r, by omega, hns, fun j hj => by unfold ct_; rw [if_pos ⟨z, hj⟩]⟩
        · obtain ⟨r', h1, h2, h3⟩ := c2 i (by omega)
          exact ⟨r', by omega, h2, fun j hj => by unfold ct_; rw [if_neg (fun q => z q.1)]; exact h3 j hj⟩
      · by_cases z : r' = r
        · subst z
          exact ⟨m, by omega, fun j hj => by unfold ct_; rw [if_pos ⟨rfl, hj⟩]⟩
        · obtain ⟨i, h3, h4⟩ := c3 r' (by omega) h2
          exact ⟨i, by omega, fun j hj => by unfold ct_; rw [if_neg (fun q => by omega)]; exact h4 j hj⟩
theorem xb_build {N : Nat} {R : Nat → Nat → Int} {sk : Nat → Prop} (hN : N < 5) (hR : ∀ i j, i < N → j < 3 → (R i j).natAbs ≤ 9) (hsk : ∀ r, r < N → (nI r = fk ↔ sk r))
    (hp : ∀ fs' aW' aS' aO' a b c d e f, hn_ a b c d e f → (∀ x y z, sp_L (fun i => i < N ∧ ¬ sk i) R x y z ↔ hl_ a b c d e f x y z) → xs_ fs' aS' aO' a b c d e f → post (nI N, fr, fk, fs', fh, fl, fb, mE R, aW', aS', aO', aQ, aD, aE)) : wpX_buildStairs post (nI N, fr, fk, fs, fh, fl, fb, mE R, aW, aS, aO, aQ, aD, aE) := by
  have main : ∀ m v, cp_ sk R v m N → ∃ k, wX_buildStairs_69 post (nI m) k 0 (nI N) fr fk 0 fh fl fb (mE R) (mE v) aS aO aQ aD aE := by
    intro m v hc
    have hm : m < 5 := by have := hc.1; omega
    have hv : ∀ i j, i < m → j < 3 → (v i j).natAbs ≤ 9 := by
      intro i j hi hj
      obtain ⟨r', h1, _, h3⟩ := hc.2.1 i hi
      rw [h3 j hj]; exact hR r' j h1 hj
    refine ⟨4, ?_⟩
    rw [← vE_of aO]
    refine xb_69 (c := 0) (t := 0) (by omega) hm (by omega) (by omega) (fun i a b => by have := hv i 0 b (by omega); omega) (fun i hi => absurd hi (by omega)) (fun t1 so1 w1 hc1 => ?_)
    have hs1 := s1_of hm hv hc1
    refine xb_69 (c := 1) (by omega) hm hs1.1 (by have := hs1.2.1; omega) (fun i a b => by have := hs1.2.2.2.1 i 1 a b (by omega); omega) (fun i hi => ?_) (fun t2 so2 w2 hc2 => ?_)
    · rcases hs1.2.2.2.2 with ⟨q, _⟩ | ⟨q, _, _, q4⟩
      · omega
      · have : i = 0 := by omega
        subst this
        exact zi_Rabs (by have := q4 1 (by omega); omega)
    have hs2 := s2_of hs1 hc2
    refine xb_69 (c := 2) (by omega) hm hs2.1 (by have := hs2.2.1; omega) (fun i a b => by have := hs2.2.2.2.1 i a b; omega) (fun i hi => ?_) (fun t3 so3 w3 hc3 => ?_)
    · obtain ⟨t1', g0, g1⟩ := hs2.2.2.2.2
      rcases g1 with ⟨q, _⟩ | ⟨q, _, _, _, q5, _⟩
      · rcases g0 with ⟨p, _⟩ | ⟨p, _, _, p4⟩
        · omega
        · have : i = 0 := by omega
          subst this
          exact zi_Rabs (by omega)
      · by_cases z : i = t1'
        · subst z; exact zi_Rabs (by omega)
        · rcases g0 with ⟨p, _⟩ | ⟨p, _, _, p4⟩
          · omega
          · have : i = 0 := by omega
            subst this
            exact zi_Rabs (by omega)
    obtain ⟨a, b, c, d, e, f, hn, hsa, ht3, htm, hz⟩ := s3_of hs2 hc3
    have hsp : ∀ x y z, sp_L (fun i => i < N ∧ ¬ sk i) R x y z ↔ hl_ a b c d e f x y z := by
      intro x y z
      rw [← cp_sp hc, ← cs_sp hc1, ← cs_sp hc2, ← cs_sp hc3]
      exact sa_hl hn hsa htm hz x y z
    refine br_t (by decide) ?_
    have key := hp (nI t3) (mE w3) (sq_ (mE w3) aS t3 9) (vE so3) a b c d e f hn hsp (xs_of hsa ht3)
    have := xb_228 (post := post) (fc := nI N) (aR := mE R) (aW := mE w3) (aS := aS) (t := t3) (by omega) key 9 0 (by omega)
    rw [sq_0] at this
    exact ⟨_, this⟩
  have h0 := xb_4 (post := post) (fr := fr) (fk := fk) (fs := fs) (fh := fh) (fl := fl) (fb := fb) (aS := aS) (aO := aO) (aQ := aQ) (aD := aD) (aE := aE) hN hsk main N 0 0 (fun i j => (aW (3 * i + j)).toInt) (by omega) ⟨by omega, fun i hi => absurd hi (by omega), fun r' h => absurd h (by omega)⟩
  rw [mE_of] at h0
  exact ⟨_, h0⟩
end
end
section
/-! the class: whether a point is in the grid -/
theorem zn_3 (r : Nat) : 3 * nI r = nI (3 * r) := by
  have h3 : (3 : Int32) = nI 3 := rfl
  rw [h3, zn_mul]
theorem zn_in0 {r N : Nat} (h : 3 * r < N) (hN : N < 2147483648) : vp_in (3 * nI r) N := by rw [zn_3]; exact vp_in_nI h hN
theorem mE_ix0 (w : Nat → Nat → Int) {r : Nat} (h : 3 * r < 2147483648) : mE w (3 * nI r).toNatClampNeg = zi_v (w r 0) := by
  rw [zn_3, nI_clamp h]; exact mE_at w (r := r) (c := 0) (by omega)
theorem mE_ix1 (w : Nat → Nat → Int) {r : Nat} (h : 3 * r + 1 < 2147483648) : mE w (3 * nI r + 1).toNatClampNeg = zi_v (w r 1) := mE_ix w (c := 1) (by omega) h
theorem mE_ix2 (w : Nat → Nat → Int) {r : Nat} (h : 3 * r + 2 < 2147483648) : mE w (3 * nI r + 2).toNatClampNeg = zi_v (w r 2) := mE_ix w (c := 2) (by omega) h
section
variable {fc fr fk fs fh fl fb : Int32} {aR aW aS aO aQ aD aE : Nat → Int32} {post : Int32 → Prop}
theorem xg_107 {J : Int32 → Int32 → Int32 → Int32 → Prop} {h : Nat → Nat → Int} {x y z q : Int} {s : Nat} (hs : s < 3) (hJ : J (zi_v (x - q * h s 0)) (zi_v (y - q * h s 1)) (zi_v (z - q * h s 2)) (nI (s + 1))) : wX_inGrid_107 post J (zi_v x) (zi_v y) (zi_v z) (nI s) (zi_v q) fc fr fk fs fh fl fb aR aW (mE h) aO aQ aD aE := by
  refine ⟨zn_in0 (by omega) (by omega), ?_⟩
  rw [mE_ix0 h (by omega), zi_mul, zi_sub]
  refine nm_e ⟨zn_in (r := s) (c := 1) (by omega) (by omega), ?_⟩
  rw [mE_ix1 h (by omega), zi_mul, zi_sub]
  refine nm_e ⟨zn_in (r := s) (c := 2) (by omega) (by omega), ?_⟩
  rw [mE_ix2 h (by omega), zi_mul, zi_sub]
  exact nm_e (nm_r (nI_1 s) hJ)
theorem xg_end {t m : Nat} {x y z : Int} (ht : t < 4) (hx : zi_R x) (hy : zi_R y) (hz : zi_R z) (h1 : x = 0 ∧ y = 0 ∧ z = 0 → post 1) (h0 : ¬ (x = 0 ∧ y = 0 ∧ z = 0) → post 0) : wX_inGrid_12 post fc fr fk (nI t) fh fl fb aR aW aS aO aQ aD aE (m + 1) (zi_v x) (zi_v y) (zi_v z) (nI t) := by
  refine br_t (nI_le (by omega) (by omega)) ?_
  refine zc_eq x 0 rfl rfl hx zi_R0 (fun ex => zc_eq y 0 rfl rfl hy zi_R0 (fun ey => zc_eq z 0 rfl rfl hz zi_R0 (fun ez => h1 ⟨ex, ey, ez⟩) (fun ez => h0 fun k => ez k.2.2)) (fun ey => h0 fun k => ey k.2.1)) (fun ex => h0 fun k => ex k.1)
/-- the point less multiples of the stairs -/
theorem xg_12 {a b c d e f x y z : Int} (hx : zi_R x) (ha : zi_R a) (hd : zi_R d) (hf : zi_R f) (hy : zi_R (y - x.fdiv a * b)) (hz : zi_R (z - x.fdiv a * c - (y - x.fdiv a * b).fdiv d * e)) (hn : hn_ a b c d e f) (hs : xs_ fs aS aO a b c d e f) (h1 : hl_ a b c d e f x y z → post 1) (h0 : ¬ hl_ a b c d e f x y z → post 0) : wpX_inGrid post (fc, fr, fk, fs, fh, fl, fb, aR, aW, aS, aO, aQ, aD, aE) (zi_v x) (zi_v y) (zi_v z) := by
  obtain ⟨t, so, h, rfl, rfl, rfl, ⟨t1, t2, g0, g1, g2⟩, ht, _⟩ := hs
  obtain ⟨_, _, _, na, nd, _, _⟩ := hn
  have bt : t1 ≤ 1 ∧ t1 ≤ t2 ∧ t2 ≤ t1 + 1 ∧ t2 ≤ t ∧ t ≤ t2 + 1 := by
    rcases g0 with ⟨_, k, _⟩ | ⟨_, k, _⟩ <;> rcases g1 with ⟨_, l, _⟩ | ⟨_, l, _⟩ <;> rcases g2 with ⟨_, l', _⟩ | ⟨_, l', _⟩ <;> omega
  have so0 : vE so 0 = zi_v (so 0) := rfl
  have so1 : vE so 1 = zi_v (so 1) := rfl
  have ne0 : ∀ s, t1 ≤ s → s < 3 → ¬ vE so 0 = nI s := by
    intro s a1 a2 q
    rw [so0, ← zi_n] at q
    rcases g0 with ⟨_, k, k'⟩ | ⟨_, k, k', _⟩
    · rw [k', zi_eq ⟨by decide, by decide⟩ (zi_Rn (by omega))] at q; omega
    · rw [k', zi_eq ⟨by decide, by decide⟩ (zi_Rn (by omega))] at q; omega
  have ne1 : ∀ s, t2 ≤ s → s < 3 → ¬ vE so 1 = nI s := by
    intro s a1 a2 q
    rw [so1, ← zi_n] at q
    rcases g1 with ⟨_, k, k'⟩ | ⟨_, k, k', _⟩
    · rw [k', zi_eq ⟨by decide, by decide⟩ (zi_Rn (by omega))] at q; omega
    · rw [k', zi_eq (zi_Rn (by omega)) (zi_Rn (by omega))] at q; omega
  have nR : ∀ u v : Int, zi_R u → zi_R v → zi_R (u - u.fdiv v * v) := by
    intro u v hu hv
    by_cases q : v = 0
    · subst q; simpa using hu
    · have := fm_lt (a := u) q
      have := zi_absR hv
      exact zi_Rabs (by omega)
  -- the third column
  have st2 : ∀ m : Nat, ∀ u v r : Int, zi_R u → zi_R v → zi_R r → (u = 0 ∧ v = 0 ∧ r - r.fdiv f * f = 0 → post 1) → (¬ (u = 0 ∧ v = 0 ∧ r - r.fdiv f * f = 0) → post 0) → wX_inGrid_12 post fc fr fk (nI t) fh fl fb aR aW (mE h) (vE so) aQ aD aE (m + 2) (zi_v u) (zi_v v) (zi_v r) (nI t2) := by
    intro m u v r hu hv hr k1 k0
    rcases g2 with ⟨l1, l2, _⟩ | ⟨l1, l2, _, l3, l4, l5⟩
    · subst l1; subst l2
      simp only [Int.fdiv_zero, Int.mul_zero, Int.sub_zero] at k1 k0
      exact xg_end (by omega) hu hv hr k1 k0
    · refine br_f (nI_ge (by omega) (by omega)) (br_f (ne0 t2 (by omega) (by omega)) (br_f (ne1 t2 (by omega) (by omega)) ⟨zn_in (r := t2) (c := 2) (by omega) (by omega), ?_⟩))
      rw [mE_ix2 h (by omega), l5]
      refine xf_div hr hf ?_
      refine xg_107 (by omega) ?_
      rw [l3, l4, l5, Int.mul_zero, Int.sub_zero, Int.sub_zero, ← l2]
      exact xg_end (by omega) hu hv (nR r f hr hf) k1 k0
  have st1 : ∀ m : Nat, ∀ u v r : Int, zi_R u → zi_R v → zi_R (r - v.fdiv d * e) → (u = 0 ∧ v - v.fdiv d * d = 0 ∧ (r - v.fdiv d * e) - (r - v.fdiv d * e).fdiv f * f = 0 → post 1) → (¬ (u = 0 ∧ v - v.fdiv d * d = 0 ∧ (r - v.fdiv d * e) - (r - v.fdiv d * e).fdiv f * f = 0) → post 0) → wX_inGrid_12 post fc fr fk (nI t) fh fl fb aR aW (mE h) (vE so) aQ aD aE (m + 3) (zi_v u) (zi_v v) (zi_v r) (nI t1) := by
    intro m u v r hu hv hr k1 k0
    rcases g1 with ⟨l1, l2, _⟩ | ⟨l1, l2, lo, l3, l4, l5⟩
    · subst l1; subst l2
      simp only [Int.fdiv_zero, Int.mul_zero, Int.zero_mul, Int.sub_zero] at k1 k0 hr
      exact st2 (m + 1) u v r hu hv hr k1 k0
    · have eq1 : vE so 1 = nI t1 := by rw [so1, lo, zi_n]
      refine br_f (nI_ge (by omega) (by omega)) (br_f (ne0 t1 (by omega) (by omega)) (br_t eq1 ⟨zn_in (r := t1) (c := 1) (by omega) (by omega), ?_⟩))
      rw [mE_ix1 h (by omega), l4]
      refine xf_div hv hd ?_
      refine xg_107 (by omega) ?_
      rw [l3, l4, l5, Int.mul_zero, Int.sub_zero, ← l2]
      exact st2 m _ _ _ hu (nR v d hv hd) hr k1 k0
  have st0 : wX_inGrid_12 post fc fr fk (nI t) fh fl fb aR aW (mE h) (vE so) aQ aD aE 4 (zi_v x) (zi_v y) (zi_v z) (nI 0) := by
    have iff : (x - x.fdiv a * a = 0 ∧ (y - x.fdiv a * b) - (y - x.fdiv a * b).fdiv d * d = 0 ∧ (z - x.fdiv a * c - (y - x.fdiv a * b).fdiv d * e) - (z - x.fdiv a * c - (y - x.fdiv a * b).fdiv d * e).fdiv f * f = 0) ↔ hl_ a b c d e f x y z := by
      constructor
      · rintro ⟨e1, e2, e3⟩
        exact ⟨x.fdiv a, (y - x.fdiv a * b).fdiv d, (z - x.fdiv a * c - (y - x.fdiv a * b).fdiv d * e).fdiv f, by omega, by omega, by omega⟩
      · rintro ⟨i, j, k, rfl, rfl, rfl⟩
        have s1 : (i * a).fdiv a * a = i * a ∧ (i * a).fdiv a * b = i * b ∧ (i * a).fdiv a * c = i * c := by
          by_cases q : a = 0
          · obtain ⟨qb, qc⟩ := na q
            subst q; subst qb; subst qc; simp
          · rw [Int.mul_fdiv_cancel _ q]; exact ⟨rfl, rfl, rfl⟩
        have s2 : (j * d).fdiv d * d = j * d ∧ (j * d).fdiv d * e = j * e := by
          by_cases q : d = 0
          · have qe := nd q
            subst q; subst qe; simp
          · rw [Int.mul_fdiv_cancel _ q]; exact ⟨rfl, rfl⟩
        have s3 : (k * f).fdiv f * f = k * f := by
          by_cases q : f = 0
          · subst q; simp
          · rw [Int.mul_fdiv_cancel _ q]
        obtain ⟨s11, s12, s13⟩ := s1
        obtain ⟨s21, s22⟩ := s2
        have t1 : i * b + j * d - (i * a).fdiv a * b = j * d := by omega
        have t2 : i * c + j * e + k * f - (i * a).fdiv a * c - (j * d).fdiv d * e = k * f := by omega
        rw [t1, t2]
        exact ⟨by omega, by omega, by omega⟩
    have k1 : x - x.fdiv a * a = 0 ∧ (y - x.fdiv a * b) - (y - x.fdiv a * b).fdiv d * d = 0 ∧ (z - x.fdiv a * c - (y - x.fdiv a * b).fdiv d * e) - (z - x.fdiv a * c - (y - x.fdiv a * b).fdiv d * e).fdiv f * f = 0 → post 1 := fun k => h1 (iff.mp k)
    have k0 : ¬ (x - x.fdiv a * a = 0 ∧ (y - x.fdiv a * b) - (y - x.fdiv a * b).fdiv d * d = 0 ∧ (z - x.fdiv a * c - (y - x.fdiv a * b).fdiv d * e) - (z - x.fdiv a * c - (y - x.fdiv a * b).fdiv d * e).fdiv f * f = 0) → post 0 := fun k => h0 (fun q => k (iff.mpr q))
    rcases g0 with ⟨l1, l2, _⟩ | ⟨l1, l2, lo, l3, l4, l5⟩
    · subst l1; subst l2
      simp only [Int.fdiv_zero, Int.mul_zero, Int.zero_mul, Int.sub_zero] at k1 k0 hy hz
      exact st1 1 x y z hx hy hz k1 k0
    · have eq0 : vE so 0 = nI 0 := by rw [so0, lo]; rfl
      refine br_f (nI_ge (by omega) (by omega)) (br_t eq0 ⟨zn_in0 (r := 0) (by omega) (by omega), ?_⟩)
      rw [mE_ix0 h (by omega), l3]
      refine xf_div hx ha ?_
      refine xg_107 (by omega) ?_
      rw [l3, l4, l5]
      subst l2
      exact st1 0 _ _ _ (nR x a hx ha) hy hz k1 k0
  exact ⟨4, st0⟩
end
end
section
/-! how large the six numbers are, the rows' numbers being up to 9 -/
theorem db_lin {p q r P Q R : Int} (hp : p.natAbs ≤ 9) (hq : q.natAbs ≤ 9) (hr : r.natAbs ≤ 9) : (p * P + q * Q + r * R).natAbs ≤ 9 * (P.natAbs + Q.natAbs + R.natAbs) := by
  have h1 : (p * P).natAbs ≤ 9 * P.natAbs := by rw [Int.natAbs_mul]; exact Nat.mul_le_mul_right _ hp
  have h2 : (q * Q).natAbs ≤ 9 * Q.natAbs := by rw [Int.natAbs_mul]; exact Nat.mul_le_mul_right _ hq
  have h3 : (r * R).natAbs ≤ 9 * R.natAbs := by rw [Int.natAbs_mul]; exact Nat.mul_le_mul_right _ hr
  omega
theorem db_m {x y z x' y' z' : Int} (hx : x.natAbs ≤ 9) (hy : y.natAbs ≤ 9) (hz : z.natAbs ≤ 9) (hx' : x'.natAbs ≤ 9) (hy' : y'.natAbs ≤ 9) (hz' : z'.natAbs ≤ 9) : (m1_ x y z x' y' z').natAbs + (m2_ x y z x' y' z').natAbs + (m3_ x y z x' y' z').natAbs ≤ 324 := by
  have key : ∀ s1 s2 s3 : Int, (s1 = 1 ∨ s1 = -1) → (s2 = 1 ∨ s2 = -1) → (s3 = 1 ∨ s3 = -1) → (s1 * m1_ x y z x' y' z' + s2 * m2_ x y z x' y' z' + s3 * m3_ x y z x' y' z').natAbs ≤ 324 := by
    intro s1 s2 s3 h1 h2 h3
    have e : s1 * m1_ x y z x' y' z' + s2 * m2_ x y z x' y' z' + s3 * m3_ x y z x' y' z' = x' * (-(s1 * y) - s2 * z) + y' * (s1 * x - s3 * z) + z' * (s2 * x + s3 * y) := by unfold m1_ m2_ m3_; grind
    rw [e]
    refine Nat.le_trans (db_lin hx' hy' hz') ?_
    rcases h1 with rfl | rfl <;> rcases h2 with rfl | rfl <;> rcases h3 with rfl | rfl <;> omega
  have sg : ∀ m : Int, ∃ s : Int, (s = 1 ∨ s = -1) ∧ s * m = m.natAbs := by
    intro m
    by_cases q : 0 ≤ m
    · exact ⟨1, Or.inl rfl, by omega⟩
    · exact ⟨-1, Or.inr rfl, by omega⟩
  obtain ⟨s1, a1, b1⟩ := sg (m1_ x y z x' y' z')
  obtain ⟨s2, a2, b2⟩ := sg (m2_ x y z x' y' z')
  obtain ⟨s3, a3, b3⟩ := sg (m3_ x y z x' y' z')
  have := key s1 s2 s3 a1 a2 a3
  rw [b1, b2, b3] at this
  omega
theorem db_m1 {x y z x' y' z' : Int} (hx : x.natAbs ≤ 9) (hy : y.natAbs ≤ 9) (hz : z.natAbs ≤ 9) (hx' : x'.natAbs ≤ 9) (hy' : y'.natAbs ≤ 9) (hz' : z'.natAbs ≤ 9) : (m1_ x y z x' y' z').natAbs ≤ 162 ∧ (m2_ x y z x' y' z').natAbs ≤ 162 ∧ (m3_ x y z x' y' z').natAbs ≤ 162 := by
  have mul : ∀ p q : Int, p.natAbs ≤ 9 → q.natAbs ≤ 9 → (p * q).natAbs ≤ 81 := by
    intro p q h1 h2
    rw [Int.natAbs_mul]; exact Nat.mul_le_mul h1 h2
  unfold m1_ m2_ m3_
  have a1 := mul x y' hx hy'
  have a2 := mul y x' hy hx'
  have a3 := mul x z' hx hz'
  have a4 := mul z x' hz hx'
  have a5 := mul y z' hy hz'
  have a6 := mul z y' hz hy'
  omega
theorem db_d {x y z x' y' z' x'' y'' z'' : Int} (hx : x.natAbs ≤ 9) (hy : y.natAbs ≤ 9) (hz : z.natAbs ≤ 9) (hx' : x'.natAbs ≤ 9) (hy' : y'.natAbs ≤ 9) (hz' : z'.natAbs ≤ 9) (hx'' : x''.natAbs ≤ 9) (hy'' : y''.natAbs ≤ 9) (hz'' : z''.natAbs ≤ 9) : (dt_ x y z x' y' z' x'' y'' z'').natAbs ≤ 2916 := by
  have h := db_m hx' hy' hz' hx'' hy'' hz''
  have e : dt_ x y z x' y' z' x'' y'' z'' = x * m3_ x' y' z' x'' y'' z'' + y * (- m2_ x' y' z' x'' y'' z'') + z * m1_ x' y' z' x'' y'' z'' := by unfold dt_ m1_ m2_ m3_; grind
  rw [e]
  have k := db_lin (P := m3_ x' y' z' x'' y'' z'') (Q := - m2_ x' y' z' x'' y'' z'') (R := m1_ x' y' z' x'' y'' z'') hx hy hz
  rw [Int.natAbs_neg] at k
  omega
theorem ab_mul {t n B : Int} (ht : t ≠ 0) (h : (t * n).natAbs ≤ B.natAbs) : n.natAbs ≤ B.natAbs := by
  rw [Int.natAbs_mul] at h
  exact Nat.le_trans (Nat.le_mul_of_pos_left _ (by omega)) h
def sm_ (Q : Nat → Prop) (R : Nat → Nat → Int) : Prop := ∀ i j, Q i → j < 3 → (R i j).natAbs ≤ 9
section
variable {Q : Nat → Prop} {R : Nat → Nat → Int} {a b c d e f : Int}
theorem hb_3 (hR : sm_ Q R) (hL : ∀ x y z, sp_L Q R x y z ↔ hl_ a b c d e f x y z) : (a * d * f).natAbs ≤ 2916 := by
  apply Classical.byContradiction
  intro q
  have z : d3_ (sp_L Q R) 0 := by
    rw [sp_d3]
    intro i j k hi hj hk
    have hd : a * d * f ∣ dt_ (R i 0) (R i 1) (R i 2) (R j 0) (R j 1) (R j 2) (R k 0) (R k 1) (R k 2) := by
      have h1 : d3_ (sp_L Q R) (a * d * f) := (d3_c hL).mpr (hl_d3.mpr (Int.dvd_refl _))
      exact h1 _ _ _ _ _ _ _ _ _ (sp_row hi) (sp_row hj) (sp_row hk)
    have hb := db_d (hR i 0 hi (by omega)) (hR i 1 hi (by omega)) (hR i 2 hi (by omega)) (hR j 0 hj (by omega)) (hR j 1 hj (by omega)) (hR j 2 hj (by omega)) (hR k 0 hk (by omega)) (hR k 1 hk (by omega)) (hR k 2 hk (by omega))
    obtain ⟨t, ht⟩ := hd
    by_cases t0 : t = 0
    · rw [ht, t0]; simp
    · exfalso
      have := ab_mul (t := t) (n := a * d * f) (B := 2916) t0 (by rw [Int.mul_comm, ← ht]; exact hb)
      exact q this
  have := Int.zero_dvd.mp (hl_d3.mp ((d3_c hL).mp z))
  rw [this] at q
  exact q (by decide)
/-- two rows span it: their minors are up to 162 -/
theorem hb_2n {p0 p1 p2 q0 q1 q2 : Int} (hR : sm_ Q R) (hL : ∀ x y z, sp_L Q R x y z ↔ ∃ i j : Int, x = i * p0 + j * q0 ∧ y = i * p1 + j * q1 ∧ z = i * p2 + j * q2) : (m1_ p0 p1 p2 q0 q1 q2).natAbs ≤ 162 ∧ (m2_ p0 p1 p2 q0 q1 q2).natAbs ≤ 162 ∧ (m3_ p0 p1 p2 q0 q1 q2).natAbs ≤ 162 := by
  have sp : sp_L Q R p0 p1 p2 := (hL _ _ _).mpr ⟨1, 0, by omega, by omega, by omega⟩
  have sq : sp_L Q R q0 q1 q2 := (hL _ _ _).mpr ⟨0, 1, by omega, by omega, by omega⟩
  by_cases hz : d2_ (sp_L Q R) 0
  · obtain ⟨k1, k2, k3⟩ := hz _ _ _ _ _ _ sp sq
    rw [Int.zero_dvd.mp k1, Int.zero_dvd.mp k2, Int.zero_dvd.mp k3]; decide
  · rw [sp_d2] at hz
    have ⟨i, j, hi, hj, hm⟩ : ∃ i j, Q i ∧ Q j ∧ ¬ ((0 : Int) ∣ m1_ (R i 0) (R i 1) (R i 2) (R j 0) (R j 1) (R j 2) ∧ (0 : Int) ∣ m2_ (R i 0) (R i 1) (R i 2) (R j 0) (R j 1) (R j 2) ∧ (0 : Int) ∣ m3_ (R i 0) (R i 1) (R i 2) (R j 0) (R j 1) (R j 2)) := by
      apply Classical.byContradiction
      intro k
      exact hz (fun i j hi hj => Classical.byContradiction fun h => k ⟨i, j, hi, hj, h⟩)
    obtain ⟨u, v, e1, e2, e3⟩ := (hL _ _ _).mp (sp_row hi)
    obtain ⟨u', v', e1', e2', e3'⟩ := (hL _ _ _).mp (sp_row hj)
    have hb := db_m1 (hR i 0 hi (by omega)) (hR i 1 hi (by omega)) (hR i 2 hi (by omega)) (hR j 0 hj (by omega)) (hR j 1 hj (by omega)) (hR j 2 hj (by omega))
    have f1 : m1_ (R i 0) (R i 1) (R i 2) (R j 0) (R j 1) (R j 2) = (u * v' - v * u') * m1_ p0 p1 p2 q0 q1 q2 := by rw [e1, e2, e3, e1', e2', e3']; unfold m1_; grind
    have f2 : m2_ (R i 0) (R i 1) (R i 2) (R j 0) (R j 1) (R j 2) = (u * v' - v * u') * m2_ p0 p1 p2 q0 q1 q2 := by rw [e1, e2, e3, e1', e2', e3']; unfold m2_; grind
    have f3 : m3_ (R i 0) (R i 1) (R i 2) (R j 0) (R j 1) (R j 2) = (u * v' - v * u') * m3_ p0 p1 p2 q0 q1 q2 := by rw [e1, e2, e3, e1', e2', e3']; unfold m3_; grind
    rw [f1, f2, f3] at hb hm
    have t0 : u * v' - v * u' ≠ 0 := by
      intro z; rw [z] at hm; simp at hm
    exact ⟨ab_mul (B := 162) t0 hb.1, ab_mul (B := 162) t0 hb.2.1, ab_mul (B := 162) t0 hb.2.2⟩
theorem hb_1n {p0 p1 p2 : Int} (hR : sm_ Q R) (hL : ∀ x y z, sp_L Q R x y z ↔ ∃ i : Int, x = i * p0 ∧ y = i * p1 ∧ z = i * p2) : p0.natAbs ≤ 9 ∧ p1.natAbs ≤ 9 ∧ p2.natAbs ≤ 9 := by
  have sp : sp_L Q R p0 p1 p2 := (hL _ _ _).mpr ⟨1, by omega, by omega, by omega⟩
  by_cases hz : d1_ (sp_L Q R) 0
  · obtain ⟨k1, k2, k3⟩ := hz _ _ _ sp
    rw [Int.zero_dvd.mp k1, Int.zero_dvd.mp k2, Int.zero_dvd.mp k3]; decide
  · rw [sp_d1] at hz
    have ⟨i, hi, hm⟩ : ∃ i, Q i ∧ ¬ ((0 : Int) ∣ R i 0 ∧ (0 : Int) ∣ R i 1 ∧ (0 : Int) ∣ R i 2) := by
      apply Classical.byContradiction
      intro k
      exact hz (fun i hi => Classical.byContradiction fun h => k ⟨i, hi, h⟩)
    obtain ⟨u, e1, e2, e3⟩ := (hL _ _ _).mp (sp_row hi)
    have t0 : u ≠ 0 := by
      intro z; rw [e1, e2, e3, z] at hm; simp at hm
    have b0 := hR i 0 hi (by omega)
    have b1 := hR i 1 hi (by omega)
    have b2 := hR i 2 hi (by omega)
    rw [e1] at b0; rw [e2] at b1; rw [e3] at b2
    exact ⟨ab_mul (B := 9) t0 b0, ab_mul (B := 9) t0 b1, ab_mul (B := 9) t0 b2⟩
theorem hb_2 (hn : hn_ a b c d e f) (h0 : a * d * f = 0) (hR : sm_ Q R) (hL : ∀ x y z, sp_L Q R x y z ↔ hl_ a b c d e f x y z) : (a * d).natAbs ≤ 162 ∧ (a * e).natAbs ≤ 162 ∧ (b * e - c * d).natAbs ≤ 162 ∧ (a * f).natAbs ≤ 162 ∧ (b * f).natAbs ≤ 162 ∧ (d * f).natAbs ≤ 162 := by
  obtain ⟨_, _, _, ha, hd, _, _⟩ := hn
  by_cases zf : f = 0
  · subst zf
    have h := hb_2n (p0 := a) (p1 := b) (p2 := c) (q0 := 0) (q1 := d) (q2 := e) hR (fun x y z => (hL x y z).trans ⟨?_, ?_⟩)
    · obtain ⟨h1, h2, h3⟩ := h
      unfold m1_ at h1; unfold m2_ at h2; unfold m3_ at h3
      simp only [Int.mul_zero, Int.sub_zero] at h1 h2 h3 ⊢
      exact ⟨h1, h2, h3, by decide, by decide, by decide⟩
    · rintro ⟨i, j, k, e1, e2, e3⟩; exact ⟨i, j, by simpa using e1, by simpa using e2, by simpa using e3⟩
    · rintro ⟨i, j, e1, e2, e3⟩; exact ⟨i, j, 0, by simpa using e1, by simpa using e2, by simpa using e3⟩
  · by_cases za : a = 0
    · obtain ⟨zb, zc⟩ := ha za
      subst za; subst zb; subst zc
      have h := hb_2n (p0 := 0) (p1 := d) (p2 := e) (q0 := 0) (q1 := 0) (q2 := f) hR (fun x y z => (hL x y z).trans ⟨?_, ?_⟩)
      · obtain ⟨h1, h2, h3⟩ := h
        unfold m1_ at h1; unfold m2_ at h2; unfold m3_ at h3
        simp only [Int.mul_zero, Int.zero_mul, Int.sub_zero] at h1 h2 h3 ⊢
        exact ⟨by decide, by decide, by decide, by decide, by decide, h3⟩
      · rintro ⟨i, j, k, e1, e2, e3⟩; exact ⟨j, k, by simpa using e1, by simpa using e2, by simpa using e3⟩
      · rintro ⟨j, k, e1, e2, e3⟩; exact ⟨0, j, k, by simpa using e1, by simpa using e2, by simpa using e3⟩
    · have zd : d = 0 := by
        rcases Int.mul_eq_zero.mp h0 with h | h
        · exact (Int.mul_eq_zero.mp h).resolve_left za
        · exact absurd h zf
      have ze := hd zd
      subst zd; subst ze
      have h := hb_2n (p0 := a) (p1 := b) (p2 := c) (q0 := 0) (q1 := 0) (q2 := f) hR (fun x y z => (hL x y z).trans ⟨?_, ?_⟩)
      · obtain ⟨h1, h2, h3⟩ := h
        unfold m1_ at h1; unfold m2_ at h2; unfold m3_ at h3
        simp only [Int.mul_zero, Int.zero_mul, Int.sub_zero] at h1 h2 h3 ⊢
        exact ⟨by decide, by decide, by decide, h2, h3, by decide⟩
      · rintro ⟨i, j, k, e1, e2, e3⟩; exact ⟨i, k, by simpa using e1, by simpa using e2, by simpa using e3⟩
      · rintro ⟨i, k, e1, e2, e3⟩; exact ⟨i, 0, k, by simpa using e1, by simpa using e2, by simpa using e3⟩
theorem hb_1 (hn : hn_ a b c d e f) (h1 : a * d = 0) (h2 : a * f = 0) (h3 : d * f = 0) (hR : sm_ Q R) (hL : ∀ x y z, sp_L Q R x y z ↔ hl_ a b c d e f x y z) : a.natAbs ≤ 9 ∧ b.natAbs ≤ 9 ∧ c.natAbs ≤ 9 ∧ d.natAbs ≤ 9 ∧ e.natAbs ≤ 9 ∧ f.natAbs ≤ 9 := by
  obtain ⟨_, _, _, ha, hd, _, _⟩ := hn
  by_cases za : a = 0
  · obtain ⟨zb, zc⟩ := ha za
    subst za; subst zb; subst zc
    by_cases zd : d = 0
    · have ze := hd zd
      subst zd; subst ze
      have h := hb_1n (p0 := 0) (p1 := 0) (p2 := f) hR (fun x y z => (hL x y z).trans ⟨?_, ?_⟩)
      · exact ⟨by decide, by decide, by decide, by decide, by decide, h.2.2⟩
      · rintro ⟨i, j, k, e1, e2, e3⟩; exact ⟨k, by simpa using e1, by simpa using e2, by simpa using e3⟩
      · rintro ⟨k, e1, e2, e3⟩; exact ⟨0, 0, k, by simpa using e1, by simpa using e2, by simpa using e3⟩
    · have zf : f = 0 := (Int.mul_eq_zero.mp h3).resolve_left zd
      subst zf
      have h := hb_1n (p0 := 0) (p1 := d) (p2 := e) hR (fun x y z => (hL x y z).trans ⟨?_, ?_⟩)
      · exact ⟨by decide, by decide, by decide, h.2.1, h.2.2, by decide⟩
      · rintro ⟨i, j, k, e1, e2, e3⟩; exact ⟨j, by simpa using e1, by simpa using e2, by simpa using e3⟩
      · rintro ⟨j, e1, e2, e3⟩; exact ⟨0, j, 0, by simpa using e1, by simpa using e2, by simpa using e3⟩
  · have zd : d = 0 := (Int.mul_eq_zero.mp h1).resolve_left za
    have zf : f = 0 := (Int.mul_eq_zero.mp h2).resolve_left za
    have ze := hd zd
    subst zd; subst ze; subst zf
    have h := hb_1n (p0 := a) (p1 := b) (p2 := c) hR (fun x y z => (hL x y z).trans ⟨?_, ?_⟩)
    · exact ⟨h.1, h.2.1, h.2.2, by decide, by decide, by decide⟩
    · rintro ⟨i, j, k, e1, e2, e3⟩; exact ⟨i, by simpa using e1, by simpa using e2, by simpa using e3⟩
    · rintro ⟨i, e1, e2, e3⟩; exact ⟨i, 0, 0, by simpa using e1, by simpa using e2, by simpa using e3⟩
end
end
section
/-! bounds of the six numbers in all; a point within A -/
theorem hb_r2 {Q : Nat → Prop} {R : Nat → Nat → Int} {a b c d e f : Int} (hn : hn_ a b c d e f) (h0 : a * d * f = 0) (hR : sm_ Q R) (hL : ∀ x y z, sp_L Q R x y z ↔ hl_ a b c d e f x y z) : a.natAbs ≤ 162 ∧ b.natAbs ≤ 162 ∧ c.natAbs ≤ 162 ∧ d.natAbs ≤ 162 ∧ e.natAbs ≤ 162 ∧ f.natAbs ≤ 162 := by
  by_cases q : a * d = 0 ∧ a * f = 0 ∧ d * f = 0
  · have := hb_1 hn q.1 q.2.1 q.2.2 hR hL
    omega
  · obtain ⟨k1, k2, k3, k4, k5, k6⟩ := hb_2 hn h0 hR hL
    obtain ⟨n1, n2, n3, na, nd, nb, nc⟩ := hn
    have L : ∀ x y : Int, y ≠ 0 → (x * y).natAbs ≤ 162 → x.natAbs ≤ 162 := by
      intro x y hy h
      exact ab_mul (t := y) (n := x) (B := 162) hy (by rw [Int.mul_comm]; exact h)
    have L' : ∀ x y : Int, x ≠ 0 → (x * y).natAbs ≤ 162 → y.natAbs ≤ 162 := by
      intro x y hy h
      exact ab_mul (t := x) (n := y) (B := 162) hy h
    by_cases za : a = 0
    · obtain ⟨zb, zc⟩ := na za
      have zd : d ≠ 0 := by intro z; apply q; rw [za, z]; simp
      have zf : f ≠ 0 := by intro z; apply q; rw [za, z]; simp
      have x1 := L d f zf k6
      have x2 := L' d f zd k6
      have x3 := nc (by omega)
      omega
    · by_cases zd : d = 0
      · have ze := nd zd
        have zf : f ≠ 0 := by intro z; apply q; rw [zd, z]; simp
        have x1 := L a f zf k4
        have x2 := L' a f za k4
        have x3 := nc (by omega)
        have x4 := L b f zf k5
        omega
      · have zf : f = 0 := by
          rcases Int.mul_eq_zero.mp h0 with h | h
          · rcases Int.mul_eq_zero.mp h with h | h
            · exact absurd h za
            · exact absurd h zd
          · exact h
        have x1 := L a d zd k1
        have x2 := L' a d za k1
        have x3 := L' a e za k2
        have x4 := nb (by omega)
        have x5 : (b * e).natAbs ≤ (d.natAbs - 1) * 162 := by
          rw [Int.natAbs_mul]; exact Nat.mul_le_mul (by omega) x3
        have x6 : c.natAbs * d.natAbs ≤ 162 * d.natAbs := by
          have y1 : (c * d).natAbs = c.natAbs * d.natAbs := Int.natAbs_mul c d
          have y2 : (d.natAbs - 1) * 162 + 162 = 162 * d.natAbs := by
            obtain ⟨D, hD⟩ : ∃ D, d.natAbs = D + 1 := ⟨d.natAbs - 1, by omega⟩
            rw [hD]; omega
          generalize b * e = u at *
          generalize hv : c * d = v at *
          omega
        have x7 : c.natAbs ≤ 162 := Nat.le_of_mul_le_mul_right x6 (by omega)
        omega
def hB_ (a b c d e f : Int) : Prop := a.natAbs ≤ 2916 ∧ d.natAbs ≤ 2916 ∧ f.natAbs ≤ 2916 ∧ b.natAbs ≤ 2915 ∧ c.natAbs ≤ 2915 ∧ e.natAbs ≤ 2915
theorem hB_of {Q : Nat → Prop} {R : Nat → Nat → Int} {a b c d e f : Int} (hn : hn_ a b c d e f) (hR : sm_ Q R) (hL : ∀ x y z, sp_L Q R x y z ↔ hl_ a b c d e f x y z) : hB_ a b c d e f := by
  unfold hB_
  by_cases h0 : a * d * f = 0
  · have := hb_r2 hn h0 hR hL; omega
  · have k := hb_3 hR hL
    obtain ⟨n1, n2, n3, na, nd, nb, nc⟩ := hn
    have za : a ≠ 0 := by intro z; rw [z] at h0; simp at h0
    have zd : d ≠ 0 := by intro z; rw [z] at h0; simp at h0
    have zf : f ≠ 0 := by intro z; rw [z] at h0; simp at h0
    have x1 : f.natAbs ≤ 2916 := ab_mul (t := a * d) (n := f) (B := 2916) (by intro z; rw [z] at h0; simp at h0) k
    have x2 : d.natAbs ≤ 2916 := ab_mul (t := a * f) (n := d) (B := 2916) (by intro z; exact (Int.mul_eq_zero.mp z).elim za zf) (by rw [show a * f * d = a * d * f by grind]; exact k)
    have x3 : a.natAbs ≤ 2916 := ab_mul (t := d * f) (n := a) (B := 2916) (by intro z; exact (Int.mul_eq_zero.mp z).elim zd zf) (by rw [show d * f * a = a * d * f by grind]; exact k)
    have x4 := nb (by omega)
    have x5 := nc (by omega)
    omega
section
variable {fc fr fk fs fh fl fb : Int32} {aR aW aS aO aQ aD aE : Nat → Int32} {post : Int32 → Prop}
theorem xg_in {a b c d e f x y z : Int} {A : Nat} (hA : A ≤ 291600) (hx : x.natAbs ≤ A) (hy : y.natAbs ≤ A) (hz : z.natAbs ≤ A) (hn : hn_ a b c d e f) (hB : hB_ a b c d e f) (hs : xs_ fs aS aO a b c d e f) (h1 : hl_ a b c d e f x y z → post 1) (h0 : ¬ hl_ a b c d e f x y z → post 0) : wpX_inGrid post (fc, fr, fk, fs, fh, fl, fb, aR, aW, aS, aO, aQ, aD, aE) (zi_v x) (zi_v y) (zi_v z) := by
  obtain ⟨b1, b2, b3, b4, b5, b6⟩ := hB
  have q0 := Int.natAbs_fdiv_le_natAbs x a
  have y0 := ab_sub y (x.fdiv a) b
  have p1 : (x.fdiv a).natAbs * b.natAbs ≤ A * 2915 := Nat.mul_le_mul (by omega) b4
  have p2 : (x.fdiv a).natAbs * c.natAbs ≤ A * 2915 := Nat.mul_le_mul (by omega) b5
  have q1 : ((y - x.fdiv a * b).fdiv d).natAbs ≤ A + 1 := by
    by_cases zd : d = 0
    · subst zd; rw [Int.fdiv_zero]; exact Nat.zero_le _
    · have hb := hn.2.2.2.2.2.1 (by have := hn.2.1; omega)
      have r1 := fd_le (a := y - x.fdiv a * b) zd
      have r2 : (x.fdiv a).natAbs * b.natAbs ≤ A * (d.natAbs - 1) := Nat.mul_le_mul (by omega) (by omega)
      have r3 : A * (d.natAbs - 1) + A = A * d.natAbs := by
        obtain ⟨D, hD⟩ : ∃ D, d.natAbs = D + 1 := ⟨d.natAbs - 1, by omega⟩
        rw [hD, Nat.add_sub_cancel, Nat.mul_add, Nat.mul_one]
      have r4 : ((y - x.fdiv a * b).fdiv d).natAbs * d.natAbs ≤ (A + 1) * d.natAbs := by
        rw [Nat.add_mul, Nat.one_mul]; omega
      exact Nat.le_of_mul_le_mul_right r4 (by omega)
  have z0 := ab_sub z (x.fdiv a) c
  have z1 := ab_sub (z - x.fdiv a * c) ((y - x.fdiv a * b).fdiv d) e
  have p3 : ((y - x.fdiv a * b).fdiv d).natAbs * e.natAbs ≤ (A + 1) * 2915 := Nat.mul_le_mul q1 b6
  refine xg_12 (zi_Rabs (by omega)) (zi_Rabs (by omega)) (zi_Rabs (by omega)) (zi_Rabs (by omega)) (zi_Rabs (by omega)) (zi_Rabs (by omega)) hn hs h1 h0
end
/-! the relation -/
def rdy_ (N : Nat) (R : Nat → Nat → Int) (fs : Int32) (aS aO : Nat → Int32) : Prop := ∃ a b c d e f, hn_ a b c d e f ∧ (∀ x y z, sp_L (fun i => i < N) R x y z ↔ hl_ a b c d e f x y z) ∧ xs_ fs aS aO a b c d e f
def shp_ (N : Nat) (R : Nat → Nat → Int) (aD : Nat → Int32) : Prop := ∃ d0 d1 d2 : Nat, aD 0 = nI d0 ∧ aD 1 = nI d1 ∧ aD 2 = nI d2 ∧ d0 < 2147483648 ∧ d1 < 2147483648 ∧ d2 < 2147483648 ∧ dv_ (sp_L (fun i => i < N) R) d0 (d0 * d1) (d0 * d1 * d2)
def rw_ (N : Nat) (R C : Nat → Nat → Int) : Prop := N < 5 ∧ (∀ i j, i < 4 → j < 3 → C i j = R i j) ∧ (∀ i j, i < 4 → j < 3 → (R i j).natAbs ≤ 9) ∧ ∀ j, j < 3 → (C 4 j).natAbs ≤ 5000
def rl_ (N : Nat) (R : Nat → Nat → Int) (fr fs fh : Int32) (aS aO aD : Nat → Int32) : Prop := (fr = 0 ∨ (fr = 1 ∧ rdy_ N R fs aS aO)) ∧ (fh = 0 ∨ (fh = 1 ∧ shp_ N R aD))
def i_Rel (k : Nat) (u : SX) (v : SY) : Prop :=
  match u, v with
  | (fc, fr, fk, fs, fh, fl, fb, aR, aW, aS, aO, aQ, aD, aE), (gc, gf, gl, aC) => ∃ N R C, fc = nI N ∧ gc = nI N ∧ aR = mE R ∧ aC = mE C ∧ rw_ N R C ∧ rl_ N R fr fs fh aS aO aD
theorem i_up {k : Nat} {u : SX} {v : SY} (h : i_Rel k u v) : i_Rel (k + 4) u v := h
/-- open it -/
theorem i_el {k : Nat} {P : SX → SY → Prop} (h : ∀ (N : Nat) (R C : Nat → Nat → Int) (fr fk fs fh fl fb : Int32) (aW aS aO aQ aD aE : Nat → Int32) (gf gl : Int32), rw_ N R C → rl_ N R fr fs fh aS aO aD → P (nI N, fr, fk, fs, fh, fl, fb, mE R, aW, aS, aO, aQ, aD, aE) (nI N, gf, gl, mE C)) {u : SX} {v : SY} (I : i_Rel k u v) : P u v := by
  obtain ⟨fc, fr, fk, fs, fh, fl, fb, aR, aW, aS, aO, aQ, aD, aE⟩ := u
  obtain ⟨gc, gf, gl, aC⟩ := v
  obtain ⟨N, R, C, rfl, rfl, rfl, rfl, h1, h2⟩ := I
  exact h N R C fr fk fs fh fl fb aW aS aO aQ aD aE gf gl h1 h2
theorem rw_yb {N : Nat} {R C : Nat → Nat → Int} (h : rw_ N R C) : yb_ C := by
  obtain ⟨_, h1, h2, h3⟩ := h
  refine ⟨fun i j a b => ?_, fun j b => ?_⟩
  · have := h2 i j a b; rw [h1 i j a b]; omega
  · have := h3 j b; omega
theorem rw_sm {N : Nat} {R C : Nat → Nat → Int} (h : rw_ N R C) : sm_ (fun i => i < N) R := fun i j hi hj => h.2.2.1 i j (by have := h.1; have : i < N := hi; omega) hj
section
variable {fc fr fk fs fh fl fb : Int32} {aR aW aS aO aQ aD aE : Nat → Int32} {post : SX → Prop}
theorem xb_b {N : Nat} {R : Nat → Nat → Int} (hN : N < 5) (hR : sm_ (fun i => i < N) R) (hr : fr = 0 ∨ (fr = 1 ∧ rdy_ N R fs aS aO))
    (hp : ∀ fk' fs' aW' aS' aO' a b c d e f, hn_ a b c d e f → (∀ x y z, sp_L (fun i => i < N) R x y z ↔ hl_ a b c d e f x y z) → xs_ fs' aS' aO' a b c d e f → post (nI N, 1, fk', fs', fh, fl, fb, mE R, aW', aS', aO', aQ, aD, aE)) : wpX_build post (nI N, fr, fk, fs, fh, fl, fb, mE R, aW, aS, aO, aQ, aD, aE) := by
  rcases hr with rfl | ⟨rfl, a, b, c, d, e, f, h1, h2, h3⟩
  · refine br_t rfl ?_
    refine xb_build (sk := fun _ => False) hN (fun i j hi hj => hR i j hi hj) (fun r hr => ?_) (fun fs' aW' aS' aO' a b c d e f h1 h2 h3 => ?_)
    · have : ∀ r, r < 5 → ¬ nI r = -1 := by decide
      exact ⟨fun q => this r (by omega) q, fun q => q.elim⟩
    · refine hp _ _ _ _ _ a b c d e f h1 (fun x y z => ?_) h3
      rw [← h2]
      have : (fun i => i < N) = (fun i => i < N ∧ ¬ False) := by funext i; simp
      rw [this]
  · exact br_f (by decide) (hp _ _ _ _ _ a b c d e f h1 h2 h3)
end
end
section
/-! the simple calls -/
theorem i_vc0 : wpX_init (fun u => wpY_init (fun v => i_Rel 0 u v)) := by
  refine ⟨0, fun _ _ => 0, fun _ _ => 0, rfl, rfl, rfl, rfl, ⟨by omega, fun _ _ _ _ => rfl, fun _ _ _ _ => Nat.zero_le _, fun _ _ => Nat.zero_le _⟩, Or.inl rfl, Or.inl rfl⟩
def s9_ (v : Int32) : Prop := -9 ≤ v.toInt ∧ v.toInt ≤ 9
section
variable {fc fr fk fs fh fl fb : Int32} {aR aW aS aO aQ aD aE : Nat → Int32} {gc gf gl : Int32} {aC : Nat → Int32} {post : Int32 → Prop}
theorem xn_bad {v : Int32} (h0 : s9_ v → post 0) (h1 : ¬ s9_ v → post 1) : wpX_badNumber post (fc, fr, fk, fs, fh, fl, fb, aR, aW, aS, aO, aQ, aD, aE) v := by
  have e1 : (-9 : Int32).toInt = -9 := by decide
  have e2 : (9 : Int32).toInt = 9 := by decide
  refine ⟨fun q => h1 (fun k => ?_), fun q => ⟨fun q' => h0 ⟨?_, ?_⟩, fun q' => h1 (fun k => ?_)⟩⟩
  · rw [Int32.lt_iff_toInt_lt, e1] at q; unfold s9_ at k; omega
  · rw [Int32.lt_iff_toInt_lt, e1] at q; omega
  · rw [Int32.le_iff_toInt_le, e2] at q'; exact q'
  · rw [Int32.le_iff_toInt_le, e2] at q'; unfold s9_ at k; omega
theorem yn_small {v : Int32} {L : Nat} (hL : L < 2147483648) (h0 : (-(L : Int) ≤ v.toInt ∧ v.toInt ≤ L) → post 1) (h1 : ¬ (-(L : Int) ≤ v.toInt ∧ v.toInt ≤ L) → post 0) : wpY_isSmall post (gc, gf, gl, aC) v (nI L) := by
  have e2 : (nI L).toInt = L := nI_toInt hL
  have e1 : (-nI L).toInt = -(L : Int) := by rw [← zi_n, zi_neg]; exact zi_t ⟨by omega, by omega⟩
  refine ⟨fun q => h1 (fun k => ?_), fun q => ⟨fun q' => h1 (fun k => ?_), fun q' => h0 ⟨?_, ?_⟩⟩⟩
  · rw [Int32.lt_iff_toInt_lt, e1] at q; omega
  · rw [Int32.lt_iff_toInt_lt, e2] at q'; omega
  · rw [Int32.lt_iff_toInt_lt, e1] at q; omega
  · rw [Int32.lt_iff_toInt_lt, e2] at q'; omega
theorem yn_are {x y z : Int32} {L : Nat} (hL : L < 2147483648) (h0 : ((-(L : Int) ≤ x.toInt ∧ x.toInt ≤ L) ∧ (-(L : Int) ≤ y.toInt ∧ y.toInt ≤ L) ∧ (-(L : Int) ≤ z.toInt ∧ z.toInt ≤ L)) → post 1) (h1 : ¬ ((-(L : Int) ≤ x.toInt ∧ x.toInt ≤ L) ∧ (-(L : Int) ≤ y.toInt ∧ y.toInt ≤ L) ∧ (-(L : Int) ≤ z.toInt ∧ z.toInt ≤ L)) → post 0) : wpY_areSmall post (gc, gf, gl, aC) x y z (nI L) := by
  unfold wpY_areSmall
  refine yn_small hL (fun a => br_f (by decide) ?_) (fun a => br_t rfl (h1 fun k => a k.1))
  refine yn_small hL (fun b => br_f (by decide) ?_) (fun b => br_t rfl (h1 fun k => b k.2.1))
  exact yn_small hL (fun c => br_f (by decide) (h0 ⟨a, b, c⟩)) (fun c => br_t rfl (h1 fun k => c k.2.2))
end
theorem mE_upd0 (w : Nat → Nat → Int) {r : Nat} (h : 3 * r < 2147483648) (v : Int) : upd (mE w) (3 * nI r).toNatClampNeg (zi_v v) = mE (ms_ w r 0 v) := by
  rw [zn_3, nI_clamp h]; exact mE_upd w (r := r) (c := 0) (by omega) v
theorem mE_upd1 (w : Nat → Nat → Int) {r : Nat} (h : 3 * r + 1 < 2147483648) (v : Int) : upd (mE w) (3 * nI r + 1).toNatClampNeg (zi_v v) = mE (ms_ w r 1 v) := mE_updx w (c := 1) (by omega) h v
theorem mE_upd2 (w : Nat → Nat → Int) {r : Nat} (h : 3 * r + 2 < 2147483648) (v : Int) : upd (mE w) (3 * nI r + 2).toNatClampNeg (zi_v v) = mE (ms_ w r 2 v) := mE_updx w (c := 2) (by omega) h v
theorem mE_updv (w : Nat → Nat → Int) {r c : Nat} (hc : c < 3) (h : 3 * r + c < 2147483648) (v : Int32) : upd (mE w) (3 * nI r + nI c).toNatClampNeg v = mE (ms_ w r c v.toInt) := by
  have := mE_updx w hc h v.toInt
  rw [zi_of] at this; exact this
theorem mE_updv0 (w : Nat → Nat → Int) {r : Nat} (h : 3 * r < 2147483648) (v : Int32) : upd (mE w) (3 * nI r).toNatClampNeg v = mE (ms_ w r 0 v.toInt) := by
  have := mE_upd0 w h v.toInt
  rw [zi_of] at this; exact this
theorem mE_updv1 (w : Nat → Nat → Int) {r : Nat} (h : 3 * r + 1 < 2147483648) (v : Int32) : upd (mE w) (3 * nI r + 1).toNatClampNeg v = mE (ms_ w r 1 v.toInt) := mE_updv w (c := 1) (by omega) h v
theorem mE_updv2 (w : Nat → Nat → Int) {r : Nat} (h : 3 * r + 2 < 2147483648) (v : Int32) : upd (mE w) (3 * nI r + 2).toNatClampNeg v = mE (ms_ w r 2 v.toInt) := mE_updv w (c := 2) (by omega) h v
/-- a row of a table set -/
def p3_ (w : Nat → Nat → Int) (r : Nat) (x y z : Int) : Nat → Nat → Int := ms_ (ms_ (ms_ w r 0 x) r 1 y) r 2 z
theorem p3_o (w : Nat → Nat → Int) {r i : Nat} (x y z : Int) (h : i ≠ r) (j : Nat) : p3_ w r x y z i j = w i j := by
  unfold p3_ ms_
  rw [if_neg (fun q => h q.1), if_neg (fun q => h q.1), if_neg (fun q => h q.1)]
theorem p3_0 (w : Nat → Nat → Int) (r : Nat) (x y z : Int) : p3_ w r x y z r 0 = x := by unfold p3_ ms_; simp
theorem p3_1 (w : Nat → Nat → Int) (r : Nat) (x y z : Int) : p3_ w r x y z r 1 = y := by unfold p3_ ms_; simp
theorem p3_2 (w : Nat → Nat → Int) (r : Nat) (x y z : Int) : p3_ w r x y z r 2 = z := by unfold p3_ ms_; simp
theorem p3_P {P : Int → Prop} {x y z : Int} (w : Nat → Nat → Int) (r : Nat) (hx : P x) (hy : P y) (hz : P z) (j : Nat) (hj : j < 3) : P (p3_ w r x y z r j) := by
  have : j = 0 ∨ j = 1 ∨ j = 2 := by omega
  rcases this with rfl | rfl | rfl
  · rw [p3_0]; exact hx
  · rw [p3_1]; exact hy
  · rw [p3_2]; exact hz
section
variable {gc gf gl : Int32} {w : Nat → Nat → Int} {post : SY → Prop}
theorem yp_put {r : Nat} {x y z : Int32} (hr : r < 5) (hp : post (gc, gf, gl, mE (p3_ w r x.toInt y.toInt z.toInt))) : wpY_put post (gc, gf, gl, mE w) (nI r) x y z := by
  refine ⟨zn_in0 (by omega) (by omega), nm_r (mE_updv0 w (by omega) _) ⟨zn_in (r := r) (c := 1) (by omega) (by omega), nm_r (mE_updv1 _ (by omega) _) ⟨zn_in (r := r) (c := 2) (by omega) (by omega), nm_r (mE_updv2 _ (by omega) _) ?_⟩⟩⟩
  exact hp
end
theorem rl_0 (N : Nat) (R : Nat → Nat → Int) (fs : Int32) (aS aO aD : Nat → Int32) : rl_ N R 0 fs 0 aS aO aD := ⟨Or.inl rfl, Or.inl rfl⟩
theorem i_vc_add {k : Nat} {u : SX} {v : SY} (I : i_Rel k u v) (hk : k + 4 ≤ 2048) (v1 : Int32) (v2 : Int32) (v3 : Int32) : wpX_add (fun r u' => wpY_add (fun r' v' => r' = r ∧ i_Rel (k + 4) u' v') v v1 v2 v3) u v1 v2 v3 := by
  refine i_el (P := fun u v => wpX_add (fun r u' => wpY_add (fun r' v' => r' = r ∧ i_Rel (k + 4) u' v') v v1 v2 v3) u v1 v2 v3) ?_ I
  intro N R C fr fk fs fh fl fb aW aS aO aQ aD aE gf gl hw hl
  have bad : ¬ (s9_ v1 ∧ s9_ v2 ∧ s9_ v3) → wpY_add (fun r' v' => r' = -1 ∧ i_Rel (k + 4) (nI N, fr, fk, fs, fh, fl, fb, mE R, aW, aS, aO, aQ, aD, aE) v') (nI N, gf, gl, mE C) v1 v2 v3 := by
    intro h
    unfold wpY_add
    refine yn_are (L := 9) (by omega) (fun q => absurd ⟨q.1, q.2.1, q.2.2⟩ h) (fun _ => br_t rfl ⟨rfl, N, R, C, rfl, rfl, rfl, rfl, hw, hl⟩)
  unfold wpX_add
  refine xn_bad (fun a => br_t rfl ?_) (fun a => br_f (by decide) (bad fun q => a q.1))
  refine xn_bad (fun b => br_t rfl ?_) (fun b => br_f (by decide) (bad fun q => b q.2.1))
  refine xn_bad (fun c => br_t rfl ?_) (fun c => br_f (by decide) (bad fun q => c q.2.2))
  obtain ⟨hN, hC, hR, hP⟩ := hw
  refine zn_eq (b := 4) (by omega) (by omega) (fun h => ?_) (fun h => ?_)
  · unfold wpY_add
    refine yn_are (L := 9) (by omega) (fun _ => br_f (by decide) (br_t (by rw [h]; rfl) ⟨rfl, N, R, C, rfl, rfl, rfl, rfl, ⟨hN, hC, hR, hP⟩, hl⟩)) (fun q => absurd ⟨a, b, c⟩ q)
  · refine ⟨zn_in0 (by omega) (by omega), nm_r (mE_updv0 R (by omega) _) ⟨zn_in (r := N) (c := 1) (by omega) (by omega), nm_r (mE_updv1 _ (by omega) _) ⟨zn_in (r := N) (c := 2) (by omega) (by omega), nm_r (mE_updv2 _ (by omega) _) ?_⟩⟩⟩
    refine nm_r (nI_1 N) ?_
    unfold wpX_changed
    dsimp only
    unfold wpY_add
    refine yn_are (L := 9) (by omega) (fun _ => br_f (by decide) (br_f (fun q => h ((nI_eq (b := 4) (by omega) (by omega)).mp q)) ?_)) (fun q => absurd ⟨a, b, c⟩ q)
    refine yp_put (by omega) ?_
    refine nm_r (nI_1 N) ⟨rfl, N + 1, p3_ R N v1.toInt v2.toInt v3.toInt, p3_ C N v1.toInt v2.toInt v3.toInt, rfl, rfl, rfl, rfl, ⟨by omega, fun i j hi hj => ?_, fun i j hi hj => ?_, fun j hj => ?_⟩, rl_0 _ _ _ _ _ _⟩
    · by_cases q : i = N
      · subst q
        have : j = 0 ∨ j = 1 ∨ j = 2 := by omega
        rcases this with rfl | rfl | rfl
        · rw [p3_0, p3_0]
        · rw [p3_1, p3_1]
        · rw [p3_2, p3_2]
      · rw [p3_o _ _ _ _ q, p3_o _ _ _ _ q]; exact hC i j hi hj
    · by_cases q : i = N
      · subst q
        unfold s9_ at a b c
        exact p3_P (P := fun x => x.natAbs ≤ 9) R i (by omega) (by omega) (by omega) j hj
      · rw [p3_o _ _ _ _ q]; exact hR i j hi hj
    · rw [p3_o _ _ _ _ (by omega)]; exact hP j hj
theorem i_vc_remove {k : Nat} {u : SX} {v : SY} (I : i_Rel k u v) (hk : k + 4 ≤ 2048) : wpX_remove (fun r u' => wpY_remove (fun r' v' => r' = r ∧ i_Rel (k + 4) u' v') v) u := by
  refine i_el (P := fun u v => wpX_remove (fun r u' => wpY_remove (fun r' v' => r' = r ∧ i_Rel (k + 4) u' v') v) u) ?_ I
  intro N R C fr fk fs fh fl fb aW aS aO aQ aD aE gf gl hw hl
  have hw' := hw
  obtain ⟨hN, hC, hR, hP⟩ := hw'
  refine zn_eq (b := 0) (by omega) (by omega) (fun h => ?_) (fun h => ?_)
  · exact br_t (by rw [h]; rfl) ⟨rfl, N, R, C, rfl, rfl, rfl, rfl, hw, hl⟩
  · obtain ⟨M, rfl⟩ : ∃ M, N = M + 1 := ⟨N - 1, by omega⟩
    refine nm_r (nI_pred M) ?_
    refine br_f (fun q => h ((nI_eq (b := 0) (by omega) (by omega)).mp q)) (nm_r (nI_pred M) ⟨rfl, M, R, C, rfl, rfl, rfl, rfl, ⟨by omega, hC, hR, hP⟩, rl_0 _ _ _ _ _ _⟩)
theorem i_vc_rows {k : Nat} {u : SX} {v : SY} (I : i_Rel k u v) (hk : k + 4 ≤ 2048) : wpX_rows (fun r => wpY_rows (fun r' => r' = r ∧ i_Rel (k + 4) u v) v) u := by
  refine i_el (P := fun u v => wpX_rows (fun r => wpY_rows (fun r' => r' = r ∧ i_Rel (k + 4) u v) v) u) ?_ I
  intro N R C fr fk fs fh fl fb aW aS aO aQ aD aE gf gl hw hl
  exact ⟨rfl, N, R, C, rfl, rfl, rfl, rfl, hw, hl⟩
theorem i_vc_set {k : Nat} {u : SX} {v : SY} (I : i_Rel k u v) (hk : k + 4 ≤ 2048) (v1 : Int32) (v2 : Int32) (v3 : Int32) : wpX_set (fun r u' => wpY_set (fun r' v' => r' = r ∧ i_Rel (k + 4) u' v') v v1 v2 v3) u v1 v2 v3 := by
  refine i_el (P := fun u v => wpX_set (fun r u' => wpY_set (fun r' v' => r' = r ∧ i_Rel (k + 4) u' v') v v1 v2 v3) u v1 v2 v3) ?_ I
  intro N R C fr fk fs fh fl fb aW aS aO aQ aD aE gf gl hw hl
  have hw' := hw
  obtain ⟨hN, hC, hR, hP⟩ := hw'
  have same : i_Rel (k + 4) (nI N, fr, fk, fs, fh, fl, fb, mE R, aW, aS, aO, aQ, aD, aE) (nI N, gf, gl, mE C) := ⟨N, R, C, rfl, rfl, rfl, rfl, hw, hl⟩
  refine br_c (fun q1 => br_t q1 ⟨rfl, same⟩) (fun q1 => br_c (fun q2 => br_f q1 (br_t q2 ⟨rfl, same⟩)) (fun q2 => br_c (fun q3 => br_f q1 (br_f q2 (br_t q3 ⟨rfl, same⟩))) (fun q3 => br_c (fun q4 => br_f q1 (br_f q2 (br_f q3 (br_t q4 ⟨rfl, same⟩)))) (fun q4 => ?_))))
  obtain ⟨r, hr, rfl⟩ := nI_of q1
  obtain ⟨c, hc, rfl⟩ := nI_of q3
  have hr' : r < N := by
    apply Classical.byContradiction
    intro z; exact q2 (nI_le (by omega) hr)
  have hc' : c < 3 := by
    apply Classical.byContradiction
    intro z; exact q4 (nI_lt (a := 2) (by omega) hc)
  refine xn_bad (fun a => br_t rfl ?_) (fun a => br_f (by decide) ?_)
  · refine ⟨zn_in (by omega) (by omega), nm_r (mE_ix R hc' (by omega)) ⟨zn_in (by omega) (by omega), ?_⟩⟩
    refine nm_r (mE_updv R hc' (by omega) _) ?_
    refine br_f q1 (br_f q2 (br_f q3 (br_f q4 ?_)))
    refine yn_small (L := 9) (by omega) (fun _ => br_f (by decide) ?_) (fun q => absurd a q)
    refine ⟨zn_in (by omega) (by omega), nm_r (mE_ix C hc' (by omega)) ⟨zn_in (by omega) (by omega), ?_⟩⟩
    refine nm_r (mE_updv C hc' (by omega) _) ⟨by rw [hC r c (by omega) hc'], N, ms_ R r c v3.toInt, ms_ C r c v3.toInt, rfl, rfl, rfl, rfl, ⟨hN, fun i j hi hj => ?_, fun i j hi hj => ?_, fun j hj => ?_⟩, rl_0 _ _ _ _ _ _⟩
    · unfold ms_
      by_cases q : i = r ∧ j = c
      · rw [if_pos q, if_pos q]
      · rw [if_neg q, if_neg q]; exact hC i j hi hj
    · unfold ms_
      by_cases q : i = r ∧ j = c
      · rw [if_pos q]; unfold s9_ at a; omega
      · rw [if_neg q]; exact hR i j hi hj
    · unfold ms_
      rw [if_neg (by omega)]; exact hP j hj
  · refine br_f q1 (br_f q2 (br_f q3 (br_f q4 ?_)))
    exact yn_small (L := 9) (by omega) (fun q => absurd q a) (fun _ => br_t rfl ⟨rfl, same⟩)
end
section
/-! columns exchanged -/
def sw_ (w : Nat → Nat → Int) (c d k : Nat) : Nat → Nat → Int := fun i j => if i < k then (if j = d then w i c else if j = c then w i d else w i j) else w i j
theorem sw_0 (w : Nat → Nat → Int) (c d : Nat) : sw_ w c d 0 = w := by funext i j; unfold sw_; rw [if_neg (by omega)]
theorem sw_at (w : Nat → Nat → Int) (c d k j : Nat) : sw_ w c d k k j = w k j := by unfold sw_; rw [if_neg (by omega)]
theorem sw_s (w : Nat → Nat → Int) (c d k : Nat) : ms_ (ms_ (sw_ w c d k) k c (w k d)) k d (w k c) = sw_ w c d (k + 1) := by
  funext i j; unfold ms_ sw_
  by_cases h : i = k
  · subst h
    rw [if_pos (show i < i + 1 by omega)]
    by_cases h1 : j = d
    · rw [if_pos ⟨rfl, h1⟩, if_pos h1]
    · rw [if_neg (fun q => h1 q.2), if_neg h1]
      by_cases h2 : j = c
      · rw [if_pos ⟨rfl, h2⟩, if_pos h2]
      · rw [if_neg (fun q => h2 q.2), if_neg h2, if_neg (by omega)]
  · rw [if_neg (fun q => h q.1), if_neg (fun q => h q.1)]
    by_cases h1 : i < k
    · rw [if_pos h1, if_pos (show i < k + 1 by omega)]
    · rw [if_neg h1, if_neg (show ¬ i < k + 1 by omega)]
section
variable {fc fr fk fs fh fl fb : Int32} {aR aW aS aO aQ aD aE : Nat → Int32} {R : Nat → Nat → Int} {post : Int32 → SX → Prop}
theorem xw_22 {N c d : Nat} (hN : N < 5) (hc : c < 3) (hd : d < 3) (hp : post (nI N) (nI N, 0, fk, fs, 0, fl, fb, mE (sw_ R c d N), aW, aS, aO, aQ, aD, aE)) : ∀ m k : Nat, k + m = N → wX_swap_22 post (nI c) (nI d) (nI N) fr fk fs fh fl fb (m + 1) (nI k) (mE (sw_ R c d k)) aW aS aO aQ aD aE := by
  intro m
  induction m with
  | zero =>
    intro k hk
    have : k = N := by omega
    subst this
    exact br_t (nI_le (by omega) (by omega)) hp
  | succ m ih =>
    intro k hk
    refine br_f (nI_ge (by omega) (by omega)) ⟨zn_in (by omega) (by omega), nm_r (mE_ix _ hc (by omega)) ⟨zn_in (by omega) (by omega), zn_in (by omega) (by omega), ?_⟩⟩
    rw [mE_ix _ hd (by omega), sw_at, sw_at]
    refine nm_r (mE_updx _ hc (by omega) _) ⟨zn_in (by omega) (by omega), nm_r (mE_updx _ hd (by omega) _) (nm_r (nI_1 k) ?_)⟩
    rw [sw_s]
    exact ih (k + 1) (by omega)
end
section
variable {gf gl : Int32} {C : Nat → Nat → Int} {post : Int32 → SY → Prop}
theorem yw_22 {N c d : Nat} (hN : N < 5) (hc : c < 3) (hd : d < 3) (hp : post (nI N) (nI N, gf, gl, mE (sw_ C c d N))) : ∀ m k : Nat, k + m = N → wY_swap_22 post (nI c) (nI d) (nI N) gf gl (m + 1) (nI k) (mE (sw_ C c d k)) := by
  intro m
  induction m with
  | zero =>
    intro k hk
    have : k = N := by omega
    subst this
    exact br_t (nI_le (by omega) (by omega)) hp
  | succ m ih =>
    intro k hk
    refine br_f (nI_ge (by omega) (by omega)) ⟨zn_in (by omega) (by omega), nm_r (mE_ix _ hc (by omega)) ⟨zn_in (by omega) (by omega), zn_in (by omega) (by omega), ?_⟩⟩
    rw [mE_ix _ hd (by omega), sw_at, sw_at]
    refine nm_r (mE_updx _ hc (by omega) _) ⟨zn_in (by omega) (by omega), nm_r (mE_updx _ hd (by omega) _) (nm_r (nI_1 k) ?_)⟩
    rw [sw_s]
    exact ih (k + 1) (by omega)
end
theorem i_vc_swap {k : Nat} {u : SX} {v : SY} (I : i_Rel k u v) (hk : k + 4 ≤ 2048) (v1 : Int32) (v2 : Int32) : wpX_swap (fun r u' => wpY_swap (fun r' v' => r' = r ∧ i_Rel (k + 4) u' v') v v1 v2) u v1 v2 := by
  refine i_el (P := fun u v => wpX_swap (fun r u' => wpY_swap (fun r' v' => r' = r ∧ i_Rel (k + 4) u' v') v v1 v2) u v1 v2) ?_ I
  intro N R C fr fk fs fh fl fb aW aS aO aQ aD aE gf gl hw hl
  have hw' := hw
  obtain ⟨hN, hC, hR, hP⟩ := hw'
  have same : i_Rel (k + 4) (nI N, fr, fk, fs, fh, fl, fb, mE R, aW, aS, aO, aQ, aD, aE) (nI N, gf, gl, mE C) := ⟨N, R, C, rfl, rfl, rfl, rfl, hw, hl⟩
  refine br_c (fun q1 => br_t q1 ⟨rfl, same⟩) (fun q1 => br_c (fun q2 => br_f q1 (br_t q2 ⟨rfl, same⟩)) (fun q2 => br_c (fun q3 => br_f q1 (br_f q2 (br_t q3 ⟨rfl, same⟩))) (fun q3 => br_c (fun q4 => ?_) (fun q4 => br_f q1 (br_f q2 (br_f q3 (br_f q4 ⟨rfl, same⟩)))))))
  obtain ⟨c, hc, rfl⟩ := nI_of q1
  obtain ⟨d, hd, rfl⟩ := nI_of q3
  have hc' : c < 3 := by
    apply Classical.byContradiction
    intro z; exact q2 (nI_lt (a := 2) (by omega) hc)
  have hd' : d < 3 := by
    have := (nI_leI (b := 2) hd (by omega)).mp q4; omega
  have h1 := xw_22 (post := fun r u' => wpY_swap (fun r' v' => r' = r ∧ i_Rel (k + 4) u' v') (nI N, gf, gl, mE C) (nI c) (nI d)) (fr := fr) (fk := fk) (fs := fs) (fh := fh) (fl := fl) (fb := fb) (aW := aW) (aS := aS) (aO := aO) (aQ := aQ) (aD := aD) (aE := aE) (R := R) hN hc' hd' ?_ N 0 (by omega)
  · rw [sw_0] at h1
    exact ⟨_, h1⟩
  · have h2 := yw_22 (post := fun r' v' => r' = nI N ∧ i_Rel (k + 4) (nI N, 0, fk, fs, 0, fl, fb, mE (sw_ R c d N), aW, aS, aO, aQ, aD, aE) v') (gf := gf) (gl := gl) (C := C) hN hc' hd' ⟨rfl, N, sw_ R c d N, sw_ C c d N, rfl, rfl, rfl, rfl, ⟨hN, fun i j hi hj => ?_, fun i j hi hj => ?_, fun j hj => ?_⟩, rl_0 _ _ _ _ _ _⟩ N 0 (by omega)
    · rw [sw_0] at h2
      exact br_f q1 (br_f q2 (br_f q3 (br_t q4 ⟨_, h2⟩)))
    · unfold sw_
      rw [hC i c hi hc', hC i d hi hd', hC i j hi hj]
    · unfold sw_
      by_cases z1 : i < N
      · rw [if_pos z1]
        by_cases z2 : j = d
        · rw [if_pos z2]; exact hR i c hi hc'
        · rw [if_neg z2]
          by_cases z3 : j = c
          · rw [if_pos z3]; exact hR i d hi hd'
          · rw [if_neg z3]; exact hR i j hi hj
      · rw [if_neg z1]; exact hR i j hi hj
    · unfold sw_
      rw [if_neg (by omega)]; exact hP j hj
end
section
/-! the reference's rows and the class's: one grid -/
theorem sp_c {Q Q' : Nat → Prop} {w w' : Nat → Nat → Int} (hQ : ∀ i, Q i ↔ Q' i) (hw : ∀ i, Q i → ∀ j, j < 3 → w i j = w' i j) (x y z : Int) : sp_L Q w x y z ↔ sp_L Q' w' x y z := by
  constructor
  · refine sp_le (fun i hi => ?_)
    rw [hw i hi 0 (by omega), hw i hi 1 (by omega), hw i hi 2 (by omega)]
    exact sp_row ((hQ i).mp hi)
  · refine sp_le (fun i hi => ?_)
    have hi' := (hQ i).mpr hi
    rw [← hw i hi' 0 (by omega), ← hw i hi' 1 (by omega), ← hw i hi' 2 (by omega)]
    exact sp_row hi'
theorem yq_b : ∀ N, N < 5 → ∀ i, i < 5 → ((2 ^ N - 1) / 2 ^ i % 2 = 1 ↔ i < N) := by decide +kernel
theorem yq_all {N : Nat} (hN : N < 5) (i : Nat) : qs_ (2 ^ N - 1) i ↔ i < N := by
  unfold qs_ bs_
  constructor
  · rintro ⟨h1, h2⟩; exact (yq_b N hN i h1).mp h2
  · intro h; exact ⟨by omega, (yq_b N hN i (by omega)).mpr h⟩
theorem yq_16 : ∀ N, N < 5 → 2 ^ N - 1 < 16 := by decide
/-- the first columns of the points of a grid -/
theorem pj_sp {Q : Nat → Prop} {w : Nat → Nat → Int} {k : Nat} (x y z : Int) : sp_L Q (pd_ w k) x y z ↔ ∃ x' y' z', sp_L Q w x' y' z' ∧ x = (if 0 < k then x' else 0) ∧ y = (if 1 < k then y' else 0) ∧ z = (if 2 < k then z' else 0) := by
  constructor
  · intro s
    refine s (fun x y z => ∃ x' y' z', sp_L Q w x' y' z' ∧ x = (if 0 < k then x' else 0) ∧ y = (if 1 < k then y' else 0) ∧ z = (if 2 < k then z' else 0)) ⟨?_, ?_⟩ (fun i hi => ⟨_, _, _, sp_row hi, rfl, rfl, rfl⟩)
    · exact ⟨0, 0, 0, (sp_gr _ _).1, by simp, by simp, by simp⟩
    · rintro x y z u v r ⟨x', y', z', h, rfl, rfl, rfl⟩ ⟨u', v', r', h', rfl, rfl, rfl⟩
      refine ⟨_, _, _, (sp_gr _ _).2 _ _ _ _ _ _ h h', ?_, ?_, ?_⟩
      · split <;> omega
      · split <;> omega
      · split <;> omega
  · rintro ⟨x', y', z', h, rfl, rfl, rfl⟩
    refine h (fun x' y' z' => sp_L Q (pd_ w k) (if 0 < k then x' else 0) (if 1 < k then y' else 0) (if 2 < k then z' else 0)) ⟨?_, ?_⟩ (fun i hi => sp_row (w := pd_ w k) hi)
    · exact gr_e (sp_gr _ _).1 (by simp) (by simp) (by simp)
    · intro x y z u v r h h'
      refine gr_e ((sp_gr _ _).2 _ _ _ _ _ _ h h') ?_ ?_ ?_
      · split <;> omega
      · split <;> omega
      · split <;> omega
/-- the six numbers in the first k columns -/
theorem pj_hl {Q : Nat → Prop} {w : Nat → Nat → Int} {a b c d e f : Int} (hL : ∀ x y z, sp_L Q w x y z ↔ hl_ a b c d e f x y z) {k : Nat} (x y z : Int) : sp_L Q (pd_ w k) x y z ↔ hl_ (if 0 < k then a else 0) (if 1 < k then b else 0) (if 2 < k then c else 0) (if 1 < k then d else 0) (if 2 < k then e else 0) (if 2 < k then f else 0) x y z := by
  rw [pj_sp]
  constructor
  · rintro ⟨x', y', z', h, rfl, rfl, rfl⟩
    obtain ⟨i, j, l, rfl, rfl, rfl⟩ := (hL _ _ _).mp h
    refine ⟨i, j, l, ?_, ?_, ?_⟩
    · split <;> simp
    · split <;> simp
    · split <;> simp
  · rintro ⟨i, j, l, rfl, rfl, rfl⟩
    refine ⟨_, _, _, (hL _ _ _).mpr ⟨i, j, l, rfl, rfl, rfl⟩, ?_, ?_, ?_⟩
    · split <;> simp
    · split <;> simp
    · split <;> simp
theorem rw_p {N : Nat} {R C : Nat → Nat → Int} (h : rw_ N R C) {x y z : Int} (hx : x.natAbs ≤ 5000) (hy : y.natAbs ≤ 5000) (hz : z.natAbs ≤ 5000) : rw_ N R (p3_ C 4 x y z) := by
  obtain ⟨h1, h2, h3, h4⟩ := h
  refine ⟨h1, fun i j a b => ?_, h3, fun j b => ?_⟩
  · rw [p3_o _ _ _ _ (by omega)]; exact h2 i j a b
  · exact p3_P (P := fun x => x.natAbs ≤ 5000) C 4 hx hy hz j b
/-- rows as the reference's set of bits, columns k -/
theorem yL_k {N k : Nat} {R C : Nat → Nat → Int} (h : rw_ N R C) (x y z : Int) : sp_L (qs_ (2 ^ N - 1)) (pd_ C k) x y z ↔ sp_L (fun i => i < N) (pd_ R k) x y z := by
  refine sp_c (yq_all h.1) (fun i hi j hj => ?_) x y z
  have hi := (yq_all h.1 i).mp hi
  have := h.1
  unfold pd_
  rw [h.2.1 i j (by omega) hj]
theorem p3_pd (w : Nat → Nat → Int) (x y z : Int) (k : Nat) : pd_ (p3_ w 4 x y z) k 4 0 = (if 0 < k then x else 0) ∧ pd_ (p3_ w 4 x y z) k 4 1 = (if 1 < k then y else 0) ∧ pd_ (p3_ w 4 x y z) k 4 2 = (if 2 < k then z else 0) := by
  unfold pd_; rw [p3_0, p3_1, p3_2]; exact ⟨rfl, rfl, rfl⟩
theorem if_hn1 {a b c : Int} {k : Nat} (h : a = 0 → b = 0 ∧ c = 0) (hk : 0 < k) : (if 0 < k then a else 0) = 0 → (if 1 < k then b else 0) = 0 ∧ (if 2 < k then c else 0) = 0 := by
  rw [if_pos hk]
  intro z
  obtain ⟨h1, h2⟩ := h z
  rw [h1, h2]; simp
theorem if_hn2 {d e : Int} {k : Nat} (h : d = 0 → e = 0) : (if 1 < k then d else 0) = 0 → (if 2 < k then e else 0) = 0 := by
  intro z
  by_cases q : 2 < k
  · rw [if_pos (by omega)] at z; rw [if_pos q]; exact h z
  · rw [if_neg q]
section
variable {gf gl : Int32} {N : Nat} {R C : Nat → Nat → Int} {a b c d e f : Int}
/-- the order of a point put to row 4 -/
theorem yo_put {post : Int32 → Prop} {k : Nat} {x y z : Int} (hw : rw_ N R C) (hx : x.natAbs ≤ 5000) (hy : y.natAbs ≤ 5000) (hz : z.natAbs ≤ 5000) (hk0 : 0 < k) (hk : k < 4) (hn : hn_ a b c d e f) (hL : ∀ x y z, sp_L (fun i => i < N) R x y z ↔ hl_ a b c d e f x y z)
    (h1 : on_ (sp_L (fun i => i < N) (pd_ R k)) (if 0 < k then x else 0) (if 1 < k then y else 0) (if 2 < k then z else 0) → post (-1000000)) (h2 : ∀ m : Nat, m < 2147483648 → oy_ (sp_L (fun i => i < N) (pd_ R k)) (if 0 < k then x else 0) (if 1 < k then y else 0) (if 2 < k then z else 0) m → post (nI m)) :
    wpY_orderOf post (nI N, gf, gl, mE (p3_ C 4 x y z)) (nI (2 ^ N - 1)) (nI k) := by
  have hw' := rw_p hw hx hy hz
  obtain ⟨e0, e1, e2⟩ := p3_pd C x y z k
  have eG : sp_L (fun i => i < N) (pd_ R k) = hl_ (if 0 < k then a else 0) (if 1 < k then b else 0) (if 2 < k then c else 0) (if 1 < k then d else 0) (if 2 < k then e else 0) (if 2 < k then f else 0) := by
    funext x y z; exact propext (pj_hl hL x y z)
  refine yo_order (rw_yb hw') (yq_16 N hw.1) hk hk0 (if_hn1 hn.2.2.2.1 hk0) (if_hn2 hn.2.2.2.2.1) (fun x y z => (yL_k hw' x y z).trans (pj_hl hL x y z)) ?_ ?_
  · rw [e0, e1, e2, ← eG]; exact h1
  · rw [e0, e1, e2, ← eG]; exact h2
theorem yh_in {post : Int32 → SY → Prop} {k : Nat} {x y z : Int32} (hw : rw_ N R C) (hx : x.toInt.natAbs ≤ 5000) (hy : y.toInt.natAbs ≤ 5000) (hz : z.toInt.natAbs ≤ 5000) (hk0 : 0 < k) (hk : k < 4) (hn : hn_ a b c d e f) (hL : ∀ x y z, sp_L (fun i => i < N) R x y z ↔ hl_ a b c d e f x y z)
    (h1 : ∀ C', rw_ N R C' → sp_L (fun i => i < N) (pd_ R k) (if 0 < k then x.toInt else 0) (if 1 < k then y.toInt else 0) (if 2 < k then z.toInt else 0) → post 1 (nI N, gf, gl, mE C')) (h0 : ∀ C', rw_ N R C' → ¬ sp_L (fun i => i < N) (pd_ R k) (if 0 < k then x.toInt else 0) (if 1 < k then y.toInt else 0) (if 2 < k then z.toInt else 0) → post 0 (nI N, gf, gl, mE C')) :
    wpY_hasIn post (nI N, gf, gl, mE C) x y z (nI k) := by
  have hw' := rw_p hw hx hy hz
  unfold wpY_hasIn
  refine yp_put (r := 4) (by omega) ?_
  unfold wpY_allRows
  dsimp only
  rw [yo_all N hw.1]
  refine yo_put hw hx hy hz hk0 hk hn hL (fun h => br_f (by decide) (h0 _ hw' (fun q => ?_))) (fun m hm h => ?_)
  · exact h 1 (by decide) (gr_e q (by omega) (by omega) (by omega))
  · refine zn_eq (a := m) (b := 1) hm (by omega) (fun q => h1 _ hw' ?_) (fun q => h0 _ hw' (fun s => q ?_))
    · subst q
      exact gr_e ((h.2 1).mpr (Int.dvd_refl _)) (by omega) (by omega) (by omega)
    · have := (h.2 1).mp (gr_e s (by omega) (by omega) (by omega))
      have := Int.eq_one_of_dvd_one (by have := h.1; omega) this
      omega
end
/-- which point, in which columns -/
theorem st_d {a b c d e f : Int} {n : Nat} {G : Int → Int → Int → Prop} (hG : gr_ G) {x y z p : Int} (hp : 0 ≤ p) (h : ∀ m : Int, G (m * x) (m * y) (m * z) ↔ p ∣ m) {post : Int32 → Prop} (h0 : p = 0 → post (-1000000)) (h1 : p ≠ 0 → post (zi_v p)) : (on_ G x y z → post (-1000000)) ∧ (∀ m : Nat, m < 2147483648 → oy_ G x y z m → post (nI m)) := by
  constructor
  · intro k
    apply h0
    apply Classical.byContradiction
    intro q
    exact k p q ((h p).mpr (Int.dvd_refl _))
  · intro m hm k
    have e : (m : Int) = p := by
      have a1 : (m : Int) ∣ p := (k.2 p).mp ((h p).mpr (Int.dvd_refl _))
      have a2 : p ∣ (m : Int) := (h m).mp ((k.2 m).mpr (Int.dvd_refl _))
      exact Int.dvd_antisymm (by omega) hp a1 a2
    have := h1 (by have := k.1; omega)
    rw [← e, zi_n] at this
    exact this
end
section
/-! steps, rank, has, spare -/
def pv_ (a d f : Int) (c : Nat) : Int := if c = 0 then a else if c = 1 then d else f
section
variable {Q : Nat → Prop} {w : Nat → Nat → Int} {a b c d e f : Int}
theorem pj_1 (hL : ∀ x y z, sp_L Q w x y z ↔ hl_ a b c d e f x y z) (x y z : Int) : sp_L Q (pd_ w 1) x y z ↔ hl_ a 0 0 0 0 0 x y z := by
  have := pj_hl hL (k := 1) x y z
  simp only [show (0 : Nat) < 1 from by decide, show ¬ (1 : Nat) < 1 from by decide, show ¬ (2 : Nat) < 1 from by decide, reduceIte] at this
  exact this
theorem pj_2 (hL : ∀ x y z, sp_L Q w x y z ↔ hl_ a b c d e f x y z) (x y z : Int) : sp_L Q (pd_ w 2) x y z ↔ hl_ a b 0 d 0 0 x y z := by
  have := pj_hl hL (k := 2) x y z
  simp only [show (0 : Nat) < 2 from by decide, show (1 : Nat) < 2 from by decide, show ¬ (2 : Nat) < 2 from by decide, reduceIte] at this
  exact this
theorem pj_3 (hL : ∀ x y z, sp_L Q w x y z ↔ hl_ a b c d e f x y z) (x y z : Int) : sp_L Q (pd_ w 3) x y z ↔ hl_ a b c d e f x y z := by
  have := pj_hl hL (k := 3) x y z
  simp only [show (0 : Nat) < 3 from by decide, show (1 : Nat) < 3 from by decide, show (2 : Nat) < 3 from by decide, reduceIte] at this
  exact this
theorem pe_0 (hL : ∀ x y z, sp_L Q w x y z ↔ hl_ a b c d e f x y z) (m : Int) : sp_L Q (pd_ w 1) (m * 1) (m * 0) (m * 0) ↔ a ∣ m := by
  rw [pj_1 hL]
  constructor
  · rintro ⟨i, j, k, e1, _, _⟩; exact ⟨i, by rw [Int.mul_comm a i]; omega⟩
  · rintro ⟨i, rfl⟩; exact ⟨i, 0, 0, by grind, by simp, by simp⟩
theorem pe_1 (hn : hn_ a b c d e f) (hL : ∀ x y z, sp_L Q w x y z ↔ hl_ a b c d e f x y z) (m : Int) : sp_L Q (pd_ w 2) (m * 0) (m * 1) (m * 0) ↔ d ∣ m := by
  rw [pj_2 hL]
  constructor
  · rintro ⟨i, j, k, e1, e2, _⟩
    have hb : i * b = 0 := by
      by_cases q : a = 0
      · rw [(hn.2.2.2.1 q).1]; simp
      · have : i = 0 := (Int.mul_eq_zero.mp (show i * a = 0 by omega)).resolve_right q
        rw [this]; simp
    exact ⟨j, by rw [Int.mul_comm d j]; omega⟩
  · rintro ⟨j, rfl⟩; exact ⟨0, j, 0, by simp, by grind, by simp⟩
theorem pe_2 (hn : hn_ a b c d e f) (hL : ∀ x y z, sp_L Q w x y z ↔ hl_ a b c d e f x y z) (m : Int) : sp_L Q (pd_ w 3) (m * 0) (m * 0) (m * 1) ↔ f ∣ m := by
  rw [pj_3 hL]
  constructor
  · rintro ⟨i, j, k, e1, e2, e3⟩
    have hb : i * b = 0 ∧ i * c = 0 := by
      by_cases q : a = 0
      · rw [(hn.2.2.2.1 q).1, (hn.2.2.2.1 q).2]; simp
      · have : i = 0 := (Int.mul_eq_zero.mp (show i * a = 0 by omega)).resolve_right q
        rw [this]; simp
    have he : j * e = 0 := by
      by_cases q : d = 0
      · rw [hn.2.2.2.2.1 q]; simp
      · have : j = 0 := (Int.mul_eq_zero.mp (show j * d = 0 by omega)).resolve_right q
        rw [this]; simp
    exact ⟨k, by rw [Int.mul_comm f k]; omega⟩
  · rintro ⟨k, rfl⟩; exact ⟨0, 0, k, by simp, by simp, by grind⟩
end
section
variable {gf gl : Int32} {N : Nat} {R C : Nat → Nat → Int} {a b c d e f : Int} {post : Int32 → SY → Prop}
theorem ys_42 {k : Nat} {x y z : Int32} {p : Int} (hw : rw_ N R C) (hx : x.toInt.natAbs ≤ 5000) (hy : y.toInt.natAbs ≤ 5000) (hz : z.toInt.natAbs ≤ 5000) (hk : k < 3) (hn : hn_ a b c d e f) (hL : ∀ x y z, sp_L (fun i => i < N) R x y z ↔ hl_ a b c d e f x y z) (hp : 0 ≤ p)
    (h : ∀ m : Int, sp_L (fun i => i < N) (pd_ R (k + 1)) (m * (if 0 < k + 1 then x.toInt else 0)) (m * (if 1 < k + 1 then y.toInt else 0)) (m * (if 2 < k + 1 then z.toInt else 0)) ↔ p ∣ m)
    (h0 : p = 0 → ∀ C', rw_ N R C' → post (-1000000) (nI N, gf, gl, mE C')) (h1 : p ≠ 0 → ∀ C', rw_ N R C' → post (zi_v p) (nI N, gf, gl, mE C')) : wY_step_42 post (nI k) z y x 4 (nI N) gf gl (mE C) := by
  have hw' := rw_p hw hx hy hz
  unfold wY_step_42
  refine yp_put (r := 4) (by omega) ?_
  unfold wpY_allRows
  dsimp only
  rw [yo_all N hw.1, nI_1]
  obtain ⟨k1, k2⟩ := st_d (a := 0) (b := 0) (c := 0) (d := 0) (e := 0) (f := 0) (n := 0) (sp_gr (fun i => i < N) (pd_ R (k + 1))) hp h (post := fun r => post r (nI N, gf, gl, mE (p3_ C 4 x.toInt y.toInt z.toInt))) (fun q => h0 q _ hw') (fun q => h1 q _ hw')
  exact yo_put hw hx hy hz (by omega) (by omega) hn hL k1 k2
theorem ys_step {k : Nat} (hw : rw_ N R C) (hk : k < 3) (hn : hn_ a b c d e f) (hL : ∀ x y z, sp_L (fun i => i < N) R x y z ↔ hl_ a b c d e f x y z)
    (h0 : pv_ a d f k = 0 → ∀ C', rw_ N R C' → post (-1000000) (nI N, gf, gl, mE C')) (h1 : pv_ a d f k ≠ 0 → ∀ C', rw_ N R C' → post (zi_v (pv_ a d f k)) (nI N, gf, gl, mE C')) : wpY_step post (nI N, gf, gl, mE C) (nI k) := by
  have e0 : (0 : Int32).toInt = 0 := by decide
  have e1 : (1 : Int32).toInt = 1 := by decide
  have : k = 0 ∨ k = 1 ∨ k = 2 := by omega
  rcases this with rfl | rfl | rfl
  · refine br_f (by decide) (br_t (by decide) (br_t (by decide) ?_))
    refine br_f (by decide) (br_f (by decide) ?_)
    refine ys_42 (p := a) hw (by decide) (by decide) (by decide) (by omega) hn hL hn.1 (fun m => ?_) h0 h1
    rw [e0, e1]
    exact pe_0 hL m
  · refine br_f (by decide) (br_t (by decide) (br_f (by decide) ?_))
    refine br_t (by decide) (br_f (by decide) ?_)
    refine ys_42 (p := d) hw (by decide) (by decide) (by decide) (by omega) hn hL hn.2.1 (fun m => ?_) h0 h1
    rw [e0, e1]
    exact pe_1 hn hL m
  · refine br_f (by decide) (br_t (by decide) (br_f (by decide) ?_))
    refine br_f (by decide) (br_t (by decide) ?_)
    refine ys_42 (p := f) hw (by decide) (by decide) (by decide) (by omega) hn hL hn.2.2.1 (fun m => ?_) h0 h1
    rw [e0, e1]
    exact pe_2 hn hL m
end
/-- what the arrays say of a column -/
theorem sa_so {t : Nat} {so : Nat → Int} {h : Nat → Nat → Int} {a b c d e f : Int} (hs : sa_ t so h a b c d e f) (ht : t ≤ 3) {k : Nat} (hk : k < 3) : (pv_ a d f k = 0 ∧ so k = -1) ∨ (0 < pv_ a d f k ∧ ∃ s : Nat, s < 3 ∧ so k = s ∧ h s 0 = (if k = 0 then a else 0) ∧ h s 1 = (if k = 0 then b else if k = 1 then d else 0) ∧ h s 2 = (if k = 0 then c else if k = 1 then e else f)) := by
  obtain ⟨t1, t2, g0, g1, g2⟩ := hs
  have bt : t1 ≤ 1 ∧ t1 ≤ t2 ∧ t2 ≤ t1 + 1 ∧ t2 ≤ t ∧ t ≤ t2 + 1 := by
    rcases g0 with ⟨_, k, _⟩ | ⟨_, k, _⟩ <;> rcases g1 with ⟨_, l, _⟩ | ⟨_, l, _⟩ <;> rcases g2 with ⟨_, l', _⟩ | ⟨_, l', _⟩ <;> omega
  have : k = 0 ∨ k = 1 ∨ k = 2 := by omega
  rcases this with rfl | rfl | rfl
  · rcases g0 with ⟨q1, _, q3⟩ | ⟨q1, q2, q3, q4, q5, q6⟩
    · exact Or.inl ⟨q1, q3⟩
    · exact Or.inr ⟨q1, 0, by omega, q3, q4, q5, q6⟩
  · rcases g1 with ⟨q1, _, q3⟩ | ⟨q1, q2, q3, q4, q5, q6⟩
    · exact Or.inl ⟨q1, q3⟩
    · exact Or.inr ⟨q1, t1, by omega, q3, q4, q5, q6⟩
  · rcases g2 with ⟨q1, _, q3⟩ | ⟨q1, q2, q3, q4, q5, q6⟩
    · exact Or.inl ⟨q1, q3⟩
    · exact Or.inr ⟨q1, t2, by omega, q3, q4, q5, q6⟩
theorem i_vc_step {k : Nat} {u : SX} {v : SY} (I : i_Rel k u v) (hk : k + 4 ≤ 2048) (v1 : Int32) : wpX_step (fun r u' => wpY_step (fun r' v' => r' = r ∧ i_Rel (k + 4) u' v') v v1) u v1 := by
  refine i_el (P := fun u v => wpX_step (fun r u' => wpY_step (fun r' v' => r' = r ∧ i_Rel (k + 4) u' v') v v1) u v1) ?_ I
  intro N R C fr fk fs fh fl fb aW aS aO aQ aD aE gf gl hw hl
  have same : i_Rel (k + 4) (nI N, fr, fk, fs, fh, fl, fb, mE R, aW, aS, aO, aQ, aD, aE) (nI N, gf, gl, mE C) := ⟨N, R, C, rfl, rfl, rfl, rfl, hw, hl⟩
  refine br_c (fun q1 => br_t q1 ⟨rfl, same⟩) (fun q1 => br_c (fun q2 => ?_) (fun q2 => br_f q1 (br_f q2 ⟨rfl, same⟩)))
  obtain ⟨c0, hc, rfl⟩ := nI_of q1
  have hc' : c0 < 3 := by
    have := (nI_leI (b := 2) hc (by omega)).mp q2; omega
  refine xb_b hw.1 (rw_sm hw) hl.1 (fun fk' fs' aW' aS' aO' a b c d e f hn hL hs => ?_)
  have rel : ∀ C', rw_ N R C' → i_Rel (k + 4) (nI N, 1, fk', fs', fh, fl, fb, mE R, aW', aS', aO', aQ, aD, aE) (nI N, gf, gl, mE C') := fun C' hw' => ⟨N, R, C', rfl, rfl, rfl, rfl, hw', Or.inr ⟨rfl, a, b, c, d, e, f, hn, hL, hs⟩, hl.2⟩
  obtain ⟨t, so, h, rfl, rfl, rfl, hsa, ht, hz⟩ := hs
  have ec : (nI c0).toNatClampNeg = c0 := nI_clamp (by omega)
  refine ⟨vp_in_nI hc' (by omega), ?_⟩
  rw [ec]
  rcases sa_so hsa ht hc' with ⟨q3, q4⟩ | ⟨q3, s, hs3, q4, q5, q6, q7⟩
  · refine nm_r (e' := -1) (by show zi_v (so c0) = -1; rw [q4]; decide) (br_f (by decide) ?_)
    exact ys_step hw hc' hn hL (fun _ C' hw' => ⟨rfl, rel C' hw'⟩) (fun z => absurd q3 z)
  · refine nm_r (e' := nI s) (by show zi_v (so c0) = nI s; rw [q4, zi_n]) (br_t (nI_pos' (by omega)) ⟨zn_in (by omega) (by omega), ?_⟩)
    refine ys_step hw hc' hn hL (fun z => absurd z (by omega)) (fun _ C' hw' => ⟨?_, rel C' hw'⟩)
    rw [mE_ix h hc' (by omega)]
    congr 1
    have : c0 = 0 ∨ c0 = 1 ∨ c0 = 2 := by omega
    rcases this with rfl | rfl | rfl
    · rw [q5]; rfl
    · rw [q6]; rfl
    · rw [q7]; rfl
/-- the rank is the number of stairs -/
theorem rk_t {t : Nat} {so : Nat → Int} {h : Nat → Nat → Int} {a b c d e f : Int} {g1 g2 g3 : Nat} (hn : hn_ a b c d e f) (hs : sa_ t so h a b c d e f) (hg : dv_ (hl_ a b c d e f) g1 g2 g3) : rk_ g1 g2 g3 = t := by
  obtain ⟨n1, n2, n3, na, nd, _, _⟩ := hn
  obtain ⟨h1, h2, h3⟩ := hg
  have z3 : g3 = 0 ↔ a * d * f = 0 := by
    rw [← Int.zero_dvd, ← hl_d3 (b := b) (c := c) (e := e), ← h3, Int.zero_dvd]; omega
  have z2 : g2 = 0 ↔ (a * d = 0 ∧ a * e = 0 ∧ b * e - c * d = 0 ∧ a * f = 0 ∧ b * f = 0 ∧ d * f = 0) := by
    have := (h2 0).trans hl_d2
    simp only [Int.zero_dvd] at this
    rw [← this]; omega
  have z1 : g1 = 0 ↔ (a = 0 ∧ b = 0 ∧ c = 0 ∧ d = 0 ∧ e = 0 ∧ f = 0) := by
    have := (h1 0).trans hl_d1
    simp only [Int.zero_dvd] at this
    rw [← this]; omega
  obtain ⟨t1, t2, k0, k1, k2⟩ := hs
  have ca : (a = 0 ∧ t1 = 0) ∨ (a ≠ 0 ∧ t1 = 1) := by
    rcases k0 with ⟨p, q, _⟩ | ⟨p, q, _⟩
    · exact Or.inl ⟨p, q⟩
    · exact Or.inr ⟨by omega, q⟩
  have cd : (d = 0 ∧ t2 = t1) ∨ (d ≠ 0 ∧ t2 = t1 + 1) := by
    rcases k1 with ⟨p, q, _⟩ | ⟨p, q, _⟩
    · exact Or.inl ⟨p, q⟩
    · exact Or.inr ⟨by omega, q⟩
  have cf : (f = 0 ∧ t = t2) ∨ (f ≠ 0 ∧ t = t2 + 1) := by
    rcases k2 with ⟨p, q, _⟩ | ⟨p, q, _⟩
    · exact Or.inl ⟨p, q⟩
    · exact Or.inr ⟨by omega, q⟩
  have m0 : ∀ x y : Int, x ≠ 0 → y ≠ 0 → x * y ≠ 0 := fun x y hx hy q => (Int.mul_eq_zero.mp q).elim hx hy
  rcases ca with ⟨ca, ta⟩ | ⟨ca, ta⟩
  · obtain ⟨cb, cc⟩ := na ca
    have w3 : g3 = 0 := z3.mpr (by rw [ca]; simp)
    rcases cd with ⟨cd, td⟩ | ⟨cd, td⟩
    · have ce := nd cd
      have w2 : g2 = 0 := z2.mpr (by rw [ca, cb, cc, cd, ce]; simp)
      rcases cf with ⟨cf, tf⟩ | ⟨cf, tf⟩
      · rw [rk_0 (by omega) (by omega) (by rw [z1.mpr ⟨ca, cb, cc, cd, ce, cf⟩]; rfl)]; omega
      · rw [rk_1 (by omega) (by omega) (by intro q; exact cf (z1.mp (by omega)).2.2.2.2.2)]; omega
    · rcases cf with ⟨cf, tf⟩ | ⟨cf, tf⟩
      · have w2 : g2 = 0 := z2.mpr (by rw [ca, cb, cc, cf]; simp)
        rw [rk_1 (by omega) (by omega) (by intro q; exact cd (z1.mp (by omega)).2.2.2.1)]; omega
      · have w2 : g2 ≠ 0 := fun q => m0 d f cd cf (z2.mp q).2.2.2.2.2
        rw [rk_2 (by omega) (by omega)]; omega
  · rcases cd with ⟨cd, td⟩ | ⟨cd, td⟩
    · have ce := nd cd
      have w3 : g3 = 0 := z3.mpr (by rw [cd]; simp)
      rcases cf with ⟨cf, tf⟩ | ⟨cf, tf⟩
      · have w2 : g2 = 0 := z2.mpr (by rw [cd, ce, cf]; simp)
        rw [rk_1 (by omega) (by omega) (by intro q; exact ca (z1.mp (by omega)).1)]; omega
      · have w2 : g2 ≠ 0 := fun q => m0 a f ca cf (z2.mp q).2.2.2.1
        rw [rk_2 (by omega) (by omega)]; omega
    · rcases cf with ⟨cf, tf⟩ | ⟨cf, tf⟩
      · have w3 : g3 = 0 := z3.mpr (by rw [cf]; simp)
        have w2 : g2 ≠ 0 := fun q => m0 a d ca cd (z2.mp q).1
        rw [rk_2 (by omega) (by omega)]; omega
      · have w3 : g3 ≠ 0 := fun q => m0 (a * d) f (m0 a d ca cd) cf (z3.mp q)
        rw [rk_3 (by omega)]; omega
theorem dv_c {G G' : Int → Int → Int → Prop} (h : ∀ x y z, G x y z ↔ G' x y z) {g1 g2 g3 : Nat} (hg : dv_ G g1 g2 g3) : dv_ G' g1 g2 g3 := by
  have : G = G' := by funext x y z; exact propext (h x y z)
  rw [← this]; exact hg
theorem i_vc_rank {k : Nat} {u : SX} {v : SY} (I : i_Rel k u v) (hk : k + 4 ≤ 2048) : wpX_rank (fun r u' => wpY_rank (fun r' => r' = r ∧ i_Rel (k + 4) u' v) v) u := by
  refine i_el (P := fun u v => wpX_rank (fun r u' => wpY_rank (fun r' => r' = r ∧ i_Rel (k + 4) u' v) v) u) ?_ I
  intro N R C fr fk fs fh fl fb aW aS aO aQ aD aE gf gl hw hl
  unfold wpX_rank
  refine xb_b hw.1 (rw_sm hw) hl.1 (fun fk' fs' aW' aS' aO' a b c d e f hn hL hs => ?_)
  have rel : i_Rel (k + 4) (nI N, 1, fk', fs', fh, fl, fb, mE R, aW', aS', aO', aQ, aD, aE) (nI N, gf, gl, mE C) := ⟨N, R, C, rfl, rfl, rfl, rfl, hw, Or.inr ⟨rfl, a, b, c, d, e, f, hn, hL, hs⟩, hl.2⟩
  obtain ⟨t, so, h, rfl, rfl, rfl, hsa, ht, hz⟩ := hs
  show wpY_rank _ _
  unfold wpY_rank wpY_allRows
  dsimp only
  rw [yo_all N hw.1]
  obtain ⟨g1, g2, g3, hg⟩ := dv_ex (2 ^ N - 1) (pd_ C 3)
  have hg' := dv_c (fun x y z => (yL_k hw x y z).trans (pj_3 hL x y z)) hg
  refine yr_rank (c := 3) (rw_yb hw) (by have := yq_16 N hw.1; omega) (by omega) (by omega) hg ⟨?_, rel⟩
  rw [rk_t hn hsa hg']
end
section
/-! has, spare -/
section
variable {fc fr fk fs fh fl fb : Int32} {aR aW aS aO aQ aD aE : Nat → Int32} {post : Int32 → Prop}
theorem xn_far {v : Int32} {L : Nat} (hL : L < 2147483648) (h0 : (-(L : Int) ≤ v.toInt ∧ v.toInt ≤ L) → post 0) (h1 : ¬ (-(L : Int) ≤ v.toInt ∧ v.toInt ≤ L) → post 1) : wpX_far post (fc, fr, fk, fs, fh, fl, fb, aR, aW, aS, aO, aQ, aD, aE) v (nI L) := by
  have e2 : (nI L).toInt = L := nI_toInt hL
  have e1 : (-nI L).toInt = -(L : Int) := by rw [← zi_n, zi_neg]; exact zi_t ⟨by omega, by omega⟩
  refine ⟨fun q => h1 (fun k => ?_), fun q => ⟨fun q' => h0 ⟨?_, ?_⟩, fun q' => h1 (fun k => ?_)⟩⟩
  · rw [Int32.lt_iff_toInt_lt, e1] at q; omega
  · rw [Int32.lt_iff_toInt_lt, e1] at q; omega
  · rw [Int32.le_iff_toInt_le, e2] at q'; exact q'
  · rw [Int32.le_iff_toInt_le, e2] at q'; omega
theorem xg_i {a b c d e f : Int} {x y z : Int32} {A : Nat} (hA : A ≤ 291600) (hx : x.toInt.natAbs ≤ A) (hy : y.toInt.natAbs ≤ A) (hz : z.toInt.natAbs ≤ A) (hn : hn_ a b c d e f) (hB : hB_ a b c d e f) (hs : xs_ fs aS aO a b c d e f) (h1 : hl_ a b c d e f x.toInt y.toInt z.toInt → post 1) (h0 : ¬ hl_ a b c d e f x.toInt y.toInt z.toInt → post 0) : wpX_inGrid post (fc, fr, fk, fs, fh, fl, fb, aR, aW, aS, aO, aQ, aD, aE) x y z := by
  have := xg_in (fc := fc) (fr := fr) (fk := fk) (fh := fh) (fl := fl) (fb := fb) (aR := aR) (aW := aW) (aQ := aQ) (aD := aD) (aE := aE) hA hx hy hz hn hB hs h1 h0
  rw [zi_of, zi_of, zi_of] at this
  exact this
end
theorem i_vc_has {k : Nat} {u : SX} {v : SY} (I : i_Rel k u v) (hk : k + 4 ≤ 2048) (v1 : Int32) (v2 : Int32) (v3 : Int32) : wpX_has (fun r u' => wpY_has (fun r' v' => r' = r ∧ i_Rel (k + 4) u' v') v v1 v2 v3) u v1 v2 v3 := by
  refine i_el (P := fun u v => wpX_has (fun r u' => wpY_has (fun r' v' => r' = r ∧ i_Rel (k + 4) u' v') v v1 v2 v3) u v1 v2 v3) ?_ I
  intro N R C fr fk fs fh fl fb aW aS aO aQ aD aE gf gl hw hl
  have bad : ¬ ((-((5000 : Nat) : Int) ≤ v1.toInt ∧ v1.toInt ≤ (5000 : Nat)) ∧ (-((5000 : Nat) : Int) ≤ v2.toInt ∧ v2.toInt ≤ (5000 : Nat)) ∧ (-((5000 : Nat) : Int) ≤ v3.toInt ∧ v3.toInt ≤ (5000 : Nat))) → wpY_has (fun r' v' => r' = 0 ∧ i_Rel (k + 4) (nI N, fr, fk, fs, fh, fl, fb, mE R, aW, aS, aO, aQ, aD, aE) v') (nI N, gf, gl, mE C) v1 v2 v3 := by
    intro h
    unfold wpY_has
    refine yn_are (L := 5000) (by omega) (fun q => absurd q h) (fun _ => br_t rfl ⟨rfl, N, R, C, rfl, rfl, rfl, rfl, hw, hl⟩)
  unfold wpX_has
  refine xn_far (L := 5000) (by omega) (fun a1 => br_t rfl ?_) (fun a1 => br_f (by decide) (bad fun q => a1 q.1))
  refine xn_far (L := 5000) (by omega) (fun a2 => br_t rfl ?_) (fun a2 => br_f (by decide) (bad fun q => a2 q.2.1))
  refine xn_far (L := 5000) (by omega) (fun a3 => br_t rfl ?_) (fun a3 => br_f (by decide) (bad fun q => a3 q.2.2))
  refine xb_b hw.1 (rw_sm hw) hl.1 (fun fk' fs' aW' aS' aO' a b c d e f hn hL hs => ?_)
  have rel : ∀ C', rw_ N R C' → i_Rel (k + 4) (nI N, 1, fk', fs', fh, fl, fb, mE R, aW', aS', aO', aQ, aD, aE) (nI N, gf, gl, mE C') := fun C' hw' => ⟨N, R, C', rfl, rfl, rfl, rfl, hw', Or.inr ⟨rfl, a, b, c, d, e, f, hn, hL, hs⟩, hl.2⟩
  have e3 : ∀ x y z : Int, sp_L (fun i => i < N) (pd_ R 3) (if 0 < 3 then x else 0) (if 1 < 3 then y else 0) (if 2 < 3 then z else 0) ↔ hl_ a b c d e f x y z := fun x y z => pj_3 hL x y z
  refine xg_i (A := 5000) (by omega) (by omega) (by omega) (by omega) hn (hB_of hn (rw_sm hw) hL) hs (fun q => ⟨zi_bool (Or.inr rfl), ?_⟩) (fun q => ⟨zi_bool (Or.inl rfl), ?_⟩)
  · unfold wpY_has
    refine yn_are (L := 5000) (by omega) (fun _ => br_f (by decide) ?_) (fun q => absurd ⟨a1, a2, a3⟩ q)
    refine yh_in (k := 3) hw (by omega) (by omega) (by omega) (by omega) (by omega) hn hL (fun C' hw' _ => br_f (by decide) ⟨rfl, rel C' hw'⟩) (fun C' hw' q' => absurd ((e3 _ _ _).mpr q) q')
  · unfold wpY_has
    refine yn_are (L := 5000) (by omega) (fun _ => br_f (by decide) ?_) (fun q => absurd ⟨a1, a2, a3⟩ q)
    refine yh_in (k := 3) hw (by omega) (by omega) (by omega) (by omega) (by omega) hn hL (fun C' hw' q' => absurd ((e3 _ _ _).mp q') q) (fun C' hw' _ => br_t rfl ⟨rfl, rel C' hw'⟩)
theorem yo_sp : ∀ N, N < 5 → ∀ r, r < N → nI (2 ^ N - 1) &&& (((1 : Int32) <<< (nI r &&& 31)) ^^^ (-1)) = nI (2 ^ N - 1 - 2 ^ r) := by decide +kernel
theorem yo_sb : ∀ N, N < 5 → ∀ r, r < N → 2 ^ N - 1 - 2 ^ r < 16 ∧ ∀ i, i < 5 → ((2 ^ N - 1 - 2 ^ r) / 2 ^ i % 2 = 1 ↔ i < N ∧ ¬ i = r) := by decide +kernel
theorem yq_sp {N r : Nat} (hN : N < 5) (hr : r < N) (i : Nat) : qs_ (2 ^ N - 1 - 2 ^ r) i ↔ i < N ∧ ¬ i = r := by
  unfold qs_ bs_
  constructor
  · rintro ⟨h1, h2⟩; exact ((yo_sb N hN r hr).2 i h1).mp h2
  · intro h; exact ⟨by omega, ((yo_sb N hN r hr).2 i (by omega)).mpr h⟩
theorem i_vc_spare {k : Nat} {u : SX} {v : SY} (I : i_Rel k u v) (hk : k + 4 ≤ 2048) (v1 : Int32) : wpX_spare (fun r u' => wpY_spare (fun r' v' => r' = r ∧ i_Rel (k + 4) u' v') v v1) u v1 := by
  refine i_el (P := fun u v => wpX_spare (fun r u' => wpY_spare (fun r' v' => r' = r ∧ i_Rel (k + 4) u' v') v v1) u v1) ?_ I
  intro N R C fr fk fs fh fl fb aW aS aO aQ aD aE gf gl hw hl
  have same : i_Rel (k + 4) (nI N, fr, fk, fs, fh, fl, fb, mE R, aW, aS, aO, aQ, aD, aE) (nI N, gf, gl, mE C) := ⟨N, R, C, rfl, rfl, rfl, rfl, hw, hl⟩
  have hw' := hw
  obtain ⟨hN, hC, hR, hP⟩ := hw'
  refine br_c (fun q1 => br_t q1 ⟨rfl, same⟩) (fun q1 => br_c (fun q2 => ?_) (fun q2 => br_f q1 (br_f q2 ⟨rfl, same⟩)))
  obtain ⟨r, hr, rfl⟩ := nI_of q1
  have hr' : r < N := (nI_ltI hr (by omega)).mp q2
  have sm : sm_ (fun i => i < N ∧ ¬ i = r) R := fun i j hi hj => hR i j (by have := hi.1; omega) hj
  refine xb_build (sk := fun i => i = r) hN (fun i j hi hj => hR i j (by omega) hj) (fun i hi => nI_eq (by omega) (by omega)) (fun fs' aW' aS' aO' a b c d e f hn hL hs => ?_)
  have rel : ∀ C', rw_ N R C' → i_Rel (k + 4) (nI N, 0, nI r, fs', fh, fl, fb, mE R, aW', aS', aO', aQ, aD, aE) (nI N, gf, gl, mE C') := fun C' hw' => ⟨N, R, C', rfl, rfl, rfl, rfl, hw', Or.inl rfl, hl.2⟩
  refine ⟨zn_in0 (by omega) (by omega), zn_in (r := r) (c := 1) (by omega) (by omega), zn_in (r := r) (c := 2) (by omega) (by omega), ?_⟩
  rw [mE_ix0 R (by omega), mE_ix1 R (by omega), mE_ix2 R (by omega)]
  have h0 := hR r 0 (by omega) (by omega)
  have h1 := hR r 1 (by omega) (by omega)
  have h2 := hR r 2 (by omega) (by omega)
  have yy : ∀ post : Int32 → SY → Prop, (hl_ a b c d e f (R r 0) (R r 1) (R r 2) → ∀ C', rw_ N R C' → post 1 (nI N, gf, gl, mE C')) → (¬ hl_ a b c d e f (R r 0) (R r 1) (R r 2) → ∀ C', rw_ N R C' → post 0 (nI N, gf, gl, mE C')) → wpY_spare post (nI N, gf, gl, mE C) (nI r) := by
    intro post k1 k0
    refine br_f q1 (br_t q2 ⟨zn_in0 (by omega) (by omega), zn_in (r := r) (c := 1) (by omega) (by omega), zn_in (r := r) (c := 2) (by omega) (by omega), ?_⟩)
    rw [mE_ix0 C (by omega), mE_ix1 C (by omega), mE_ix2 C (by omega), hC r 0 (by omega) (by omega), hC r 1 (by omega) (by omega), hC r 2 (by omega) (by omega)]
    refine yp_put (r := 4) (by omega) ?_
    rw [zi_t (zi_Rabs (by omega)), zi_t (zi_Rabs (by omega)), zi_t (zi_Rabs (by omega))]
    have hw4 := rw_p hw (x := R r 0) (y := R r 1) (z := R r 2) (by omega) (by omega) (by omega)
    unfold wpY_allRows
    dsimp only
    rw [yo_all N hN, yo_sp N hN r hr']
    refine nm_e ?_
    have hS := (yo_sb N hN r hr').1
    have hL' : ∀ x y z, sp_L (qs_ (2 ^ N - 1 - 2 ^ r)) (pd_ (p3_ C 4 (R r 0) (R r 1) (R r 2)) 3) x y z ↔ hl_ a b c d e f x y z := by
      intro x y z
      rw [← hL]
      refine sp_c (yq_sp hN hr') (fun i hi j hj => ?_) x y z
      have hi := (yq_sp hN hr' i).mp hi
      unfold pd_
      rw [if_pos hj]
      exact hw4.2.1 i j (by omega) hj
    obtain ⟨e0, e1, e2⟩ := p3_pd C (R r 0) (R r 1) (R r 2) 3
    simp only [show (0 : Nat) < 3 from by decide, show (1 : Nat) < 3 from by decide, show (2 : Nat) < 3 from by decide, reduceIte] at e0 e1 e2
    refine yo_order (k := 3) (rw_yb hw4) hS (by omega) (by omega) hn.2.2.2.1 hn.2.2.2.2.1 hL' ?_ ?_
    · rw [e0, e1, e2]
      intro h
      exact br_f (by decide) (k0 (fun q => h 1 (by decide) (gr_e q (by omega) (by omega) (by omega))) _ hw4)
    · rw [e0, e1, e2]
      intro m hm h
      refine zn_eq (a := m) (b := 1) hm (by omega) (fun q => k1 ?_ _ hw4) (fun q => k0 (fun s => q ?_) _ hw4)
      · subst q
        exact gr_e ((h.2 1).mpr (Int.dvd_refl _)) (by omega) (by omega) (by omega)
      · have := (h.2 1).mp (gr_e s (by omega) (by omega) (by omega))
        have := Int.eq_one_of_dvd_one (by have := h.1; omega) this
        omega
  refine xg_in (A := 9) (by omega) h0 h1 h2 hn (hB_of hn sm hL) hs (fun q => ⟨zi_bool (Or.inr rfl), ?_⟩) (fun q => ⟨zi_bool (Or.inl rfl), ?_⟩)
  · exact yy _ (fun _ C' hw' => ⟨rfl, rel C' hw'⟩) (fun q' => absurd q q')
  · exact yy _ (fun q' => absurd q' q) (fun _ C' hw' => ⟨rfl, rel C' hw'⟩)
end
section
/-! counts -/
noncomputable def cb_ (p : Prop) : Nat := @ite Nat p (Classical.propDecidable p) 1 0
theorem cb_t {p : Prop} (h : p) : cb_ p = 1 := by unfold cb_; rw [if_pos h]
theorem cb_f {p : Prop} (h : ¬ p) : cb_ p = 0 := by unfold cb_; rw [if_neg h]
theorem cb_c {p q : Prop} (h : p ↔ q) : cb_ p = cb_ q := by rw [propext h]
theorem cb_le (p : Prop) : cb_ p ≤ 1 := by
  by_cases h : p
  · rw [cb_t h]; exact Nat.le_refl _
  · rw [cb_f h]; omega
def cz_ : Nat → (Nat → Nat) → Nat
  | 0, _ => 0
  | n + 1, f => cz_ n f + f n
theorem cz_c {f g : Nat → Nat} : ∀ {n : Nat}, (∀ i, i < n → f i = g i) → cz_ n f = cz_ n g := by
  intro n
  induction n with
  | zero => intro _; rfl
  | succ n ih => intro h; rw [cz_, cz_, ih (fun i hi => h i (by omega)), h n (by omega)]
theorem cz_add (f : Nat → Nat) (a : Nat) : ∀ b, cz_ (a + b) f = cz_ a f + cz_ b (fun j => f (a + j)) := by
  intro b
  induction b with
  | zero => rfl
  | succ b ih => rw [← Nat.add_assoc, cz_, ih, cz_, Nat.add_assoc]
theorem cz_mul (G : Nat → Nat → Nat) {n : Nat} (hn : 0 < n) : ∀ m, cz_ (m * n) (fun k => G (k / n) (k % n)) = cz_ m (fun i => cz_ n (fun j => G i j)) := by
  intro m
  induction m with
  | zero => rw [Nat.zero_mul]; rfl
  | succ m ih =>
    rw [Nat.succ_mul, cz_add, ih, cz_]
    congr 1
    refine cz_c (fun j hj => ?_)
    have e1 : (m * n + j) / n = m := by
      rw [Nat.mul_comm, Nat.mul_add_div hn, Nat.div_eq_of_lt hj, Nat.add_zero]
    have e2 : (m * n + j) % n = j := by
      rw [Nat.mul_comm, Nat.mul_add_mod, Nat.mod_eq_of_lt hj]
    rw [e1, e2]
theorem cz_0 : ∀ n, cz_ n (fun _ => 0) = 0 := by
  intro n
  induction n with
  | zero => rfl
  | succ n ih => rw [cz_, ih]
theorem cz_plus (f g : Nat → Nat) : ∀ n, cz_ n (fun i => f i + g i) = cz_ n f + cz_ n g := by
  intro n
  induction n with
  | zero => rfl
  | succ n ih => rw [cz_, cz_, cz_, ih]; omega
theorem cz_comm (G : Nat → Nat → Nat) (n : Nat) : ∀ m, cz_ m (fun i => cz_ n (fun j => G i j)) = cz_ n (fun j => cz_ m (fun i => G i j)) := by
  intro m
  induction m with
  | zero => rw [cz_]; exact (cz_0 n).symm
  | succ m ih =>
    rw [cz_, ih, ← cz_plus]
    rfl
theorem cz_rev (F : Nat → Nat → Nat → Nat) {n : Nat} (hn : 0 < n) : cz_ (n * n * n) (fun k => F (k / (n * n)) (k / n % n) (k % n)) = cz_ (n * n * n) (fun k => F (k % n) (k / n % n) (k / n / n)) := by
  have a1 : cz_ (n * n * n) (fun k => F (k / (n * n)) (k / n % n) (k % n)) = cz_ n (fun x => cz_ n (fun y => cz_ n (fun z => F x y z))) := by
    have : (fun k => F (k / (n * n)) (k / n % n) (k % n)) = (fun k => (fun q z => F (q / n) (q % n) z) (k / n) (k % n)) := by
      funext k; dsimp only; rw [Nat.div_div_eq_div_mul]
    rw [this, cz_mul (fun q z => F (q / n) (q % n) z) hn]
    exact cz_mul (fun x y => cz_ n (fun z => F x y z)) hn n
  have a2 : cz_ (n * n * n) (fun k => F (k % n) (k / n % n) (k / n / n)) = cz_ n (fun u => cz_ n (fun y => cz_ n (fun z => F z y u))) := by
    have : (fun k => F (k % n) (k / n % n) (k / n / n)) = (fun k => (fun q z => F z (q % n) (q / n)) (k / n) (k % n)) := rfl
    rw [this, cz_mul (fun q z => F z (q % n) (q / n)) hn]
    exact cz_mul (fun u y => cz_ n (fun z => F z y u)) hn n
  rw [a1, a2]
  have b1 : (fun u => cz_ n (fun y => cz_ n (fun z => F z y u))) = (fun u => cz_ n (fun z => cz_ n (fun y => F z y u))) := by
    funext u; exact cz_comm (fun y z => F z y u) n n
  rw [b1, cz_comm (fun u z => cz_ n (fun y => F z y u)) n n]
  refine cz_c (fun x _ => ?_)
  exact cz_comm (fun y u => F x y u) n n
section
variable {fc fr fk fs fh fl fb : Int32} {aR aW aS aO aQ aD aE : Nat → Int32} {post : Int32 → SX → Prop} {a b c d e f : Int}
theorem xk_20 {n : Nat} (hn8 : n ≤ 8) (hn : hn_ a b c d e f) (hB : hB_ a b c d e f) (hs : xs_ fs aS aO a b c d e f) (hp : post (nI (cz_ (n * n * n) (fun k => cb_ (hl_ a b c d e f ((k / (n * n) : Nat) : Int) ((k / n % n : Nat) : Int) ((k % n : Nat) : Int))))) (fc, fr, fk, fs, fh, fl, fb, aR, aW, aS, aO, aQ, aD, aE)) : ∀ m k : Nat, k + m = n * n * n → cz_ k (fun k => cb_ (hl_ a b c d e f ((k / (n * n) : Nat) : Int) ((k / n % n : Nat) : Int) ((k % n : Nat) : Int))) ≤ k → wX_count_20 post (nI n) fc fr fk fs fh fl fb aR aW aS aO aQ aD aE (m + 1) (nI (cz_ k (fun k => cb_ (hl_ a b c d e f ((k / (n * n) : Nat) : Int) ((k / n % n : Nat) : Int) ((k % n : Nat) : Int))))) (nI k) := by
  have hnn : n * n ≤ 64 := Nat.mul_le_mul hn8 hn8
  have hnnn : n * n * n ≤ 512 := Nat.mul_le_mul hnn hn8
  have e3 : (nI n * nI n) * nI n = nI (n * n * n) := by rw [zn_mul, zn_mul]
  intro m
  induction m with
  | zero =>
    intro k hk _
    have : k = n * n * n := by omega
    subst this
    exact br_t (by rw [e3]; exact nI_le (Nat.le_refl _) (by omega)) hp
  | succ m ih =>
    intro k hk hle
    have hn0 : 0 < n := by
      rcases Nat.eq_zero_or_pos n with h | h
      · subst h; omega
      · exact h
    have hnn0 : 0 < n * n := Nat.mul_pos hn0 hn0
    refine br_f (by rw [e3]; exact nI_ge (by omega) (by omega)) ?_
    refine nm_r (zn_mul n n) ⟨nI_ne0 hnn0 (by omega), nI_ne0 hn0 (by omega), nI_ne0 hn0 (by omega), nI_ne0 hn0 (by omega), ?_⟩
    have hkn : k / n < 2147483648 := Nat.lt_of_le_of_lt (Nat.div_le_self _ _) (by omega)
    rw [zn_rem (a := k) (b := n) (by omega) (by omega), zn_div (a := k) (b := n * n) (by omega) (by omega), zn_div (a := k) (b := n) (by omega) (by omega), zn_rem hkn (by omega)]
    have d1 : k / (n * n) < 8 := by
      rw [Nat.div_lt_iff_lt_mul hnn0]
      have : n * n * n ≤ n * n * 8 := Nat.mul_le_mul_left _ hn8
      omega
    have d2 : k / n % n < n := Nat.mod_lt _ hn0
    have d3 : k % n < n := Nat.mod_lt _ hn0
    have ex : ∀ q : Nat, q < 8 → (nI q).toInt = (q : Int) := fun q hq => nI_toInt (by omega)
    refine xg_i (A := 8) (by omega) (by rw [ex _ d1, Int.natAbs_natCast]; omega) (by rw [ex _ (by omega), Int.natAbs_natCast]; omega) (by rw [ex _ (by omega), Int.natAbs_natCast]; omega) hn hB hs ?_ ?_
    · rw [ex _ d1, ex _ (by omega), ex _ (by omega)]
      intro q
      have e4 : cz_ (k + 1) (fun k => cb_ (hl_ a b c d e f ((k / (n * n) : Nat) : Int) ((k / n % n : Nat) : Int) ((k % n : Nat) : Int))) = cz_ k (fun k => cb_ (hl_ a b c d e f ((k / (n * n) : Nat) : Int) ((k / n % n : Nat) : Int) ((k % n : Nat) : Int))) + 1 := by
        rw [cz_, cb_t q]
      refine br_f (by decide) (nm_r (e' := nI (cz_ (k + 1) (fun k => cb_ (hl_ a b c d e f ((k / (n * n) : Nat) : Int) ((k / n % n : Nat) : Int) ((k % n : Nat) : Int))))) (by rw [e4, nI_1]) (nm_r (nI_1 k) (ih (k + 1) (by omega) (by rw [e4]; omega))))
    · rw [ex _ d1, ex _ (by omega), ex _ (by omega)]
      intro q
      have e4 : cz_ (k + 1) (fun k => cb_ (hl_ a b c d e f ((k / (n * n) : Nat) : Int) ((k / n % n : Nat) : Int) ((k % n : Nat) : Int))) = cz_ k (fun k => cb_ (hl_ a b c d e f ((k / (n * n) : Nat) : Int) ((k / n % n : Nat) : Int) ((k % n : Nat) : Int))) := by
        rw [cz_, cb_f q, Nat.add_zero]
      have h2 := ih (k + 1) (by omega) (by rw [e4]; omega)
      rw [e4] at h2
      exact br_t rfl (nm_r (nI_1 k) h2)
end
section
variable {gf gl : Int32} {N : Nat} {R : Nat → Nat → Int} {post : Int32 → SY → Prop} {a b c d e f : Int}
theorem yk_16 {n : Nat} (hn8 : n ≤ 8) (hn : hn_ a b c d e f) (hL : ∀ x y z, sp_L (fun i => i < N) R x y z ↔ hl_ a b c d e f x y z) (hp : ∀ C', rw_ N R C' → post (nI (cz_ (n * n * n) (fun k => cb_ (hl_ a b c d e f ((k % n : Nat) : Int) ((k / n % n : Nat) : Int) ((k / n / n : Nat) : Int))))) (nI N, gf, gl, mE C')) : ∀ m k : Nat, ∀ C, rw_ N R C → k + m = n * n * n → wY_count_16 post (nI n) (m + 1) (nI (cz_ k (fun k => cb_ (hl_ a b c d e f ((k % n : Nat) : Int) ((k / n % n : Nat) : Int) ((k / n / n : Nat) : Int))))) (nI k) (nI N) gf gl (mE C) := by
  have hnn : n * n ≤ 64 := Nat.mul_le_mul hn8 hn8
  have hnnn : n * n * n ≤ 512 := Nat.mul_le_mul hnn hn8
  have e3 : (nI n * nI n) * nI n = nI (n * n * n) := by rw [zn_mul, zn_mul]
  have p3 : ∀ x y z : Int, sp_L (fun i => i < N) (pd_ R 3) (if 0 < 3 then x else 0) (if 1 < 3 then y else 0) (if 2 < 3 then z else 0) ↔ hl_ a b c d e f x y z := fun x y z => pj_3 hL x y z
  intro m
  induction m with
  | zero =>
    intro k C hw hk
    have : k = n * n * n := by omega
    subst this
    exact br_t (by rw [e3]; exact nI_le (Nat.le_refl _) (by omega)) (hp C hw)
  | succ m ih =>
    intro k C hw hk
    have hn0 : 0 < n := by
      rcases Nat.eq_zero_or_pos n with h | h
      · subst h; omega
      · exact h
    have hnn0 : 0 < n * n := Nat.mul_pos hn0 hn0
    refine br_f (by rw [e3]; exact nI_ge (by omega) (by omega)) ⟨nI_ne0 hn0 (by omega), nI_ne0 hn0 (by omega), nI_ne0 hn0 (by omega), nI_ne0 hn0 (by omega), nI_ne0 hn0 (by omega), ?_⟩
    have hkn : k / n < 2147483648 := Nat.lt_of_le_of_lt (Nat.div_le_self _ _) (by omega)
    rw [zn_rem (by omega) (by omega), zn_div (a := k) (by omega) (by omega), zn_rem hkn (by omega), zn_div hkn (by omega)]
    have d1 : k / n / n < 8 := by
      rw [Nat.div_div_eq_div_mul, Nat.div_lt_iff_lt_mul hnn0]
      have : n * n * n ≤ n * n * 8 := Nat.mul_le_mul_left _ hn8
      omega
    have d2 : k / n % n < n := Nat.mod_lt _ hn0
    have d3 : k % n < n := Nat.mod_lt _ hn0
    have ex : ∀ q : Nat, q < 8 → (nI q).toInt = (q : Int) := fun q hq => nI_toInt (by omega)
    refine yh_in (k := 3) hw (by rw [ex _ (by omega), Int.natAbs_natCast]; omega) (by rw [ex _ (by omega), Int.natAbs_natCast]; omega) (by rw [ex _ d1, Int.natAbs_natCast]; omega) (by omega) (by omega) hn hL (fun C' hw' => ?_) (fun C' hw' => ?_)
    · rw [ex _ d1, ex _ (by omega), ex _ (by omega), p3]
      intro q
      have e4 : cz_ (k + 1) (fun k => cb_ (hl_ a b c d e f ((k % n : Nat) : Int) ((k / n % n : Nat) : Int) ((k / n / n : Nat) : Int))) = cz_ k (fun k => cb_ (hl_ a b c d e f ((k % n : Nat) : Int) ((k / n % n : Nat) : Int) ((k / n / n : Nat) : Int))) + 1 := by
        rw [cz_, cb_t q]
      exact br_f (by decide) (nm_r (e' := nI (cz_ (k + 1) (fun k => cb_ (hl_ a b c d e f ((k % n : Nat) : Int) ((k / n % n : Nat) : Int) ((k / n / n : Nat) : Int))))) (by rw [e4, nI_1]) (nm_r (nI_1 k) (ih (k + 1) C' hw' (by omega))))
    · rw [ex _ d1, ex _ (by omega), ex _ (by omega), p3]
      intro q
      have e4 : cz_ (k + 1) (fun k => cb_ (hl_ a b c d e f ((k % n : Nat) : Int) ((k / n % n : Nat) : Int) ((k / n / n : Nat) : Int))) = cz_ k (fun k => cb_ (hl_ a b c d e f ((k % n : Nat) : Int) ((k / n % n : Nat) : Int) ((k / n / n : Nat) : Int))) := by
        rw [cz_, cb_f q, Nat.add_zero]
      have h2 := ih (k + 1) C' hw' (by omega)
      rw [e4] at h2
      exact br_t rfl (nm_r (nI_1 k) h2)
end
theorem i_vc_count {k : Nat} {u : SX} {v : SY} (I : i_Rel k u v) (hk : k + 4 ≤ 2048) (v1 : Int32) : wpX_count (fun r u' => wpY_count (fun r' v' => r' = r ∧ i_Rel (k + 4) u' v') v v1) u v1 := by
  refine i_el (P := fun u v => wpX_count (fun r u' => wpY_count (fun r' v' => r' = r ∧ i_Rel (k + 4) u' v') v v1) u v1) ?_ I
  intro N R C fr fk fs fh fl fb aW aS aO aQ aD aE gf gl hw hl
  have same : i_Rel (k + 4) (nI N, fr, fk, fs, fh, fl, fb, mE R, aW, aS, aO, aQ, aD, aE) (nI N, gf, gl, mE C) := ⟨N, R, C, rfl, rfl, rfl, rfl, hw, hl⟩
  refine br_c (fun q1 => br_t q1 ⟨rfl, same⟩) (fun q1 => br_c (fun q2 => ?_) (fun q2 => br_f q1 (br_f q2 ⟨rfl, same⟩)))
  obtain ⟨n, hc, rfl⟩ := nI_of q1
  have hn8 : n ≤ 8 := (nI_leI (b := 8) hc (by omega)).mp q2
  refine xb_b hw.1 (rw_sm hw) hl.1 (fun fk' fs' aW' aS' aO' a b c d e f hn hL hs => ?_)
  have rel : ∀ C', rw_ N R C' → i_Rel (k + 4) (nI N, 1, fk', fs', fh, fl, fb, mE R, aW', aS', aO', aQ, aD, aE) (nI N, gf, gl, mE C') := fun C' hw' => ⟨N, R, C', rfl, rfl, rfl, rfl, hw', Or.inr ⟨rfl, a, b, c, d, e, f, hn, hL, hs⟩, hl.2⟩
  refine ⟨_, xk_20 hn8 hn (hB_of hn (rw_sm hw) hL) hs ?_ (n * n * n) 0 (by omega) (Nat.le_refl _)⟩
  refine br_f q1 (br_t q2 ⟨_, yk_16 hn8 hn hL (fun C' hw' => ⟨?_, rel C' hw'⟩) (n * n * n) 0 C hw (by omega)⟩)
  congr 1
  rcases Nat.eq_zero_or_pos n with h | h
  · subst h; rfl
  · exact (cz_rev (fun x y z => cb_ (hl_ a b c d e f (x : Int) (y : Int) (z : Int))) h).symm
end
section
/-! corners: the reference finds the entries of the stair form -/
def ce_ (a b c d e f : Int) (i k : Nat) : Int := if i = 0 then (if k = 0 then a else if k = 1 then b else c) else if i = 1 then (if k = 0 then 0 else if k = 1 then d else e) else (if k = 2 then f else 0)
/-- over one place, points of the grid differ by multiples of f -/
theorem hl_z {a b c d e f x y z0 : Int} (hn : hn_ a b c d e f) (h : hl_ a b c d e f x y z0) (z : Int) : hl_ a b c d e f x y z ↔ f ∣ z - z0 := by
  have g := hl_gr a b c d e f
  constructor
  · intro h'
    obtain ⟨i, j, k, e1, e2, e3⟩ := g.2 _ _ _ _ _ _ h' h
    have hb : i * b = 0 ∧ i * c = 0 := by
      by_cases q : a = 0
      · rw [(hn.2.2.2.1 q).1, (hn.2.2.2.1 q).2]; simp
      · have : i = 0 := (Int.mul_eq_zero.mp (show i * a = 0 by omega)).resolve_right q
        rw [this]; simp
    have he : j * e = 0 := by
      by_cases q : d = 0
      · rw [hn.2.2.2.2.1 q]; simp
      · have : j = 0 := (Int.mul_eq_zero.mp (show j * d = 0 by omega)).resolve_right q
        rw [this]; simp
    exact ⟨k, by rw [Int.mul_comm f k]; omega⟩
  · rintro ⟨k, hk⟩
    have h2 : hl_ a b c d e f 0 0 (f * k) := ⟨0, 0, k, by simp, by simp, by grind⟩
    exact gr_e (gr_add g h h2) (by omega) (by omega) (by omega)
theorem nt_small {f z z0 : Int} (h0 : 0 ≤ z0) (h1 : z0 < f) (h2 : 0 ≤ z) (h3 : z < f) (h : f ∣ z - z0) : z = z0 := by
  obtain ⟨k, hk⟩ := h
  have h4 : k = 0 := by
    apply Classical.byContradiction
    intro q
    rcases Int.lt_or_gt_of_ne q with h5 | h5
    · have : f * k ≤ f * (-1) := Int.mul_le_mul_of_nonneg_left (by omega) (by omega)
      omega
    · have : f * 1 ≤ f * k := Int.mul_le_mul_of_nonneg_left (by omega) (by omega)
      omega
  rw [h4] at hk; omega
section
variable {gf gl : Int32} {N : Nat} {R C : Nat → Nat → Int} {a b c d e f : Int} {post : Int32 → SY → Prop}
theorem rw_C {N : Nat} {R C : Nat → Nat → Int} (hw : rw_ N R C) {i j : Nat} (hi : i < N) (hj : j < 3) : C i j = R i j ∧ (R i j).natAbs ≤ 9 := ⟨hw.2.1 i j (by have := hw.1; omega) hj, hw.2.2.1 i j (by have := hw.1; omega) hj⟩
theorem yy_34 {x : Int} (hw : rw_ N R C) (hx : x.natAbs ≤ 2916) (hr : ∀ r, r < N → x * R r 1 = b * R r 0) (hp : post (zi_v b) (nI N, gf, gl, mE C)) : ∀ m k : Nat, k + m = N → (∃ r, k ≤ r ∧ r < N ∧ R r 0 ≠ 0) → wY_yFor_34 post (zi_v x) (nI N) gf gl (mE C) (m + 1) (nI k) := by
  have hN := hw.1
  intro m
  induction m with
  | zero => rintro k hk ⟨r, h1, h2, _⟩; omega
  | succ m ih =>
    rintro k hk ⟨r, h1, h2, h3⟩
    obtain ⟨c0, l0⟩ := rw_C hw (i := k) (j := 0) (by omega) (by omega)
    obtain ⟨c1, l1⟩ := rw_C hw (i := k) (j := 1) (by omega) (by omega)
    refine br_f (nI_ge (by omega) (by omega)) ⟨zn_in0 (by omega) (by omega), ?_⟩
    rw [mE_ix0 C (by omega), c0]
    refine zc_eq _ 0 rfl rfl (zi_Rabs (by omega)) zi_R0 (fun z => nm_r (nI_1 k) (ih (k + 1) (by omega) ⟨r, ?_, h2, h3⟩)) (fun z => ⟨zn_in (r := k) (c := 1) (by omega) (by omega), zn_in0 (by omega) (by omega), ?_, ?_⟩)
    · by_cases q : r = k
      · subst q; exact absurd z h3
      · omega
    · intro q; exact z ((zi_eq (zi_Rabs (by omega)) zi_R0).mp q)
    · rw [mE_ix1 C (by omega), c1, zi_mul]
      have hb : (x * R k 1).natAbs ≤ 2916 * 9 := by rw [Int.natAbs_mul]; exact Nat.mul_le_mul hx l1
      rw [zi_div (zi_Rabs (by omega)) (zi_Rabs (by omega)), hr k (by omega), Int.mul_tdiv_cancel _ z]
      exact hp
theorem yy_8 {B : Nat} (ha : a ≠ 0) (hb : b = B) (hbd : b < d) (hB : hB_ a b c d e f) (hn : hn_ a b c d e f) (hL : ∀ x y z, sp_L (fun i => i < N) R x y z ↔ hl_ a b c d e f x y z) (hp : ∀ C', rw_ N R C' → post (zi_v b) (nI N, gf, gl, mE C')) : ∀ m k : Nat, ∀ C, rw_ N R C → k + m = B → wY_yFor_8 post (zi_v a) (zi_v d) (m + 1) (nI k) (nI N) gf gl (mE C) := by
  obtain ⟨b1, b2, b3, b4, b5, b6⟩ := hB
  have e0 : (0 : Int32).toInt = 0 := by decide
  intro m
  induction m with
  | zero =>
    intro k C hw hk
    have : k = B := by omega
    subst this
    refine br_f (by rw [← zi_n, zi_le (zi_Rabs (by omega)) (zi_Rn (by omega))]; omega) ?_
    refine yh_in (k := 2) hw (by rw [zi_t (zi_Rabs (by omega))]; omega) (by rw [nI_toInt (by omega), Int.natAbs_natCast]; omega) (by decide) (by omega) (by omega) hn hL (fun C' hw' _ => br_f (by decide) ?_) (fun C' hw' q => absurd ?_ q)
    · have := hp C' hw'
      rw [hb, zi_n] at this; exact this
    · rw [zi_t (zi_Rabs (by omega)), nI_toInt (by omega), e0]
      refine (pj_2 hL _ _ _).mpr ⟨1, 0, 0, ?_, ?_, ?_⟩
      · simp
      · rw [if_pos (by decide)]; omega
      · simp
  | succ m ih =>
    intro k C hw hk
    refine br_f (by rw [← zi_n, zi_le (zi_Rabs (by omega)) (zi_Rn (by omega))]; omega) ?_
    refine yh_in (k := 2) hw (by rw [zi_t (zi_Rabs (by omega))]; omega) (by rw [nI_toInt (by omega), Int.natAbs_natCast]; omega) (by decide) (by omega) (by omega) hn hL (fun C' hw' q => ?_) (fun C' hw' _ => br_t rfl (nm_r (nI_1 k) (ih (k + 1) C' hw' (by omega))))
    exfalso
    rw [zi_t (zi_Rabs (by omega)), nI_toInt (by omega), e0] at q
    have q' : hl_ a b 0 d 0 0 a (k : Int) 0 := (pj_2 hL a (k : Int) 0).mp q
    obtain ⟨i, j, l, e1, e2, _⟩ := q'
    have hi : i = 1 := by
      have : (i - 1) * a = 0 := by grind
      have := (Int.mul_eq_zero.mp this).resolve_right ha
      omega
    subst hi
    have : (k : Int) = b := nt_small (f := d) (by omega) hbd (by omega) (by omega) ⟨j, by rw [Int.mul_comm d j]; omega⟩
    omega
theorem yy_for (ha : a ≠ 0) (hw : rw_ N R C) (hn : hn_ a b c d e f) (hL : ∀ x y z, sp_L (fun i => i < N) R x y z ↔ hl_ a b c d e f x y z) (hp : ∀ C', rw_ N R C' → post (zi_v b) (nI N, gf, gl, mE C')) : wpY_yFor post (nI N, gf, gl, mE C) (zi_v a) := by
  have hB := hB_of hn (rw_sm hw) hL
  have hB' := hB
  obtain ⟨b1, b2, b3, b4, b5, b6⟩ := hB'
  unfold wpY_yFor
  refine ys_step (k := 1) hw (by omega) hn hL (fun z C' hw' => ?_) (fun z C' hw' => ?_)
  · have zd : d = 0 := z
    have hrow : ∀ r, r < N → ∃ i, R r 0 = i * a ∧ R r 1 = i * b := by
      intro r hr
      obtain ⟨i, j, k, e1, e2, _⟩ := (hL _ _ _).mp (sp_row (Q := fun i => i < N) (w := R) hr)
      exact ⟨i, e1, by rw [zd] at e2; omega⟩
    have hex : ∃ r, 0 ≤ r ∧ r < N ∧ R r 0 ≠ 0 := by
      apply Classical.byContradiction
      intro q
      have h0 : (0 : Int) ∣ 1 * a + 0 * b + 0 * c := sp_lin (Q := fun i => i < N) (w := R) (fun i hi => ?_) ((hL a b c).mpr (hl_0 _ _ _ _ _ _))
      · have := Int.zero_dvd.mp h0; omega
      · have : R i 0 = 0 := Classical.byContradiction fun z => q ⟨i, by omega, hi, z⟩
        rw [this]; exact ⟨0, by omega⟩
    have := yy_34 (gf := gf) (gl := gl) (x := a) (b := b) (post := post) hw' b1 (fun r hr => ?_) (hp C' hw') N 0 (by omega) hex
    · exact ⟨1, br_t (by decide) ⟨_, this⟩⟩
    · obtain ⟨i, e1, e2⟩ := hrow r hr
      rw [e1, e2]; grind
  · have zd : d ≠ 0 := z
    have hd := hn.2.2.2.2.2.1 (by have := hn.2.1; omega)
    obtain ⟨B, hBb⟩ := Int.eq_ofNat_of_zero_le hd.1
    exact ⟨_, yy_8 (B := B) ha hBb hd.2 hB hn hL hp B 0 C' hw' (by omega)⟩
theorem yz_22 {x y z0 : Int} {Z : Nat} (hz : z0 = Z) (hzf : z0 < f) (hx : x.natAbs ≤ 2916) (hy : y.natAbs ≤ 2916) (h0 : hl_ a b c d e f x y z0) (hB : hB_ a b c d e f) (hn : hn_ a b c d e f) (hL : ∀ x y z, sp_L (fun i => i < N) R x y z ↔ hl_ a b c d e f x y z) (hp : ∀ C', rw_ N R C' → post (zi_v z0) (nI N, gf, gl, mE C')) : ∀ m k : Nat, ∀ C, rw_ N R C → k + m = Z → wY_zFor_22 post (zi_v x) (zi_v y) (zi_v f) (m + 1) (nI k) (nI N) gf gl (mE C) := by
  obtain ⟨b1, b2, b3, b4, b5, b6⟩ := hB
  have p3 : ∀ x y z : Int, sp_L (fun i => i < N) (pd_ R 3) (if 0 < 3 then x else 0) (if 1 < 3 then y else 0) (if 2 < 3 then z else 0) ↔ hl_ a b c d e f x y z := fun x y z => pj_3 hL x y z
  intro m
  induction m with
  | zero =>
    intro k C hw hk
    have : k = Z := by omega
    subst this
    refine br_f (by rw [← zi_n, zi_le (zi_Rabs (by omega)) (zi_Rn (by omega))]; omega) ?_
    refine yh_in (k := 3) hw (by rw [zi_t (zi_Rabs (by omega))]; omega) (by rw [zi_t (zi_Rabs (by omega))]; omega) (by rw [nI_toInt (by omega), Int.natAbs_natCast]; omega) (by omega) (by omega) hn hL (fun C' hw' _ => br_f (by decide) ?_) (fun C' hw' q => absurd ?_ q)
    · have := hp C' hw'
      rw [hz, zi_n] at this; exact this
    · rw [zi_t (zi_Rabs (by omega)), zi_t (zi_Rabs (by omega)), nI_toInt (by omega), p3, ← hz]
      exact h0
  | succ m ih =>
    intro k C hw hk
    refine br_f (by rw [← zi_n, zi_le (zi_Rabs (by omega)) (zi_Rn (by omega))]; omega) ?_
    refine yh_in (k := 3) hw (by rw [zi_t (zi_Rabs (by omega))]; omega) (by rw [zi_t (zi_Rabs (by omega))]; omega) (by rw [nI_toInt (by omega), Int.natAbs_natCast]; omega) (by omega) (by omega) hn hL (fun C' hw' q => ?_) (fun C' hw' _ => br_t rfl (nm_r (nI_1 k) (ih (k + 1) C' hw' (by omega))))
    exfalso
    rw [zi_t (zi_Rabs (by omega)), zi_t (zi_Rabs (by omega)), nI_toInt (by omega), p3, hl_z hn h0] at q
    have : (k : Int) = z0 := nt_small (f := f) (by omega) hzf (by omega) (by omega) q
    omega
theorem yz_85 {x y z0 : Int} {post : Int32 → Prop} (hw : rw_ N R C) (hx : x.natAbs ≤ 2916) (hy : y.natAbs ≤ 2916) (hr : ∀ r, r < N → x * R r 2 = z0 * R r 0 ∧ y * R r 2 = z0 * R r 1) (hp : post (zi_v z0)) : ∀ m k : Nat, k + m = N → (∃ r, k ≤ r ∧ r < N ∧ (R r 0 ≠ 0 ∨ R r 1 ≠ 0)) → wY_zOver_85 post (zi_v x) (zi_v y) (nI N) gf gl (mE C) (m + 1) (nI k) := by
  have hN := hw.1
  intro m
  induction m with
  | zero => rintro k hk ⟨r, h1, h2, _⟩; omega
  | succ m ih =>
    rintro k hk ⟨r, h1, h2, h3⟩
    obtain ⟨c0, l0⟩ := rw_C hw (i := k) (j := 0) (by omega) (by omega)
    obtain ⟨c1, l1⟩ := rw_C hw (i := k) (j := 1) (by omega) (by omega)
    obtain ⟨c2, l2⟩ := rw_C hw (i := k) (j := 2) (by omega) (by omega)
    obtain ⟨k1, k2⟩ := hr k (by omega)
    have hb1 : (x * R k 2).natAbs ≤ 2916 * 9 := by rw [Int.natAbs_mul]; exact Nat.mul_le_mul hx l2
    have hb2 : (y * R k 2).natAbs ≤ 2916 * 9 := by rw [Int.natAbs_mul]; exact Nat.mul_le_mul hy l2
    refine br_f (nI_ge (by omega) (by omega)) ⟨zn_in0 (by omega) (by omega), ?_⟩
    rw [mE_ix0 C (by omega), c0]
    refine zc_eq _ 0 rfl rfl (zi_Rabs (by omega)) zi_R0 (fun z => ⟨zn_in (r := k) (c := 1) (by omega) (by omega), ?_⟩) (fun z => ⟨zn_in (r := k) (c := 2) (by omega) (by omega), zn_in0 (by omega) (by omega), ?_, ?_⟩)
    · rw [mE_ix1 C (by omega), c1]
      refine zc_eq _ 0 rfl rfl (zi_Rabs (by omega)) zi_R0 (fun z' => nm_r (nI_1 k) (ih (k + 1) (by omega) ⟨r, ?_, h2, h3⟩)) (fun z' => ⟨zn_in (r := k) (c := 2) (by omega) (by omega), zn_in (r := k) (c := 1) (by omega) (by omega), ?_, ?_⟩)
      · by_cases q : r = k
        · subst q; rcases h3 with h3 | h3
          · exact absurd z h3
          · exact absurd z' h3
        · omega
      · intro q; exact z' ((zi_eq (zi_Rabs (by omega)) zi_R0).mp q)
      · rw [mE_ix2 C (by omega), c2, zi_mul, zi_div (zi_Rabs (by omega)) (zi_Rabs (by omega)), k2, Int.mul_tdiv_cancel _ z']
        exact hp
    · intro q; exact z ((zi_eq (zi_Rabs (by omega)) zi_R0).mp q)
    · rw [mE_ix2 C (by omega), c2, zi_mul, zi_div (zi_Rabs (by omega)) (zi_Rabs (by omega)), k1, Int.mul_tdiv_cancel _ z]
      exact hp
end
end
section
section
variable {gf gl : Int32} {N : Nat} {R C : Nat → Nat → Int} {a b c d e f : Int}
def mA_ (R : Nat → Nat → Int) (r s c d : Nat) : Int := R r c * R s d - R r d * R s c
theorem mA_b {N : Nat} {R C : Nat → Nat → Int} (hw : rw_ N R C) {r s c d : Nat} (hr : r < N) (hs : s < N) (hc : c < 3) (hd : d < 3) : C r c * C s d - C r d * C s c = mA_ R r s c d ∧ (mA_ R r s c d).natAbs ≤ 162 := by
  obtain ⟨e1, l1⟩ := rw_C hw hr hc
  obtain ⟨e2, l2⟩ := rw_C hw hs hd
  obtain ⟨e3, l3⟩ := rw_C hw hr hd
  obtain ⟨e4, l4⟩ := rw_C hw hs hc
  rw [e1, e2, e3, e4]
  refine ⟨rfl, ?_⟩
  unfold mA_
  have m1 : (R r c * R s d).natAbs ≤ 9 * 9 := by rw [Int.natAbs_mul]; exact Nat.mul_le_mul l1 l2
  have m2 : (R r d * R s c).natAbs ≤ 9 * 9 := by rw [Int.natAbs_mul]; exact Nat.mul_le_mul l3 l4
  omega
theorem yz_2 {x y z0 : Int} {post : Int32 → Prop} (hw : rw_ N R C) (hN0 : 0 < N) (hx : x.natAbs ≤ 2916) (hy : y.natAbs ≤ 2916) (hpl : ∀ r s, r < N → s < N → y * mA_ R r s 0 2 - x * mA_ R r s 1 2 = z0 * mA_ R r s 0 1) (hp : post (zi_v z0)) (hE : (∀ r s, r < N → s < N → mA_ R r s 0 1 = 0) → ∃ n, wY_zOver_85 post (zi_v x) (zi_v y) (nI N) gf gl (mE C) n 0) : ∀ m k : Nat, k + m = N * N → (∀ k', k' < k → mA_ R (k' / N) (k' % N) 0 1 = 0) → wY_zOver_2 post (zi_v x) (zi_v y) (nI N) gf gl (mE C) (m + 1) (nI k) := by
  have hN := hw.1
  have hNN : N * N ≤ 16 := Nat.mul_le_mul (show N ≤ 4 by omega) (show N ≤ 4 by omega)
  intro m
  induction m with
  | zero =>
    intro k hk hz
    have : k = N * N := by omega
    subst this
    refine br_t (by rw [zn_mul]; exact nI_le (Nat.le_refl _) (by omega)) (hE (fun r s hr hs => ?_))
    have h1 : r * N + s < N * N := by
      have : (r + 1) * N ≤ N * N := Nat.mul_le_mul_right _ hr
      rw [Nat.succ_mul] at this; omega
    have h2 := hz (r * N + s) h1
    have e1 : (r * N + s) / N = r := by
      rw [Nat.mul_comm, Nat.mul_add_div hN0, Nat.div_eq_of_lt hs, Nat.add_zero]
    have e2 : (r * N + s) % N = s := by
      rw [Nat.mul_comm, Nat.mul_add_mod, Nat.mod_eq_of_lt hs]
    rw [e1, e2] at h2; exact h2
  | succ m ih =>
    intro k hk hz
    have hr : k / N < N := by rw [Nat.div_lt_iff_lt_mul hN0]; omega
    have hs : k % N < N := Nat.mod_lt _ hN0
    have hne : ¬ nI N = 0 := nI_ne0 hN0 (by omega)
    refine br_f (by rw [zn_mul]; exact nI_ge (by omega) (by omega)) ⟨hne, nm_r (zn_div (by omega) (by omega)) ⟨hne, nm_r (zn_rem (by omega) (by omega)) ?_⟩⟩
    obtain ⟨m1, l1⟩ := mA_b hw hr hs (c := 0) (d := 1) (by omega) (by omega)
    obtain ⟨m2, l2⟩ := mA_b hw hr hs (c := 0) (d := 2) (by omega) (by omega)
    obtain ⟨m3, l3⟩ := mA_b hw hr hs (c := 1) (d := 2) (by omega) (by omega)
    refine ym_minor (c := 0) (d := 1) (by omega) (by omega) (by omega) (by omega) ?_
    rw [m1]
    refine zc_eq _ 0 rfl rfl (zi_Rabs (by omega)) zi_R0 (fun z => nm_r (nI_1 k) (ih (k + 1) (by omega) (fun k' hk' => ?_))) (fun z => ?_)
    · by_cases q : k' = k
      · subst q; exact z
      · exact hz k' (by omega)
    · refine ym_minor (c := 0) (d := 2) (by omega) (by omega) (by omega) (by omega) ?_
      rw [m2]
      refine ym_minor (c := 1) (d := 2) (by omega) (by omega) (by omega) (by omega) ?_
      rw [m3]
      refine ⟨fun q => z ((zi_eq (zi_Rabs (by omega)) zi_R0).mp q), ?_⟩
      have hb1 : (y * mA_ R (k / N) (k % N) 0 2).natAbs ≤ 2916 * 162 := by rw [Int.natAbs_mul]; exact Nat.mul_le_mul hy l2
      have hb2 : (x * mA_ R (k / N) (k % N) 1 2).natAbs ≤ 2916 * 162 := by rw [Int.natAbs_mul]; exact Nat.mul_le_mul hx l3
      rw [zi_mul, zi_mul, zi_sub, zi_div (zi_Rabs (by omega)) (zi_Rabs (by omega)), hpl _ _ hr hs, Int.mul_tdiv_cancel _ z]
      exact hp
/-- the z over a place of the grid -/
theorem yz_for {post : Int32 → SY → Prop} {x y z0 : Int} (hx : x.natAbs ≤ 2916) (hy : y.natAbs ≤ 2916) (h0 : hl_ a b c d e f x y z0) (hz : f ≠ 0 → 0 ≤ z0 ∧ z0 < f) (had : a ≠ 0 ∨ d ≠ 0) (hw : rw_ N R C) (hn : hn_ a b c d e f) (hL : ∀ x y z, sp_L (fun i => i < N) R x y z ↔ hl_ a b c d e f x y z) (hp : ∀ C', rw_ N R C' → post (zi_v z0) (nI N, gf, gl, mE C')) : wpY_zFor post (nI N, gf, gl, mE C) (zi_v x) (zi_v y) := by
  have hB := hB_of hn (rw_sm hw) hL
  have hB' := hB
  obtain ⟨b1, b2, b3, b4, b5, b6⟩ := hB'
  unfold wpY_zFor
  refine ys_step (k := 2) hw (by omega) hn hL (fun z C' hw' => ?_) (fun z C' hw' => ?_)
  · have zf : f = 0 := z
    refine br_t rfl ?_
    have hex : ∃ r, 0 ≤ r ∧ r < N ∧ (R r 0 ≠ 0 ∨ R r 1 ≠ 0) := by
      apply Classical.byContradiction
      intro q
      have hz0 : ∀ i, i < N → R i 0 = 0 ∧ R i 1 = 0 := fun i hi => ⟨Classical.byContradiction fun z => q ⟨i, by omega, hi, Or.inl z⟩, Classical.byContradiction fun z => q ⟨i, by omega, hi, Or.inr z⟩⟩
      have h1 : (0 : Int) ∣ 1 * a + 0 * b + 0 * c := sp_lin (Q := fun i => i < N) (w := R) (fun i hi => by rw [(hz0 i hi).1]; exact ⟨0, by omega⟩) ((hL a b c).mpr (hl_0 _ _ _ _ _ _))
      have h2 : (0 : Int) ∣ 0 * 0 + 1 * d + 0 * e := sp_lin (Q := fun i => i < N) (w := R) (fun i hi => by rw [(hz0 i hi).2]; exact ⟨0, by omega⟩) ((hL 0 d e).mpr (hl_1 _ _ _ _ _ _))
      have h1 := Int.zero_dvd.mp h1
      have h2 := Int.zero_dvd.mp h2
      omega
    have hN0 : 0 < N := by
      obtain ⟨r0, _, hr0, _⟩ := hex
      omega
    have d3z : d3_ (hl_ a b c d e f) 0 := hl_d3.mpr (by rw [zf]; simp)
    have hrow : ∀ r, r < N → hl_ a b c d e f (R r 0) (R r 1) (R r 2) := fun r hr => (hL _ _ _).mp (sp_row (Q := fun i => i < N) (w := R) hr)
    have hpl : ∀ r s, r < N → s < N → y * mA_ R r s 0 2 - x * mA_ R r s 1 2 = z0 * mA_ R r s 0 1 := by
      intro r s hr hs
      have := Int.zero_dvd.mp (d3z _ _ _ _ _ _ _ _ _ h0 (hrow r hr) (hrow s hs))
      unfold dt_ at this; unfold mA_; grind
    refine ⟨_, yz_2 (post := fun r => post r (nI N, gf, gl, mE C')) hw' hN0 hx hy hpl (hp C' hw') (fun hm => ?_) (N * N) 0 (by omega) (fun k' hk' => absurd hk' (by omega))⟩
    have hda : a * d = 0 := by
      have s1 : ∀ s, s < N → ∀ x y z, sp_L (fun i => i < N) R x y z → (0 : Int) ∣ R s 1 * x + (- R s 0) * y + 0 * z := by
        intro s hs x y z h
        refine sp_lin (fun i hi => ?_) h
        have := hm i s hi hs
        unfold mA_ at this
        exact ⟨0, by grind⟩
      have s2 := fun s (hs : s < N) => s1 s hs a b c ((hL a b c).mpr (hl_0 _ _ _ _ _ _))
      have s3 : (0 : Int) ∣ (-b) * 0 + a * d + 0 * e := by
        refine sp_lin (Q := fun i => i < N) (w := R) (fun i hi => ?_) ((hL 0 d e).mpr (hl_1 _ _ _ _ _ _))
        have := Int.zero_dvd.mp (s2 i hi)
        exact ⟨0, by grind⟩
      have := Int.zero_dvd.mp s3; omega
    have d2z : d2_ (hl_ a b c d e f) 0 := by
      refine hl_d2.mpr ?_
      rw [zf]
      rcases Int.mul_eq_zero.mp hda with q | q
      · obtain ⟨q1, q2⟩ := hn.2.2.2.1 q
        rw [q, q1, q2]; simp
      · rw [q, hn.2.2.2.2.1 q]; simp
    have h85 := yz_85 (gf := gf) (gl := gl) (post := fun r => post r (nI N, gf, gl, mE C')) (z0 := z0) hw' hx hy (fun r hr => ?_) (hp C' hw') N 0 (by omega) hex
    · exact ⟨_, h85⟩
    · obtain ⟨_, k2, k3⟩ := d2z _ _ _ _ _ _ h0 (hrow r hr)
      have k2 := Int.zero_dvd.mp k2
      have k3 := Int.zero_dvd.mp k3
      unfold m2_ at k2; unfold m3_ at k3
      exact ⟨by omega, by omega⟩
  · have zf : f ≠ 0 := z
    obtain ⟨z1, z2⟩ := hz zf
    obtain ⟨Z, hZ⟩ := Int.eq_ofNat_of_zero_le z1
    refine br_f (fun q => ?_) ⟨_, yz_22 hZ z2 hx hy h0 hB hn hL hp Z 0 C' hw' (by omega)⟩
    have q' : zi_v f = zi_v (-1000000) := q
    rw [zi_eq (zi_Rabs (by omega)) ⟨by decide, by decide⟩] at q'
    have := hn.2.2.1
    omega
theorem yc_corner {post : Int32 → SY → Prop} {i k : Nat} (hi : i < 3) (hk : k < 3) (hw : rw_ N R C) (hn : hn_ a b c d e f) (hL : ∀ x y z, sp_L (fun i => i < N) R x y z ↔ hl_ a b c d e f x y z) (h0 : pv_ a d f i = 0 → ∀ C', rw_ N R C' → post (-1000000) (nI N, gf, gl, mE C')) (h1 : pv_ a d f i ≠ 0 → ∀ C', rw_ N R C' → post (zi_v (ce_ a b c d e f i k)) (nI N, gf, gl, mE C')) : wpY_corner post (nI N, gf, gl, mE C) (nI i) (nI k) := by
  have hB := hB_of hn (rw_sm hw) hL
  have hB' := hB
  obtain ⟨b1, b2, b3, b4, b5, b6⟩ := hB'
  refine br_f (nI_pos (by omega)) (br_f (nI_nlt (b := i) (a := 2) (by omega) (by omega)) (br_f (nI_pos (by omega)) (br_t (nI_le (b := 2) (by omega) (by omega)) ?_)))
  refine ys_step (k := i) hw hi hn hL (fun z C' hw' => br_t rfl (h0 z C' hw')) (fun z C' hw' => ?_)
  have hpv : 0 ≤ pv_ a d f i ∧ (pv_ a d f i).natAbs ≤ 2916 := by
    unfold pv_
    have := hn.1; have := hn.2.1; have := hn.2.2.1
    split
    · omega
    · split <;> omega
  refine br_f (fun q => ?_) ?_
  · have q' : zi_v (pv_ a d f i) = zi_v (-1000000) := q
    rw [zi_eq (zi_Rabs (by omega)) ⟨by decide, by decide⟩] at q'
    omega
  · have hv := h1 z
    refine zn_lt (by omega) (by omega) (fun hik => ?_) (fun hik => ?_)
    · have : i = 0 ∨ i = 1 := by omega
      rcases this with rfl | rfl
      · have za : a ≠ 0 := z
        refine br_t rfl (br_t rfl ?_)
        refine yy_for za hw' hn hL (fun C'' hw'' => ?_)
        refine zn_eq (a := k) (b := 1) (by omega) (by omega) (fun q => ?_) (fun q => ?_)
        · subst q; exact hv C'' hw''
        · have : k = 2 := by omega
          subst this
          exact yz_for (z0 := c) b1 (by omega) (hl_0 _ _ _ _ _ _) (fun zf => by have := hn.2.2.2.2.2.2 (by have := hn.2.2.1; omega); omega) (Or.inl za) hw'' hn hL hv
      · have zd : d ≠ 0 := z
        have : k = 2 := by omega
        subst this
        refine br_f (by decide) (br_f (by decide) (br_f (by decide) ?_))
        exact yz_for (x := 0) (y := d) (z0 := e) (by decide) b2 (hl_1 _ _ _ _ _ _) (fun zf => by have := hn.2.2.2.2.2.2 (by have := hn.2.2.1; omega); omega) (Or.inr zd) hw' hn hL hv
    · refine zn_eq (a := k) (b := i) (by omega) (by omega) (fun q => ?_) (fun q => ?_)
      · subst q
        have e : ce_ a b c d e f k k = pv_ a d f k := by
          have : k = 0 ∨ k = 1 ∨ k = 2 := by omega
          rcases this with rfl | rfl | rfl <;> rfl
        rw [← e]; exact hv C' hw'
      · have e : ce_ a b c d e f i k = 0 := by
          have : (i = 1 ∧ k = 0) ∨ (i = 2 ∧ k = 0) ∨ (i = 2 ∧ k = 1) := by omega
          rcases this with ⟨rfl, rfl⟩ | ⟨rfl, rfl⟩ | ⟨rfl, rfl⟩ <;> rfl
        have := hv C' hw'
        rw [e] at this; exact this
end
theorem i_vc_corner {k : Nat} {u : SX} {v : SY} (I : i_Rel k u v) (hk : k + 4 ≤ 2048) (v1 : Int32) (v2 : Int32) : wpX_corner (fun r u' => wpY_corner (fun r' v' => r' = r ∧ i_Rel (k + 4) u' v') v v1 v2) u v1 v2 := by
  refine i_el (P := fun u v => wpX_corner (fun r u' => wpY_corner (fun r' v' => r' = r ∧ i_Rel (k + 4) u' v') v v1 v2) u v1 v2) ?_ I
  intro N R C fr fk fs fh fl fb aW aS aO aQ aD aE gf gl hw hl
  have same : i_Rel (k + 4) (nI N, fr, fk, fs, fh, fl, fb, mE R, aW, aS, aO, aQ, aD, aE) (nI N, gf, gl, mE C) := ⟨N, R, C, rfl, rfl, rfl, rfl, hw, hl⟩
  refine br_c (fun q1 => br_t q1 ⟨rfl, same⟩) (fun q1 => br_c (fun q2 => br_f q1 (br_t q2 ⟨rfl, same⟩)) (fun q2 => br_c (fun q3 => br_f q1 (br_f q2 (br_t q3 ⟨rfl, same⟩))) (fun q3 => br_c (fun q4 => ?_) (fun q4 => br_f q1 (br_f q2 (br_f q3 (br_f q4 ⟨rfl, same⟩)))))))
  obtain ⟨i, hc, rfl⟩ := nI_of q1
  obtain ⟨j, hd, rfl⟩ := nI_of q3
  have hi : i < 3 := by
    apply Classical.byContradiction
    intro z; exact q2 (nI_lt (a := 2) (by omega) hc)
  have hj : j < 3 := by
    have := (nI_leI (b := 2) hd (by omega)).mp q4; omega
  refine xb_b hw.1 (rw_sm hw) hl.1 (fun fk' fs' aW' aS' aO' a b c d e f hn hL hs => ?_)
  have rel : ∀ C', rw_ N R C' → i_Rel (k + 4) (nI N, 1, fk', fs', fh, fl, fb, mE R, aW', aS', aO', aQ, aD, aE) (nI N, gf, gl, mE C') := fun C' hw' => ⟨N, R, C', rfl, rfl, rfl, rfl, hw', Or.inr ⟨rfl, a, b, c, d, e, f, hn, hL, hs⟩, hl.2⟩
  obtain ⟨t, so, h, rfl, rfl, rfl, hsa, ht, hz⟩ := hs
  have ec : (nI i).toNatClampNeg = i := nI_clamp (by omega)
  refine ⟨vp_in_nI hi (by omega), ?_⟩
  rw [ec]
  rcases sa_so hsa ht hi with ⟨p3, p4⟩ | ⟨p3, s, hs3, p4, p5, p6, p7⟩
  · refine nm_r (e' := -1) (by show zi_v (so i) = -1; rw [p4]; decide) (br_f (by decide) ?_)
    exact yc_corner hi hj hw hn hL (fun _ C' hw' => ⟨rfl, rel C' hw'⟩) (fun z => absurd p3 z)
  · refine nm_r (e' := nI s) (by show zi_v (so i) = nI s; rw [p4, zi_n]) (br_t (nI_pos' (by omega)) ⟨zn_in (by omega) (by omega), ?_⟩)
    refine yc_corner hi hj hw hn hL (fun z => absurd z (by omega)) (fun _ C' hw' => ⟨?_, rel C' hw'⟩)
    rw [mE_ix h hj (by omega)]
    congr 1
    have h1 : i = 0 ∨ i = 1 ∨ i = 2 := by omega
    have h2 : j = 0 ∨ j = 1 ∨ j = 2 := by omega
    rcases h1 with rfl | rfl | rfl <;> rcases h2 with rfl | rfl | rfl <;> first | (rw [p5]; rfl) | (rw [p6]; rfl) | (rw [p7]; rfl)
end
section
/-! a square of three rows: its divisors under row and column operations -/
def lq_ (q : Nat → Nat → Int) : Int → Int → Int → Prop := sp_L (fun i => i < 3) q
def tq_ (q : Nat → Nat → Int) : Nat → Nat → Int := fun i j => q j i
def de3_ (q q' : Nat → Nat → Int) : Prop := ∀ n : Int, (d1_ (lq_ q) n ↔ d1_ (lq_ q') n) ∧ (d2_ (lq_ q) n ↔ d2_ (lq_ q') n) ∧ (d3_ (lq_ q) n ↔ d3_ (lq_ q') n)
theorem de3_r (q : Nat → Nat → Int) : de3_ q q := fun _ => ⟨Iff.rfl, Iff.rfl, Iff.rfl⟩
theorem de3_s {q q' : Nat → Nat → Int} (h : de3_ q q') : de3_ q' q := fun n => ⟨(h n).1.symm, (h n).2.1.symm, (h n).2.2.symm⟩
theorem de3_t {q q' q'' : Nat → Nat → Int} (h : de3_ q q') (h' : de3_ q' q'') : de3_ q q'' := fun n => ⟨(h n).1.trans (h' n).1, (h n).2.1.trans (h' n).2.1, (h n).2.2.trans (h' n).2.2⟩
theorem de3_L {q q' : Nat → Nat → Int} (h : ∀ x y z, lq_ q x y z ↔ lq_ q' x y z) : de3_ q q' := fun _ => ⟨d1_c h, d2_c h, d3_c h⟩
theorem co3 {P : Nat → Prop} (h0 : P 0) (h1 : P 1) (h2 : P 2) : ∀ i, i < 3 → P i := by
  intro i hi
  have : i = 0 ∨ i = 1 ∨ i = 2 := by omega
  rcases this with rfl | rfl | rfl
  · exact h0
  · exact h1
  · exact h2
theorem lq_d3 {q : Nat → Nat → Int} {n : Int} : d3_ (lq_ q) n ↔ n ∣ dz_ q 0 1 2 := by
  unfold lq_
  rw [sp_d3]
  constructor
  · intro h; exact h 0 1 2 (by omega) (by omega) (by omega)
  · intro h i j k hi hj hk
    refine dz_all (w := q) (Q := fun i => i < 3) (fun r s t hr hs ht h1 h2 => ?_) hi hj hk
    have e : r = 2 ∧ s = 1 ∧ t = 0 := by omega
    obtain ⟨rfl, rfl, rfl⟩ := e
    have : dz_ q 2 1 0 = - dz_ q 0 1 2 := by unfold dz_ dt_; grind
    rw [this, Int.dvd_neg]; exact h
theorem tq_d1 {q : Nat → Nat → Int} {n : Int} (h : d1_ (lq_ q) n) : d1_ (lq_ (tq_ q)) n := by
  unfold lq_ at *
  rw [sp_d1] at *
  intro i hi
  have h0 := h 0 (by omega)
  have h1 := h 1 (by omega)
  have h2 := h 2 (by omega)
  show n ∣ q 0 i ∧ n ∣ q 1 i ∧ n ∣ q 2 i
  revert i
  exact co3 ⟨h0.1, h1.1, h2.1⟩ ⟨h0.2.1, h1.2.1, h2.2.1⟩ ⟨h0.2.2, h1.2.2, h2.2.2⟩
theorem tq_g {n : Int} {u v : Nat → Int} (a1 : n ∣ u 0 * v 1 - u 1 * v 0) (a2 : n ∣ u 0 * v 2 - u 2 * v 0) (a3 : n ∣ u 1 * v 2 - u 2 * v 1) : ∀ i, i < 3 → ∀ j, j < 3 → n ∣ u i * v j - v i * u j := by
  have z : ∀ x y : Int, x * y - y * x = 0 := by intro x y; grind
  have b1 : u 0 * v 1 - v 0 * u 1 = u 0 * v 1 - u 1 * v 0 := by grind
  have b2 : u 0 * v 2 - v 0 * u 2 = u 0 * v 2 - u 2 * v 0 := by grind
  have b3 : u 1 * v 2 - v 1 * u 2 = u 1 * v 2 - u 2 * v 1 := by grind
  have c1 : u 1 * v 0 - v 1 * u 0 = -(u 0 * v 1 - u 1 * v 0) := by grind
  have c2 : u 2 * v 0 - v 2 * u 0 = -(u 0 * v 2 - u 2 * v 0) := by grind
  have c3 : u 2 * v 1 - v 2 * u 1 = -(u 1 * v 2 - u 2 * v 1) := by grind
  refine co3 (co3 ?_ ?_ ?_) (co3 ?_ ?_ ?_) (co3 ?_ ?_ ?_)
  · rw [z]; exact ⟨0, by simp⟩
  · rw [b1]; exact a1
  · rw [b2]; exact a2
  · rw [c1, Int.dvd_neg]; exact a1
  · rw [z]; exact ⟨0, by simp⟩
  · rw [b3]; exact a3
  · rw [c2, Int.dvd_neg]; exact a2
  · rw [c3, Int.dvd_neg]; exact a3
  · rw [z]; exact ⟨0, by simp⟩
theorem tq_d2 {q : Nat → Nat → Int} {n : Int} (h : d2_ (lq_ q) n) : d2_ (lq_ (tq_ q)) n := by
  unfold lq_ at *
  rw [sp_d2] at *
  have g : ∀ r s, r < 3 → s < 3 → ∀ i, i < 3 → ∀ j, j < 3 → n ∣ q r i * q s j - q s i * q r j := by
    intro r s hr hs
    obtain ⟨a1, a2, a3⟩ := h r s hr hs
    exact tq_g (u := q r) (v := q s) a1 a2 a3
  intro i j hi hj
  exact ⟨g 0 1 (by omega) (by omega) i hi j hj, g 0 2 (by omega) (by omega) i hi j hj, g 1 2 (by omega) (by omega) i hi j hj⟩
theorem tq_de (q : Nat → Nat → Int) : de3_ q (tq_ q) := by
  intro n
  have e : tq_ (tq_ q) = q := rfl
  refine ⟨⟨tq_d1, fun h => ?_⟩, ⟨tq_d2, fun h => ?_⟩, ?_⟩
  · have := tq_d1 h; rw [e] at this; exact this
  · have := tq_d2 h; rw [e] at this; exact this
  · rw [lq_d3, lq_d3]
    have : dz_ (tq_ q) 0 1 2 = dz_ q 0 1 2 := by unfold dz_ dt_ tq_; grind
    rw [this]
theorem de3_xw {q : Nat → Nat → Int} {f s : Nat} (hf : f < 3) (hs : s < 3) : de3_ (xw_ q f s) q := de3_L (sp_xw (Q := fun i => i < 3) hf hs)
theorem de3_rp {q : Nat → Nat → Int} {c f n : Nat} (hf : f < 3) : de3_ (rp_ q c f n) q := by
  refine de3_L (sp_mul (Q := fun i => i < 3) hf (fun j => ?_) (fun i hi => ?_))
  · unfold rp_; rw [if_neg (by omega)]
  · by_cases z : f < i ∧ i < n
    · exact ⟨_, fun j => by unfold rp_; rw [if_pos z]⟩
    · exact ⟨0, fun j => by unfold rp_; rw [if_neg z]; omega⟩
theorem de3_c {q q' : Nat → Nat → Int} (h : ∀ i j, i < 3 → j < 3 → q i j = q' i j) : de3_ q q' :=
  de3_L (sp_c (Q := fun i => i < 3) (Q' := fun i => i < 3) (fun _ => Iff.rfl) (fun i hi j hj => h i j hi hj))
/-- columns k and c exchanged; columns reduced by column k -/
def yw_ (q : Nat → Nat → Int) (k c : Nat) : Nat → Nat → Int := sw_ q k c 3
def cq_ (v : Nat → Nat → Int) (k c : Nat) : Nat → Nat → Int := fun i j => if k < j ∧ j < c ∧ i < 3 then v i j - (v k j).fdiv (v k k) * v i k else v i j
theorem de3_yw {q : Nat → Nat → Int} {k c : Nat} (hk : k < 3) (hc : c < 3) : de3_ (yw_ q k c) q := by
  have e : de3_ (yw_ q k c) (tq_ (xw_ (tq_ q) k c)) := de3_c (fun i j hi hj => by unfold yw_ sw_ tq_ xw_; rw [if_pos hi])
  exact de3_t e (de3_t (de3_s (tq_de _)) (de3_t (de3_xw hk hc) (de3_s (tq_de _))))
theorem de3_cq {q : Nat → Nat → Int} {k n : Nat} (hk : k < 3) : de3_ (cq_ q k n) q := by
  have e : de3_ (cq_ q k n) (tq_ (rp_ (tq_ q) k k n)) := by
    refine de3_c (fun i j hi hj => ?_)
    unfold cq_ tq_ rp_
    by_cases z : k < j ∧ j < n
    · rw [if_pos ⟨z.1, z.2, hi⟩, if_pos z]
    · rw [if_neg (fun y => z ⟨y.1, y.2.1⟩), if_neg z]
  exact de3_t e (de3_t (de3_s (tq_de _)) (de3_t (de3_rp hk) (de3_s (tq_de _))))
/-- one round at corner k -/
def sr_ (q : Nat → Nat → Int) (k r c : Nat) : Nat → Nat → Int := cq_ (rp_ (yw_ (xw_ q k r) k c) k k 3) k 3
theorem de3_sr {q : Nat → Nat → Int} {k r c : Nat} (hk : k < 3) (hr : r < 3) (hc : c < 3) : de3_ (sr_ q k r c) q :=
  de3_t (de3_cq hk) (de3_t (de3_rp hk) (de3_t (de3_yw hk hc) (de3_xw hk hr)))
theorem de3_det {q q' : Nat → Nat → Int} (h : de3_ q q') : (dz_ q 0 1 2).natAbs = (dz_ q' 0 1 2).natAbs := by
  have e : ∀ n : Int, n ∣ dz_ q 0 1 2 ↔ n ∣ dz_ q' 0 1 2 := fun n => by rw [← lq_d3, ← lq_d3]; exact (h n).2.2
  have := nt_uniq (g := (dz_ q 0 1 2).natAbs) (g' := (dz_ q' 0 1 2).natAbs) (fun n => by rw [Int.dvd_natAbs, Int.dvd_natAbs]; exact e n)
  exact this
/-! the least number of the rest of a square, row by row -/
def lb_ (q : Nat → Nat → Int) (k : Nat) : Option (Nat × Nat) → Prop
  | none => ∀ i j, k ≤ i → i < 3 → k ≤ j → j < 3 → q i j = 0
  | some p => k ≤ p.1 ∧ p.1 < 3 ∧ k ≤ p.2 ∧ p.2 < 3 ∧ q p.1 p.2 ≠ 0 ∧ (∀ i j, k ≤ i → i < 3 → k ≤ j → j < 3 → q i j ≠ 0 → (q p.1 p.2).natAbs ≤ (q i j).natAbs) ∧ (∀ i j, k ≤ i → i < 3 → k ≤ j → j < 3 → (i < p.1 ∨ (i = p.1 ∧ j < p.2)) → q i j ≠ 0 → (q p.1 p.2).natAbs < (q i j).natAbs)
/-- nothing left beside the corner -/
def cc_ (q : Nat → Nat → Int) (k : Nat) : Prop := (∀ i, k < i → i < 3 → q i k = 0) ∧ ∀ j, k < j → j < 3 → q k j = 0
def rz_ (q : Nat → Nat → Int) (k : Nat) : Prop := ∀ i j, k ≤ i → i < 3 → k ≤ j → j < 3 → zi_R (q i j)
/-- so many rounds clear row and column k, and what is reached satisfies F -/
def ts_ (k : Nat) (F : (Nat → Nat → Int) → Prop) : Nat → (Nat → Nat → Int) → Prop
  | 0, _ => False
  | m + 1, q => rz_ q k ∧ (lb_ q k none → F q) ∧ ∀ r c, lb_ q k (some (r, c)) → (cc_ (sr_ q k r c) k → F (sr_ q k r c)) ∧ (¬ cc_ (sr_ q k r c) k → ts_ k F m (sr_ q k r c))
theorem ts_mono {k : Nat} {F : (Nat → Nat → Int) → Prop} : ∀ {m n : Nat} {q : Nat → Nat → Int}, m ≤ n → ts_ k F m q → ts_ k F n q := by
  intro m
  induction m with
  | zero => intro n q _ h; exact absurd h (fun h => h)
  | succ m ih =>
    intro n q hmn h
    obtain ⟨n, rfl⟩ : ∃ n', n = n' + 1 := ⟨n - 1, by omega⟩
    refine ⟨h.1, h.2.1, fun r c hb => ⟨(h.2.2 r c hb).1, fun z => ih (by omega) ((h.2.2 r c hb).2 z)⟩⟩
end
section
/-! the class: the square's rounds, their walk -/
def sc_ (q : Nat → Nat → Int) (r : Nat) (t : Int) (s k : Nat) : Nat → Nat → Int := fun i j => if j = r ∧ i < k then q i r - t * q i s else q i j
theorem sc_0 (q : Nat → Nat → Int) (r : Nat) (t : Int) (s : Nat) : sc_ q r t s 0 = q := by funext i j; unfold sc_; rw [if_neg (by omega)]
theorem sc_s (q : Nat → Nat → Int) {r s : Nat} (t : Int) (k : Nat) : ms_ (sc_ q r t s k) k r (q k r - t * q k s) = sc_ q r t s (k + 1) := by
  funext i j; unfold ms_ sc_
  by_cases h : i = k ∧ j = r
  · rw [if_pos h, if_pos ⟨h.2, by omega⟩, h.1]
  · rw [if_neg h]
    by_cases h1 : j = r ∧ i < k
    · rw [if_pos h1, if_pos ⟨h1.1, by omega⟩]
    · rw [if_neg h1, if_neg (by omega)]
theorem sc_at (q : Nat → Nat → Int) (r : Nat) (t : Int) (s k j : Nat) : sc_ q r t s k k j = q k j := by unfold sc_; rw [if_neg (by omega)]
section
variable {fc fr fk fs fh fl fb : Int32} {aR aW aS aO aQ aD aE : Nat → Int32} {q : Nat → Nat → Int} {post : SX → Prop}
theorem xq_r3 {r s : Nat} {t : Int} (hr : r < 3) (hs : s < 3) (hp : post (fc, fr, fk, fs, fh, fl, fb, aR, aW, aS, aO, mE (sb_ q r t s 3), aD, aE)) : ∀ d k : Nat, k + d = 3 → wX_squareRow_3 post (nI r) (zi_v t) (nI s) fc fr fk fs fh fl fb (d + 1) (nI k) aR aW aS aO (mE (sb_ q r t s k)) aD aE := by
  intro d
  induction d with
  | zero =>
    intro k hk
    have : k = 3 := by omega
    subst this
    exact br_t (by decide) hp
  | succ d ih =>
    intro k hk
    refine br_f (nI_ge (a := k) (b := 3) (by omega) (by omega)) ⟨zn_in (by omega) (by omega), zn_in (by omega) (by omega), zn_in (by omega) (by omega), ?_⟩
    rw [mE_ix _ (show k < 3 by omega) (by omega), mE_ix _ (show k < 3 by omega) (by omega), sb_at, sb_at, zi_mul, zi_sub]
    refine nm_r (mE_updx _ (by omega) (by omega) _) (nm_r (nI_1 k) ?_)
    rw [sb_s]
    exact ih (k + 1) (by omega)
theorem xq_row {r s : Nat} {t : Int} (hr : r < 3) (hs : s < 3) (hp : post (fc, fr, fk, fs, fh, fl, fb, aR, aW, aS, aO, mE (sb_ q r t s 3), aD, aE)) : wpX_squareRow post (fc, fr, fk, fs, fh, fl, fb, aR, aW, aS, aO, mE q, aD, aE) (nI r) (zi_v t) (nI s) := by
  have := xq_r3 (q := q) (t := t) hr hs hp 3 0 (by omega)
  rw [sb_0] at this
  exact ⟨_, this⟩
theorem xq_c3 {r s : Nat} {t : Int} (hr : r < 3) (hs : s < 3) (hp : post (fc, fr, fk, fs, fh, fl, fb, aR, aW, aS, aO, mE (sc_ q r t s 3), aD, aE)) : ∀ d k : Nat, k + d = 3 → wX_squareColumn_3 post (nI r) (zi_v t) (nI s) fc fr fk fs fh fl fb (d + 1) (nI k) aR aW aS aO (mE (sc_ q r t s k)) aD aE := by
  intro d
  induction d with
  | zero =>
    intro k hk
    have : k = 3 := by omega
    subst this
    exact br_t (by decide) hp
  | succ d ih =>
    intro k hk
    refine br_f (nI_ge (a := k) (b := 3) (by omega) (by omega)) ⟨zn_in (by omega) (by omega), zn_in (by omega) (by omega), zn_in (by omega) (by omega), ?_⟩
    rw [mE_ix _ hr (by omega), mE_ix _ hs (by omega), sc_at, sc_at, zi_mul, zi_sub]
    refine nm_r (mE_updx _ hr (by omega) _) (nm_r (nI_1 k) ?_)
    rw [sc_s]
    exact ih (k + 1) (by omega)
theorem xq_col {r s : Nat} {t : Int} (hr : r < 3) (hs : s < 3) (hp : post (fc, fr, fk, fs, fh, fl, fb, aR, aW, aS, aO, mE (sc_ q r t s 3), aD, aE)) : wpX_squareColumn post (fc, fr, fk, fs, fh, fl, fb, aR, aW, aS, aO, mE q, aD, aE) (nI r) (zi_v t) (nI s) := by
  have := xq_c3 (q := q) (t := t) hr hs hp 3 0 (by omega)
  rw [sc_0] at this
  exact ⟨_, this⟩
end
/-- the flag of a thing -/
def fg_ (P : Prop) (x : Int32) : Prop := (x = 1 ∧ P) ∨ (x = 0 ∧ ¬ P)
theorem zn_4 (r : Nat) : 4 * nI r = nI (4 * r) := by
  have h3 : (4 : Int32) = nI 4 := rfl
  rw [h3, zn_mul]
theorem mE_4 (w : Nat → Nat → Int) {k : Nat} (h : k < 3) : mE w (4 * nI k).toNatClampNeg = zi_v (w k k) := by
  rw [zn_4, nI_clamp (by omega)]
  have : 4 * k = 3 * k + k := by omega
  rw [this]; exact mE_at w h
section
variable {fc fr fk fs fh fl fb : Int32} {aR aW aS aO aQ aD aE : Nat → Int32} {v : Nat → Nat → Int} {post : Int32 → SX → Prop}
theorem xq_76 {k : Nat} {P : Prop} (hk : k < 3) (h0 : v k k ≠ 0) (hR : ∀ j, k ≤ j → j < 3 → zi_R (v k j)) (hp : ∀ x, fg_ (P ∧ ∀ j, k < j → j < 3 → v k j - (v k j).fdiv (v k k) * v k k = 0) x → post x (fc, fr, fk, fs, fh, fl, fb, aR, aW, aS, aO, mE (cq_ v k 3), aD, aE)) : ∀ d c : Nat, ∀ x : Int32, c + d = 3 → k < c → fg_ (P ∧ ∀ j, k < j → j < c → v k j - (v k j).fdiv (v k k) * v k k = 0) x → wX_clearCross_76 post (nI k) (d + 1) x (nI c) fc fr fk fs fh fl fb aR aW aS aO (mE (cq_ v k c)) aD aE := by
  intro d
  induction d with
  | zero =>
    intro c x hc hkc hx
    have : c = 3 := by omega
    subst this
    refine br_t (by decide) ⟨zi_bool ?_, hp x hx⟩
    rcases hx with ⟨h, _⟩ | ⟨h, _⟩
    · exact Or.inr h
    · exact Or.inl h
  | succ d ih =>
    intro c x hc hkc hx
    have e1 : cq_ v k c k c = v k c := by unfold cq_; rw [if_neg (by omega)]
    have e2 : cq_ v k c k k = v k k := by unfold cq_; rw [if_neg (by omega)]
    refine br_f (nI_ge (a := c) (b := 3) (by omega) (by omega)) ⟨zn_in (by omega) (by omega), by rw [zn_4]; exact vp_in_nI (by omega) (by omega), ?_⟩
    rw [mE_ix _ (show c < 3 by omega) (by omega), mE_4 _ hk, e1, e2]
    refine xf_div (hR c (by omega) (by omega)) (hR k (by omega) hk) ?_
    refine xq_col (r := c) (s := k) (by omega) hk ?_
    have e3 : sc_ (cq_ v k c) c ((v k c).fdiv (v k k)) k 3 = cq_ v k (c + 1) := by
      funext i j
      unfold sc_ cq_
      by_cases z : j = c ∧ i < 3
      · obtain ⟨z1, z2⟩ := z
        subst z1
        rw [if_pos ⟨rfl, z2⟩, if_neg (by omega), if_neg (by omega), if_pos (by omega)]
      · rw [if_neg z]
        by_cases z' : k < j ∧ j < c ∧ i < 3
        · rw [if_pos z', if_pos (by omega)]
        · rw [if_neg z', if_neg (by omega)]
    rw [e3]
    have hv : cq_ v k (c + 1) k c = v k c - (v k c).fdiv (v k k) * v k k := by unfold cq_; rw [if_pos (by omega)]
    have hvR : zi_R (cq_ v k (c + 1) k c) := by
      rw [hv]
      have k1 := fm_lt (a := v k c) h0
      have := zi_absR (hR k (by omega) hk)
      exact zi_Rabs (by omega)
    rcases hx with ⟨hx, hP, hz⟩ | ⟨hx, hz⟩
    · subst hx
      refine br_f (by decide) ⟨zn_in (by omega) (by omega), ?_⟩
      rw [mE_ix _ (show c < 3 by omega) (by omega)]
      refine zc_eq _ 0 rfl rfl hvR zi_R0 (fun z => nm_r (nI_1 c) (ih (c + 1) 1 (by omega) (by omega) (Or.inl ⟨rfl, hP, fun j a b => ?_⟩))) (fun z => nm_r (nI_1 c) (ih (c + 1) 0 (by omega) (by omega) (Or.inr ⟨rfl, fun y => z ?_⟩)))
      · by_cases y : j = c
        · subst y; rw [← hv]; exact z
        · exact hz j a (by omega)
      · rw [hv]; exact y.2 c hkc (by omega)
    · subst hx
      refine br_t rfl (nm_r (nI_1 c) (ih (c + 1) 0 (by omega) (by omega) (Or.inr ⟨rfl, fun y => hz ⟨y.1, fun j a b => y.2 j a (by omega)⟩⟩)))
theorem xq_6 {k : Nat} (hk : k < 3) (h0 : v k k ≠ 0) (hR : ∀ i, k ≤ i → i < 3 → zi_R (v i k)) (hp : ∀ x, fg_ (∀ i, k < i → i < 3 → v i k - (v i k).fdiv (v k k) * v k k = 0) x → ∃ n, wX_clearCross_76 post (nI k) n x (nI (k + 1)) fc fr fk fs fh fl fb aR aW aS aO (mE (rp_ v k k 3)) aD aE) : ∀ d r : Nat, ∀ x : Int32, r + d = 3 → k < r → fg_ (∀ i, k < i → i < r → v i k - (v i k).fdiv (v k k) * v k k = 0) x → wX_clearCross_6 post (nI k) (d + 1) x (nI r) fc fr fk fs fh fl fb aR aW aS aO (mE (rp_ v k k r)) aD aE := by
  intro d
  induction d with
  | zero =>
    intro r x hr hkr hx
    have : r = 3 := by omega
    subst this
    exact br_t (by decide) (nm_r (nI_1 k) (hp x hx))
  | succ d ih =>
    intro r x hr hkr hx
    have e1 : rp_ v k k r r k = v r k := by unfold rp_; rw [if_neg (by omega)]
    have e2 : rp_ v k k r k k = v k k := by unfold rp_; rw [if_neg (by omega)]
    refine br_f (nI_ge (a := r) (b := 3) (by omega) (by omega)) ⟨zn_in (by omega) (by omega), by rw [zn_4]; exact vp_in_nI (by omega) (by omega), ?_⟩
    rw [mE_ix _ hk (by omega), mE_4 _ hk, e1, e2]
    refine xf_div (hR r (by omega) (by omega)) (hR k (by omega) hk) ?_
    refine xq_row (r := r) (s := k) (by omega) hk ?_
    have e3 : mE (sb_ (rp_ v k k r) r ((v r k).fdiv (v k k)) k 3) = mE (rp_ v k k (r + 1)) := by
      refine mE_ext (fun i j hj => ?_)
      unfold sb_ rp_
      by_cases z : i = r
      · subst z
        rw [if_pos ⟨rfl, hj⟩, if_neg (by omega), if_neg (by omega), if_pos (by omega)]
      · rw [if_neg (by omega)]
        by_cases z' : k < i ∧ i < r
        · rw [if_pos z', if_pos (by omega)]
        · rw [if_neg z', if_neg (by omega)]
    rw [e3]
    have hv : rp_ v k k (r + 1) r k = v r k - (v r k).fdiv (v k k) * v k k := by unfold rp_; rw [if_pos (by omega)]
    have hvR : zi_R (rp_ v k k (r + 1) r k) := by
      rw [hv]
      have k1 := fm_lt (a := v r k) h0
      have := zi_absR (hR k (by omega) hk)
      exact zi_Rabs (by omega)
    rcases hx with ⟨hx, hz⟩ | ⟨hx, hz⟩
    · subst hx
      refine br_f (by decide) ⟨zn_in (by omega) (by omega), ?_⟩
      rw [mE_ix _ hk (by omega)]
      refine zc_eq _ 0 rfl rfl hvR zi_R0 (fun z => nm_r (nI_1 r) (ih (r + 1) 1 (by omega) (by omega) (Or.inl ⟨rfl, fun j a b => ?_⟩))) (fun z => nm_r (nI_1 r) (ih (r + 1) 0 (by omega) (by omega) (Or.inr ⟨rfl, fun y => z ?_⟩)))
      · by_cases y : j = r
        · subst y; rw [← hv]; exact z
        · exact hz j a (by omega)
      · rw [hv]; exact y r hkr (by omega)
    · subst hx
      refine br_t rfl (nm_r (nI_1 r) (ih (r + 1) 0 (by omega) (by omega) (Or.inr ⟨rfl, fun y => hz (fun j a b => y j a (by omega))⟩)))
theorem fg_c {P Q : Prop} (h : P ↔ Q) {x : Int32} (hx : fg_ P x) : fg_ Q x := by rw [← propext h]; exact hx
theorem xq_cross {k : Nat} (hk : k < 3) (h0 : v k k ≠ 0) (hR : ∀ i, k ≤ i → i < 3 → zi_R (v i k)) (hR' : ∀ j, k ≤ j → j < 3 → zi_R (v k j)) (hp : ∀ x, fg_ (cc_ (cq_ (rp_ v k k 3) k 3) k) x → post x (fc, fr, fk, fs, fh, fl, fb, aR, aW, aS, aO, mE (cq_ (rp_ v k k 3) k 3), aD, aE)) : wpX_clearCross post (fc, fr, fk, fs, fh, fl, fb, aR, aW, aS, aO, mE v, aD, aE) (nI k) := by
  have rk : ∀ j, rp_ v k k 3 k j = v k j := fun j => by unfold rp_; rw [if_neg (by omega)]
  have c1 : ∀ i, k < i → i < 3 → cq_ (rp_ v k k 3) k 3 i k = v i k - (v i k).fdiv (v k k) * v k k := by
    intro i a b
    unfold cq_; rw [if_neg (by omega)]; unfold rp_; rw [if_pos ⟨a, b⟩]
  have c2 : ∀ j, k < j → j < 3 → cq_ (rp_ v k k 3) k 3 k j = v k j - (v k j).fdiv (v k k) * v k k := by
    intro j a b
    unfold cq_; rw [if_pos ⟨a, b, hk⟩, rk, rk]
  refine nm_r (nI_1 k) ?_
  have main := xq_6 (post := post) (fc := fc) (fr := fr) (fk := fk) (fs := fs) (fh := fh) (fl := fl) (fb := fb) (aR := aR) (aW := aW) (aS := aS) (aO := aO) (aD := aD) (aE := aE) hk h0 hR (fun x hx => ?_) (3 - (k + 1)) (k + 1) 1 (by omega) (by omega) (Or.inl ⟨rfl, fun i a b => absurd b (by omega)⟩)
  · rw [rp_0] at main
    exact ⟨_, main⟩
  · have m2 := xq_76 (post := post) (v := rp_ v k k 3) (P := ∀ i, k < i → i < 3 → v i k - (v i k).fdiv (v k k) * v k k = 0) (fc := fc) (fr := fr) (fk := fk) (fs := fs) (fh := fh) (fl := fl) (fb := fb) (aR := aR) (aW := aW) (aS := aS) (aO := aO) (aD := aD) (aE := aE) hk (by rw [rk]; exact h0) (fun j a b => by rw [rk]; exact hR' j a b) (fun x hx => hp x (fg_c ?_ hx)) (3 - (k + 1)) (k + 1) x (by omega) (by omega) (fg_c ⟨fun h => ⟨h, fun j a b => absurd b (by omega)⟩, fun h => h.1⟩ hx)
    · have ez : cq_ (rp_ v k k 3) k (k + 1) = rp_ v k k 3 := by funext i j; unfold cq_; rw [if_neg (by omega)]
      rw [ez] at m2
      exact ⟨_, m2⟩
    · unfold cc_
      constructor
      · rintro ⟨y1, y2⟩
        refine ⟨fun i a b => by rw [c1 i a b]; exact y1 i a b, fun j a b => ?_⟩
        rw [c2 j a b]
        have := y2 j a b
        rw [rk, rk] at this; exact this
      · rintro ⟨y1, y2⟩
        refine ⟨fun i a b => by rw [← c1 i a b]; exact y1 i a b, fun j a b => ?_⟩
        rw [rk, rk, ← c2 j a b]; exact y2 j a b
end
end
section
/-! the class: the least number brought to the corner; rounds -/
def op_ : Option (Nat × Nat) → Int32
  | none => -1
  | some p => nI (3 * p.1 + p.2)
def bf_ (i j i' j' : Nat) : Prop := i < i' ∨ (i = i' ∧ j < j')
def lp_ (q : Nat → Nat → Int) (k i j : Nat) : Option (Nat × Nat) → Prop
  | none => ∀ i' j', k ≤ i' → i' < 3 → k ≤ j' → j' < 3 → bf_ i' j' i j → q i' j' = 0
  | some p => k ≤ p.1 ∧ p.1 < 3 ∧ k ≤ p.2 ∧ p.2 < 3 ∧ bf_ p.1 p.2 i j ∧ q p.1 p.2 ≠ 0 ∧ (∀ i' j', k ≤ i' → i' < 3 → k ≤ j' → j' < 3 → bf_ i' j' i j → q i' j' ≠ 0 → (q p.1 p.2).natAbs ≤ (q i' j').natAbs) ∧ (∀ i' j', k ≤ i' → i' < 3 → k ≤ j' → j' < 3 → bf_ i' j' p.1 p.2 → q i' j' ≠ 0 → (q p.1 p.2).natAbs < (q i' j').natAbs)
theorem lp_next {q : Nat → Nat → Int} {k i j i2 j2 : Nat} (h : ∀ i' j', k ≤ i' → i' < 3 → k ≤ j' → j' < 3 → (bf_ i' j' i j ↔ bf_ i' j' i2 j2)) {b : Option (Nat × Nat)} (hb : lp_ q k i j b) : lp_ q k i2 j2 b := by
  cases b with
  | none => exact fun i' j' a1 a2 a3 a4 a5 => hb i' j' a1 a2 a3 a4 ((h i' j' a1 a2 a3 a4).mpr a5)
  | some p =>
    obtain ⟨b1, b2, b3, b4, b5, b6, b7, b8⟩ := hb
    exact ⟨b1, b2, b3, b4, (h _ _ b1 b2 b3 b4).mp b5, b6, fun i' j' a1 a2 a3 a4 a5 => b7 i' j' a1 a2 a3 a4 ((h i' j' a1 a2 a3 a4).mpr a5), b8⟩
section
variable {fc fr fk fs fh fl fb : Int32} {aR aW aS aO aQ aD aE : Nat → Int32} {q : Nat → Nat → Int} {post : Int32 → SX → Prop}
theorem xl_12 {J4 : Int32 → Int32 → Prop} {k i : Nat} (hk : k < 3) (hki : k ≤ i) (hi : i < 3) (hR : rz_ q k) (hJ : ∀ b, lp_ q k (i + 1) k b → J4 (op_ b) (nI (i + 1))) : ∀ d j : Nat, ∀ b, j + d = 3 → k ≤ j → lp_ q k i j b → wX_bringLeast_12 post J4 (nI k) (nI i) fc fr fk fs fh fl fb aR aW aS aO (mE q) aD aE (d + 1) (op_ b) (nI j) := by
  intro d
  induction d with
  | zero =>
    intro j b hj hkj hb
    have : j = 3 := by omega
    subst this
    refine br_t (by decide) (nm_r (nI_1 i) (hJ b (lp_next (fun i' j' a1 a2 a3 a4 => ?_) hb)))
    unfold bf_; omega
  | succ d ih =>
    intro j b hj hkj hb
    have nx : ∀ i' j', k ≤ i' → i' < 3 → k ≤ j' → j' < 3 → bf_ i' j' i (j + 1) → bf_ i' j' i j ∨ (i' = i ∧ j' = j) := by
      intro i' j' _ _ _ _ h; unfold bf_ at *; omega
    refine br_f (nI_ge (a := j) (b := 3) (by omega) (by omega)) ⟨zn_in (by omega) (by omega), ?_⟩
    rw [mE_ix q (show j < 3 by omega) (by omega)]
    have hRj := hR i j hki hi hkj (by omega)
    have new : (∀ i' j', k ≤ i' → i' < 3 → k ≤ j' → j' < 3 → bf_ i' j' i j → q i' j' ≠ 0 → (q i j).natAbs < (q i' j').natAbs) → q i j ≠ 0 → wX_bringLeast_59 post J4 (wX_bringLeast_12 post J4 (nI k) (nI i) fc fr fk fs fh fl fb aR aW aS aO (mE q) aD aE (d + 1)) (nI k) (nI i) (nI j) fc fr fk fs fh fl fb aR aW aS aO (mE q) aD aE := by
      intro h1 h2
      refine nm_r (zn_ix i j) (nm_r (nI_1 j) (ih (j + 1) (some (i, j)) (by omega) (by omega) ⟨hki, hi, hkj, by omega, by unfold bf_; omega, h2, fun i' j' a1 a2 a3 a4 a5 a6 => ?_, h1⟩))
      rcases nx i' j' a1 a2 a3 a4 a5 with h | ⟨h, h'⟩
      · exact Nat.le_of_lt (h1 i' j' a1 a2 a3 a4 h a6)
      · subst h; subst h'; exact Nat.le_refl _
    refine xf_size hRj ?_
    refine zn_eq (b := 0) (zi_absR hRj) (by omega) (fun h0 => nm_r (nI_1 j) (ih (j + 1) b (by omega) (by omega) ?_)) (fun h0 => ?_)
    · have z : q i j = 0 := by omega
      cases b with
      | none =>
        intro i' j' a1 a2 a3 a4 a5
        rcases nx i' j' a1 a2 a3 a4 a5 with h | ⟨h, h'⟩
        · exact hb i' j' a1 a2 a3 a4 h
        · subst h; subst h'; exact z
      | some p =>
        obtain ⟨b1, b2, b3, b4, b5, b6, b7, b8⟩ := hb
        refine ⟨b1, b2, b3, b4, by unfold bf_ at *; omega, b6, fun i' j' a1 a2 a3 a4 a5 a6 => ?_, b8⟩
        rcases nx i' j' a1 a2 a3 a4 a5 with h | ⟨h, h'⟩
        · exact b7 i' j' a1 a2 a3 a4 h a6
        · subst h; subst h'; exact absurd z a6
    · have z : q i j ≠ 0 := by omega
      cases b with
      | none => exact br_t (by decide) (new (fun i' j' a1 a2 a3 a4 a5 a6 => absurd (hb i' j' a1 a2 a3 a4 a5) a6) z)
      | some p =>
        obtain ⟨b1, b2, b3, b4, b5, b6, b7, b8⟩ := hb
        have hRp := hR p.1 p.2 b1 b2 b3 b4
        refine br_f (nI_pos (by omega)) ⟨vp_in_nI (by omega) (by omega), ?_⟩
        have ep : mE q (op_ (some p)).toNatClampNeg = zi_v (q p.1 p.2) := by
          show mE q (nI (3 * p.1 + p.2)).toNatClampNeg = _
          rw [nI_clamp (by omega)]; exact mE_at q b4
        rw [ep]
        refine xf_size hRp ?_
        refine zn_le (zi_absR hRp) (zi_absR hRj) (fun h1 => nm_r (nI_1 j) (ih (j + 1) (some p) (by omega) (by omega) ⟨b1, b2, b3, b4, by unfold bf_ at *; omega, b6, fun i' j' a1 a2 a3 a4 a5 a6 => ?_, b8⟩)) (fun h1 => new (fun i' j' a1 a2 a3 a4 a5 a6 => ?_) z)
        · rcases nx i' j' a1 a2 a3 a4 a5 with h | ⟨h, h'⟩
          · exact b7 i' j' a1 a2 a3 a4 h a6
          · subst h; subst h'; exact h1
        · have := b7 i' j' a1 a2 a3 a4 a5 a6; omega
theorem xl_4 {k : Nat} (hk : k < 3) (hR : rz_ q k) (hp : ∀ b, lp_ q k 3 k b → wX_bringLeast_4 post (nI k) fc fr fk fs fh fl fb aR aW aS aO (mE q) aD aE 1 (op_ b) (nI 3)) : ∀ d i : Nat, ∀ b, i + d = 3 → k ≤ i → lp_ q k i k b → wX_bringLeast_4 post (nI k) fc fr fk fs fh fl fb aR aW aS aO (mE q) aD aE (d + 1) (op_ b) (nI i) := by
  intro d
  induction d with
  | zero =>
    intro i b hi hki hb
    have : i = 3 := by omega
    subst this
    exact hp b hb
  | succ d ih =>
    intro i b hi hki hb
    refine br_f (nI_ge (a := i) (b := 3) (by omega) (by omega)) ⟨_, xl_12 hk hki (by omega) hR (fun b' hb' => ih (i + 1) b' (by omega) (by omega) hb') (3 - k) k b (by omega) (Nat.le_refl _) hb⟩
theorem xl_96 {k r c : Nat} (hk : k < 3) (hr : r < 3) (hp : ∃ n, wX_bringLeast_159 post (nI k) (nI c) fc fr fk fs fh fl fb n 0 aR aW aS aO (mE (ex_ q k r 3)) aD aE) : ∀ d j : Nat, j + d = 3 → wX_bringLeast_96 post (nI k) (nI r) (nI c) fc fr fk fs fh fl fb (d + 1) (nI j) aR aW aS aO (mE (ex_ q k r j)) aD aE := by
  intro d
  induction d with
  | zero =>
    intro j hj
    have : j = 3 := by omega
    subst this
    exact br_t (by decide) hp
  | succ d ih =>
    intro j hj
    refine br_f (nI_ge (a := j) (b := 3) (by omega) (by omega)) ⟨zn_in (by omega) (by omega), nm_r (mE_ix _ (by omega) (by omega)) ⟨zn_in (by omega) (by omega), zn_in (by omega) (by omega), ?_⟩⟩
    rw [mE_ix _ (show j < 3 by omega) (by omega), ex_at, ex_at]
    refine nm_r (mE_updx _ (by omega) (by omega) _) ⟨zn_in (by omega) (by omega), nm_r (mE_updx _ (by omega) (by omega) _) (nm_r (nI_1 j) ?_)⟩
    rw [ex_s]
    exact ih (j + 1) (by omega)
theorem xl_159 {k c : Nat} (hk : k < 3) (hc : c < 3) (hp : post 1 (fc, fr, fk, fs, fh, fl, fb, aR, aW, aS, aO, mE (sw_ q k c 3), aD, aE)) : ∀ d j : Nat, j + d = 3 → wX_bringLeast_159 post (nI k) (nI c) fc fr fk fs fh fl fb (d + 1) (nI j) aR aW aS aO (mE (sw_ q k c j)) aD aE := by
  intro d
  induction d with
  | zero =>
    intro j hj
    have : j = 3 := by omega
    subst this
    exact br_t (by decide) hp
  | succ d ih =>
    intro j hj
    refine br_f (nI_ge (a := j) (b := 3) (by omega) (by omega)) ⟨zn_in (by omega) (by omega), nm_r (mE_ix _ hk (by omega)) ⟨zn_in (by omega) (by omega), zn_in (by omega) (by omega), ?_⟩⟩
    rw [mE_ix _ hc (by omega), sw_at, sw_at]
    refine nm_r (mE_updx _ hk (by omega) _) ⟨zn_in (by omega) (by omega), nm_r (mE_updx _ hc (by omega) _) (nm_r (nI_1 j) ?_)⟩
    rw [sw_s]
    exact ih (j + 1) (by omega)
theorem xl_bring {k : Nat} (hk : k < 3) (hR : rz_ q k) (h0 : lb_ q k none → post 0 (fc, fr, fk, fs, fh, fl, fb, aR, aW, aS, aO, mE q, aD, aE)) (h1 : ∀ r c, lb_ q k (some (r, c)) → post 1 (fc, fr, fk, fs, fh, fl, fb, aR, aW, aS, aO, mE (yw_ (xw_ q k r) k c), aD, aE)) : wpX_bringLeast post (fc, fr, fk, fs, fh, fl, fb, aR, aW, aS, aO, mE q, aD, aE) (nI k) := by
  refine ⟨_, xl_4 hk hR (fun b hb => ?_) (3 - k) k none (by omega) (Nat.le_refl _) (fun i' j' a1 a2 a3 a4 a5 => absurd a5 (by unfold bf_; omega))⟩
  refine br_t (by decide) ?_
  cases b with
  | none =>
    refine br_f (by decide) (h0 (fun i j a1 a2 a3 a4 => hb i j a1 a2 a3 a4 (by unfold bf_; omega)))
  | some p =>
    obtain ⟨r, c⟩ := p
    obtain ⟨b1, b2, b3, b4, b5, b6, b7, b8⟩ := hb
    dsimp only at b1 b2 b3 b4 b5 b6 b7 b8
    have hb' : lb_ q k (some (r, c)) := ⟨b1, b2, b3, b4, b6, fun i j a1 a2 a3 a4 a5 => b7 i j a1 a2 a3 a4 (by unfold bf_; omega) a5, fun i j a1 a2 a3 a4 a5 a6 => b8 i j a1 a2 a3 a4 a5 a6⟩
    have e1 : (op_ (some (r, c))) / 3 = nI r := by
      show nI (3 * r + c) / nI 3 = nI r
      rw [zn_div (by omega) (by omega)]
      have : (3 * r + c) / 3 = r := by omega
      rw [this]
    have e2 : op_ (some (r, c)) - op_ (some (r, c)) / 3 * 3 = nI c := by
      show nI (3 * r + c) - nI (3 * r + c) / nI 3 * nI 3 = nI c
      rw [zn_rem (by omega) (by omega)]
      have : (3 * r + c) % 3 = c := by omega
      rw [this]
    refine br_t (nI_pos' (by omega)) ⟨by decide, nm_r e1 ⟨by decide, nm_r e2 ?_⟩⟩
    have m2 := xl_159 (post := post) (q := ex_ q k r 3) (fc := fc) (fr := fr) (fk := fk) (fs := fs) (fh := fh) (fl := fl) (fb := fb) (aR := aR) (aW := aW) (aS := aS) (aO := aO) (aD := aD) (aE := aE) hk b4 ?_ 3 0 (by omega)
    · rw [sw_0] at m2
      have m1 := xl_96 (post := post) (q := q) (c := c) (fc := fc) (fr := fr) (fk := fk) (fs := fs) (fh := fh) (fl := fl) (fb := fb) (aR := aR) (aW := aW) (aS := aS) (aO := aO) (aD := aD) (aE := aE) hk b2 ⟨_, m2⟩ 3 0 (by omega)
      rw [ex_0] at m1
      exact ⟨_, m1⟩
    · have e : mE (sw_ (ex_ q k r 3) k c 3) = mE (yw_ (xw_ q k r) k c) := by
        refine mE_ext (fun i j hj => ?_)
        unfold yw_ sw_ ex_ xw_
        rw [if_pos hk, if_pos b4, if_pos hj]
      rw [e]; exact h1 r c hb'
end
section
variable {fc fr fk fs fh fl fb : Int32} {aR aW aS aO aQ aD aE : Nat → Int32} {post : SX → Prop}
theorem xy_k {q : Nat → Nat → Int} {k r c : Nat} (hk : k < 3) : yw_ (xw_ q k r) k c k k = q r c := by
  unfold yw_ sw_
  rw [if_pos hk]
  by_cases z : k = c
  · rw [if_pos z, xw_f, z]
  · rw [if_neg z, if_pos rfl, xw_f]
theorem xy_all {q : Nat → Nat → Int} {k r c : Nat} {P : Int → Prop} (hk : k < 3) (hr : k ≤ r) (hr3 : r < 3) (hc : k ≤ c) (hc3 : c < 3) (h : ∀ i j, k ≤ i → i < 3 → k ≤ j → j < 3 → P (q i j)) : ∀ i j, k ≤ i → i < 3 → k ≤ j → j < 3 → P (yw_ (xw_ q k r) k c i j) := by
  have h1 : ∀ j, k ≤ j → j < 3 → ∀ i, k ≤ i → i < 3 → P (xw_ q k r i j) := fun j a b => xw_all hr hr3 (fun i a' b' => h i j a' b' a b)
  intro i j a1 a2 a3 a4
  unfold yw_ sw_
  rw [if_pos a2]
  by_cases z : j = c
  · rw [if_pos z]; exact h1 k (Nat.le_refl _) hk i a1 a2
  · rw [if_neg z]
    by_cases z' : j = k
    · rw [if_pos z']; exact h1 c hc hc3 i a1 a2
    · rw [if_neg z']; exact h1 j a3 a4 i a1 a2
theorem xq_49 {J40 : Int32 → Int32 → Int32 → Int32 → Int32 → Int32 → Int32 → Int32 → (Nat → Int32) → (Nat → Int32) → (Nat → Int32) → (Nat → Int32) → (Nat → Int32) → (Nat → Int32) → (Nat → Int32) → Prop} {k : Nat} {F : (Nat → Nat → Int) → Prop} (hk : k < 3) (hp : ∀ q', F q' → wX_buildShape_91 post J40 (nI k) fc fr fk fs fh fl fb aR aW aS aO (mE q') aD aE) : ∀ m x : Nat, x + m = 60 → ∀ q : Nat → Nat → Int, ts_ k F m q → wX_buildShape_49 post J40 (nI k) (m + 1) 0 (nI x) fc fr fk fs fh fl fb aR aW aS aO (mE q) aD aE := by
  intro m
  induction m with
  | zero => intro x _ q h; exact absurd h (fun h => h)
  | succ m ih =>
    intro x hx q ht
    obtain ⟨hR, ht0, ht⟩ := ht
    refine br_f (nI_ge (a := x) (b := 60) (by omega) (by omega)) (br_t rfl ?_)
    refine xl_bring hk hR (fun hb => ?_) (fun r c hb => ?_)
    · refine br_t rfl (nm_r (nI_1 x) ?_)
      have := hp q (ht0 hb)
      exact br_c (fun _ => this) (fun _ => br_f (by decide) this)
    · refine br_f (by decide) ?_
      obtain ⟨b1, b2, b3, b4, b5, _, _⟩ := hb
      have hb : lb_ q k (some (r, c)) := ⟨b1, b2, b3, b4, b5, by assumption, by assumption⟩
      dsimp only at b1 b2 b3 b4 b5
      have hRx := xy_all (P := zi_R) hk b1 b2 b3 b4 hR
      refine xq_cross hk (by rw [xy_k hk]; exact b5) (fun i a b => hRx i k a b (Nat.le_refl _) hk) (fun j a b => hRx k j (Nat.le_refl _) hk a b) (fun f hf => ?_)
      rcases hf with ⟨hf, hcc⟩ | ⟨hf, hcc⟩
      · subst hf
        refine br_f (by decide) (nm_r (nI_1 x) ?_)
        have := hp _ ((ht r c hb).1 hcc)
        exact br_c (fun _ => this) (fun _ => br_f (by decide) this)
      · subst hf
        refine br_t rfl (nm_r (nI_1 x) ?_)
        exact ih (x + 1) (by omega) _ ((ht r c hb).2 hcc)
end
end
section
/-! the square's first corner: sizes, and that the rounds end -/
def sv_ (k s i : Nat) : Nat := if i = s then k else if i = k then s else i
theorem xw_sv (q : Nat → Nat → Int) (k r i j : Nat) : xw_ q k r i j = q (sv_ k r i) j := by
  unfold xw_ sv_
  by_cases h : i = r
  · rw [if_pos h, if_pos h]
  · rw [if_neg h, if_neg h]
    by_cases h' : i = k
    · rw [if_pos h', if_pos h']
    · rw [if_neg h', if_neg h']
theorem xy_sv (q : Nat → Nat → Int) {k r c i : Nat} (hi : i < 3) (j : Nat) : yw_ (xw_ q k r) k c i j = q (sv_ k r i) (sv_ k c j) := by
  unfold yw_ sw_
  rw [if_pos hi, xw_sv, xw_sv, xw_sv]
  unfold sv_
  by_cases h : j = c
  · rw [if_pos h, if_pos h]
  · rw [if_neg h, if_neg h]
    by_cases h' : j = k
    · rw [if_pos h', if_pos h']
    · rw [if_neg h', if_neg h']
theorem sv_k (k s : Nat) : sv_ k s k = s := by
  unfold sv_
  by_cases h : k = s
  · rw [if_pos h]; exact h
  · rw [if_neg h, if_pos rfl]
theorem sr_kk (q : Nat → Nat → Int) {k r c : Nat} (hk : k < 3) : sr_ q k r c k k = q r c := by
  unfold sr_ cq_ rp_
  rw [if_neg (by omega), if_neg (by omega), xy_k hk]
theorem sr_ik (q : Nat → Nat → Int) {k r c i : Nat} (hk : k < 3) (h1 : k < i) (h2 : i < 3) : sr_ q k r c i k = q (sv_ k r i) c - (q (sv_ k r i) c).fdiv (q r c) * q r c := by
  unfold sr_ cq_ rp_
  rw [if_neg (by omega), if_pos ⟨h1, h2⟩, xy_k hk, xy_sv q h2, sv_k]
theorem sr_kj (q : Nat → Nat → Int) {k r c j : Nat} (hk : k < 3) (h1 : k < j) (h2 : j < 3) : sr_ q k r c k j = q r (sv_ k c j) - (q r (sv_ k c j)).fdiv (q r c) * q r c := by
  unfold sr_ cq_ rp_
  rw [if_pos ⟨h1, h2, hk⟩, if_neg (by omega), if_neg (by omega), xy_k hk, xy_sv q hk, sv_k]
theorem sr_ij (q : Nat → Nat → Int) {k r c i j : Nat} (hk : k < 3) (h1 : k < i) (h2 : i < 3) (h3 : k < j) (h4 : j < 3) : sr_ q k r c i j = (q (sv_ k r i) (sv_ k c j) - (q (sv_ k r i) c).fdiv (q r c) * q r (sv_ k c j)) - (q r (sv_ k c j)).fdiv (q r c) * (q (sv_ k r i) c - (q (sv_ k r i) c).fdiv (q r c) * q r c) := by
  unfold sr_ cq_ rp_
  rw [if_pos ⟨h3, h4, h2⟩, if_pos ⟨h1, h2⟩, if_neg (by omega), if_neg (by omega), if_pos ⟨h1, h2⟩, xy_k hk, xy_sv q h2, xy_sv q h2, xy_sv q hk, sv_k, sv_k]
/-- minors through the corner stay -/
theorem sr_mm (q : Nat → Nat → Int) {k r c i j : Nat} (hk : k < 3) (h1 : k < i) (h2 : i < 3) (h3 : k < j) (h4 : j < 3) : sr_ q k r c k k * sr_ q k r c i j - sr_ q k r c i k * sr_ q k r c k j = q r c * q (sv_ k r i) (sv_ k c j) - q (sv_ k r i) c * q r (sv_ k c j) := by
  rw [sr_kk q hk, sr_ij q hk h1 h2 h3 h4, sr_ik q hk h1 h2, sr_kj q hk h3 h4]
  generalize (q (sv_ k r i) c).fdiv (q r c) = x
  generalize (q r (sv_ k c j)).fdiv (q r c) = y
  grind
theorem sv_ne {k s i : Nat} (h : k < i) : sv_ k s i ≠ s := by
  unfold sv_
  split
  · omega
  · split <;> omega
theorem sv_lt {k s i : Nat} (hk : k < 3) (hs : s < 3) (hi : i < 3) : sv_ k s i < 3 := by
  unfold sv_
  split
  · omega
  · split <;> omega
theorem sv_ge {k s i : Nat} (hs : k ≤ s) (hi : k ≤ i) : k ≤ sv_ k s i := by
  unfold sv_
  split
  · omega
  · split <;> omega
theorem hk_1 {P M x u : Int} {m : Nat} (h : P * M = x * u) (hP : P ≠ 0) (hx : x.natAbs < P.natAbs) (hu : u.natAbs ≤ m) : M.natAbs ≤ m := by
  have h1 : P.natAbs * M.natAbs = x.natAbs * u.natAbs := by rw [← Int.natAbs_mul, ← Int.natAbs_mul, h]
  have h2 : x.natAbs * u.natAbs ≤ P.natAbs * m := Nat.mul_le_mul (by omega) hu
  exact Nat.le_of_mul_le_mul_left (by rw [h1]; exact h2) (by omega)
theorem hk_2 {P M x y u v : Int} {m : Nat} (h : P * M = x * u - y * v) (hP : P ≠ 0) (hx : x.natAbs < P.natAbs) (hy : y.natAbs < P.natAbs) (hu : u.natAbs ≤ m) (hv : v.natAbs ≤ m) : M.natAbs ≤ 2 * m := by
  have h1 : P.natAbs * M.natAbs = (x * u - y * v).natAbs := by rw [← Int.natAbs_mul, h]
  have h2 : (x * u).natAbs ≤ P.natAbs * m := by rw [Int.natAbs_mul]; exact Nat.mul_le_mul (by omega) hu
  have h3 : (y * v).natAbs ≤ P.natAbs * m := by rw [Int.natAbs_mul]; exact Nat.mul_le_mul (by omega) hv
  have h4 : P.natAbs * (2 * m) = P.natAbs * m + P.natAbs * m := by rw [Nat.two_mul, Nat.mul_add]
  have h5 : P.natAbs * M.natAbs ≤ P.natAbs * (2 * m) := by
    rw [h1, h4]
    generalize x * u = t1 at *
    generalize y * v = t2 at *
    generalize P.natAbs * m = s at *
    omega
  exact Nat.le_of_mul_le_mul_left h5 (by omega)
theorem hk_m {p x y u m : Nat} (hx : x < p) (hy : y < p) (hu : u ≤ m) : x * y * u ≤ p * p * m := Nat.mul_le_mul (Nat.mul_le_mul (by omega) (by omega)) hu
theorem hk_3 {P M x y u D : Int} {m d : Nat} (h : P * (P * M) = P * D + x * y * u) (hP : P ≠ 0) (hx : x.natAbs < P.natAbs) (hy : y.natAbs < P.natAbs) (hu : u.natAbs ≤ m) (hD : D.natAbs ≤ d) : M.natAbs ≤ m + d := by
  have h1 : P.natAbs * (P.natAbs * M.natAbs) = (P * D + x * y * u).natAbs := by rw [← Int.natAbs_mul, ← Int.natAbs_mul, h]
  have h2 : (P * D).natAbs ≤ P.natAbs * P.natAbs * d := by
    rw [Int.natAbs_mul]
    refine Nat.le_trans (Nat.mul_le_mul_left _ hD) (Nat.mul_le_mul_right _ (Nat.le_mul_of_pos_right _ (by omega)))
  have h3 : (x * y * u).natAbs ≤ P.natAbs * P.natAbs * m := by rw [Int.natAbs_mul, Int.natAbs_mul]; exact hk_m hx hy hu
  have h4 : P.natAbs * P.natAbs * (m + d) = P.natAbs * P.natAbs * m + P.natAbs * P.natAbs * d := Nat.mul_add _ _ _
  have h5 : P.natAbs * P.natAbs * M.natAbs ≤ P.natAbs * P.natAbs * (m + d) := by rw [Nat.mul_assoc, h1]; omega
  exact Nat.le_of_mul_le_mul_left h5 (Nat.mul_pos (by omega) (by omega))
theorem hk_4 {P M x1 x2 y1 y2 u1 u2 u3 u4 D : Int} {m d : Nat} (h : P * (P * M) = P * D + x1 * y1 * u1 - x1 * y2 * u2 - x2 * y1 * u3 + x2 * y2 * u4) (hP : P ≠ 0) (hx1 : x1.natAbs < P.natAbs) (hx2 : x2.natAbs < P.natAbs) (hy1 : y1.natAbs < P.natAbs) (hy2 : y2.natAbs < P.natAbs) (hu1 : u1.natAbs ≤ m) (hu2 : u2.natAbs ≤ m) (hu3 : u3.natAbs ≤ m) (hu4 : u4.natAbs ≤ m) (hD : D.natAbs ≤ d) : M.natAbs ≤ 4 * m + d := by
  have h1 : P.natAbs * (P.natAbs * M.natAbs) = (P * D + x1 * y1 * u1 - x1 * y2 * u2 - x2 * y1 * u3 + x2 * y2 * u4).natAbs := by rw [← Int.natAbs_mul, ← Int.natAbs_mul, h]
  have h2 : (P * D).natAbs ≤ P.natAbs * P.natAbs * d := by
    rw [Int.natAbs_mul]
    refine Nat.le_trans (Nat.mul_le_mul_left _ hD) (Nat.mul_le_mul_right _ (Nat.le_mul_of_pos_right _ (by omega)))
  have a1 : (x1 * y1 * u1).natAbs ≤ P.natAbs * P.natAbs * m := by rw [Int.natAbs_mul, Int.natAbs_mul]; exact hk_m hx1 hy1 hu1
  have a2 : (x1 * y2 * u2).natAbs ≤ P.natAbs * P.natAbs * m := by rw [Int.natAbs_mul, Int.natAbs_mul]; exact hk_m hx1 hy2 hu2
  have a3 : (x2 * y1 * u3).natAbs ≤ P.natAbs * P.natAbs * m := by rw [Int.natAbs_mul, Int.natAbs_mul]; exact hk_m hx2 hy1 hu3
  have a4 : (x2 * y2 * u4).natAbs ≤ P.natAbs * P.natAbs * m := by rw [Int.natAbs_mul, Int.natAbs_mul]; exact hk_m hx2 hy2 hu4
  have h4 : P.natAbs * P.natAbs * (4 * m + d) = 4 * (P.natAbs * P.natAbs * m) + P.natAbs * P.natAbs * d := by rw [Nat.mul_add]; congr 1; grind
  have h5 : P.natAbs * P.natAbs * M.natAbs ≤ P.natAbs * P.natAbs * (4 * m + d) := by
    rw [Nat.mul_assoc, h1, h4]
    generalize P * D = t0 at *
    generalize x1 * y1 * u1 = t1 at *
    generalize x1 * y2 * u2 = t2 at *
    generalize x2 * y1 * u3 = t3 at *
    generalize x2 * y2 * u4 = t4 at *
    generalize P.natAbs * P.natAbs * m = s1 at *
    generalize P.natAbs * P.natAbs * d = s2 at *
    omega
  exact Nat.le_of_mul_le_mul_left h5 (Nat.mul_pos (by omega) (by omega))
/-- a cleared corner with bounds -/
def zc_ (q : Nat → Nat → Int) (M : Nat) : Prop := q 0 0 ≠ 0 ∧ (∀ i, 0 < i → i < 3 → (q i 0).natAbs < (q 0 0).natAbs ∧ (q 0 i).natAbs < (q 0 0).natAbs) ∧ (dz_ q 0 1 2).natAbs ≤ 2916 ∧ (∀ i j, 0 < i → i < 3 → 0 < j → j < 3 → (q 0 0 * q i j - q i 0 * q 0 j).natAbs ≤ M) ∧ 2916 ≤ M ∧ (M + 972) * 2 ^ (q 0 0).natAbs ≤ 63700992
theorem zc_p {q : Nat → Nat → Int} {M : Nat} (h : zc_ q M) : (q 0 0).natAbs ≤ 14 := by
  obtain ⟨_, _, _, _, h1, h2⟩ := h
  apply Classical.byContradiction
  intro z
  have h3 : 2 ^ 15 ≤ 2 ^ (q 0 0).natAbs := Nat.pow_le_pow_right (by omega) (by omega)
  have h4 : 3888 * 2 ^ 15 ≤ (M + 972) * 2 ^ (q 0 0).natAbs := Nat.mul_le_mul (by omega) h3
  omega
theorem zc_M {q : Nat → Nat → Int} {M : Nat} (h : zc_ q M) : M ≤ 31850496 := by
  obtain ⟨h0, _, _, _, _, h2⟩ := h
  have h3 : 2 ^ 1 ≤ 2 ^ (q 0 0).natAbs := Nat.pow_le_pow_right (by omega) (by omega)
  have h4 : (M + 972) * 2 ^ 1 ≤ (M + 972) * 2 ^ (q 0 0).natAbs := Nat.mul_le_mul_left _ h3
  omega
theorem zc_b {q : Nat → Nat → Int} {M : Nat} (h : zc_ q M) {i j : Nat} (h1 : 0 < i) (h2 : i < 3) (h3 : 0 < j) (h4 : j < 3) : (q i j).natAbs ≤ M + 14 := by
  have hp := zc_p h
  obtain ⟨h0, hx, _, hm, _, _⟩ := h
  have m1 := hm i j h1 h2 h3 h4
  have x1 := (hx i h1 h2).1
  have x2 := (hx j h3 h4).2
  have e : (q i 0 * q 0 j).natAbs ≤ (q 0 0).natAbs * 14 := by rw [Int.natAbs_mul]; exact Nat.mul_le_mul (by omega) (by omega)
  have e2 : (q 0 0 * q i j).natAbs = (q 0 0).natAbs * (q i j).natAbs := Int.natAbs_mul _ _
  have e3 : (q 0 0).natAbs * (q i j).natAbs ≤ (q 0 0).natAbs * (M + 14) := by
    have e4 : M ≤ (q 0 0).natAbs * M := Nat.le_mul_of_pos_left _ (by omega)
    rw [Nat.mul_add]
    generalize q 0 0 * q i j = t1 at *
    generalize q i 0 * q 0 j = t2 at *
    omega
  exact Nat.le_of_mul_le_mul_left e3 (by omega)
theorem zc_R {q : Nat → Nat → Int} {M : Nat} (h : zc_ q M) : rz_ q 0 := by
  have hp := zc_p h
  have hM := zc_M h
  intro i j _ h2 _ h4
  by_cases zi : i = 0
  · subst zi
    by_cases zj : j = 0
    · subst zj; exact zi_Rabs (by omega)
    · have := (h.2.1 j (by omega) h4).2
      exact zi_Rabs (by omega)
  · by_cases zj : j = 0
    · subst zj
      have := (h.2.1 i (by omega) h2).1
      exact zi_Rabs (by omega)
    · have := zc_b h (i := i) (j := j) (by omega) h2 (by omega) h4
      exact zi_Rabs (by omega)
/-- from a round's minors -/
theorem zc_of {q : Nat → Nat → Int} {r c M : Nat} (hr : r < 3) (hc : c < 3) (h0 : q r c ≠ 0) (hD : (dz_ q 0 1 2).natAbs ≤ 2916) (hm : ∀ i j, i < 3 → j < 3 → i ≠ r → j ≠ c → (q r c * q i j - q i c * q r j).natAbs ≤ M) (hM : 2916 ≤ M) (hK : (M + 972) * 2 ^ (q r c).natAbs ≤ 63700992) : zc_ (sr_ q 0 r c) M := by
  have h00 : sr_ q 0 r c 0 0 = q r c := sr_kk q (by omega)
  refine ⟨by rw [h00]; exact h0, fun i a b => ?_, ?_, fun i j a1 a2 a3 a4 => ?_, hM, by rw [h00]; exact hK⟩
  · rw [h00, sr_ik q (by omega) a b, sr_kj q (by omega) a b]
    exact ⟨fm_lt h0, fm_lt h0⟩
  · rw [de3_det (de3_sr (q := q) (k := 0) (by omega) hr hc)]; exact hD
  · rw [sr_mm q (by omega) a1 a2 a3 a4]
    exact hm _ _ (sv_lt (by omega) hr a2) (sv_lt (by omega) hc a4) (sv_ne a1) (sv_ne a3)
end
section
theorem zc_D {q : Nat → Nat → Int} (hD : (dz_ q 0 1 2).natAbs ≤ 2916) {r i c j : Nat} (hr : 0 < r) (hr3 : r < 3) (hi : 0 < i) (hi3 : i < 3) (hri : i ≠ r) (hc : 0 < c) (hc3 : c < 3) (hj : 0 < j) (hj3 : j < 3) (hcj : j ≠ c) : (q 0 0 * (q r c * q i j - q r j * q i c) - q 0 c * (q r 0 * q i j - q r j * q i 0) + q 0 j * (q r 0 * q i c - q r c * q i 0)).natAbs ≤ 2916 := by
  have e1 : (r = 1 ∧ i = 2) ∨ (r = 2 ∧ i = 1) := by omega
  have e2 : (c = 1 ∧ j = 2) ∨ (c = 2 ∧ j = 1) := by omega
  have s1 : ∀ x : Int, x = dz_ q 0 1 2 → x.natAbs ≤ 2916 := fun x h => by rw [h]; exact hD
  have s2 : ∀ x : Int, x = - dz_ q 0 1 2 → x.natAbs ≤ 2916 := fun x h => by rw [h, Int.natAbs_neg]; exact hD
  rcases e1 with ⟨rfl, rfl⟩ | ⟨rfl, rfl⟩ <;> rcases e2 with ⟨rfl, rfl⟩ | ⟨rfl, rfl⟩
  · exact s1 _ (by unfold dz_ dt_; grind)
  · exact s2 _ (by unfold dz_ dt_; grind)
  · exact s2 _ (by unfold dz_ dt_; grind)
  · exact s1 _ (by unfold dz_ dt_; grind)
theorem id_a (P r0 rj i0 ij z : Int) : P * (r0 * ij - i0 * rj) = r0 * (P * ij - i0 * z) - i0 * (P * rj - r0 * z) := by grind
theorem id_b (P zc zj rc rj r0 : Int) : P * (rc * zj - zc * rj) = zj * (P * rc - r0 * zc) - zc * (P * rj - r0 * zj) := by grind
theorem id_c (P rc i0 ic r0 zc : Int) : P * (rc * i0 - ic * r0) = i0 * (P * rc - r0 * zc) - r0 * (P * ic - i0 * zc) := by grind
theorem id_d (P zc zj r0 rc rj i0 ic ij : Int) : P * (P * (rc * ij - ic * rj)) = P * (P * (rc * ij - rj * ic) - zc * (r0 * ij - rj * i0) + zj * (r0 * ic - rc * i0)) + zc * r0 * (P * ij - i0 * zj) - zc * i0 * (P * rj - r0 * zj) - zj * r0 * (P * ic - i0 * zc) + zj * i0 * (P * rc - r0 * zc) := by grind
theorem pw_2 {M e p : Nat} (h : e + 1 ≤ p) (hK : (M + 972) * 2 ^ p ≤ 63700992) : (2 * M + 972) * 2 ^ e ≤ 63700992 := by
  have h1 : 2 ^ (e + 1) ≤ 2 ^ p := Nat.pow_le_pow_right (by omega) h
  have h2 : (M + 972) * 2 ^ (e + 1) ≤ (M + 972) * 2 ^ p := Nat.mul_le_mul_left _ h1
  have h3 : (2 * M + 972) * 2 ^ e ≤ (2 * (M + 972)) * 2 ^ e := Nat.mul_le_mul_right _ (by omega)
  have h4 : (2 * (M + 972)) * 2 ^ e = (M + 972) * 2 ^ (e + 1) := by rw [Nat.pow_succ]; grind
  omega
theorem pw_4 {M e p : Nat} (h : e + 2 ≤ p) (hK : (M + 972) * 2 ^ p ≤ 63700992) : (4 * M + 2916 + 972) * 2 ^ e ≤ 63700992 := by
  have h1 : 2 ^ (e + 2) ≤ 2 ^ p := Nat.pow_le_pow_right (by omega) h
  have h2 : (M + 972) * 2 ^ (e + 2) ≤ (M + 972) * 2 ^ p := Nat.mul_le_mul_left _ h1
  have h4 : (4 * M + 2916 + 972) * 2 ^ e = (M + 972) * 2 ^ (e + 2) := by rw [Nat.pow_add]; grind
  omega
theorem pw_1 {M e p : Nat} (h : e + 1 ≤ p) (hM : 2916 ≤ M) (hK : (M + 972) * 2 ^ p ≤ 63700992) : (M + 2916 + 972) * 2 ^ e ≤ 63700992 := by
  have h1 : 2 ^ (e + 1) ≤ 2 ^ p := Nat.pow_le_pow_right (by omega) h
  have h2 : (M + 972) * 2 ^ (e + 1) ≤ (M + 972) * 2 ^ p := Nat.mul_le_mul_left _ h1
  have h3 : (M + 2916 + 972) * 2 ^ e ≤ (2 * (M + 972)) * 2 ^ e := Nat.mul_le_mul_right _ (by omega)
  have h4 : (2 * (M + 972)) * 2 ^ e = (M + 972) * 2 ^ (e + 1) := by rw [Nat.pow_succ]; grind
  omega
theorem zc_step {q : Nat → Nat → Int} {M r c : Nat} (h : zc_ q M) (hnc : ¬ cc_ q 0) (hb : lb_ q 0 (some (r, c))) : (q r c).natAbs < (q 0 0).natAbs ∧ ∃ M', zc_ (sr_ q 0 r c) M' := by
  obtain ⟨h0, hx, hD, hm, hM, hK⟩ := h
  obtain ⟨_, hr, _, hc, hne, hmin, hfst⟩ := hb
  dsimp only at hr hc hne hmin hfst
  have he : (q r c).natAbs < (q 0 0).natAbs := by
    apply Classical.byContradiction
    intro z
    apply hnc
    refine ⟨fun i a b => ?_, fun j a b => ?_⟩
    · apply Classical.byContradiction
      intro y
      have := hmin i 0 (by omega) b (by omega) (by omega) y
      have := (hx i a b).1; omega
    · apply Classical.byContradiction
      intro y
      have := hmin 0 j (by omega) (by omega) (by omega) b y
      have := (hx j a b).2; omega
  refine ⟨he, ?_⟩
  by_cases zc0 : c = 0
  · subst zc0
    have hr0 : 0 < r := by
      rcases Nat.eq_zero_or_pos r with z | z
      · subst z; omega
      · exact z
    refine ⟨2 * M, zc_of hr hc hne hD (fun i j a1 a2 a3 a4 => ?_) (by omega) (pw_2 (by omega) hK)⟩
    by_cases zi : i = 0
    · subst zi
      have e : q r 0 * q 0 j - q 0 0 * q r j = -(q 0 0 * q r j - q r 0 * q 0 j) := by omega
      rw [e, Int.natAbs_neg]
      have := hm r j hr0 hr (by omega) a2; omega
    · exact hk_2 (id_a (q 0 0) (q r 0) (q r j) (q i 0) (q i j) (q 0 j)) h0 (hx r hr0 hr).1 (hx i (by omega) a1).1 (hm i j (by omega) a1 (by omega) a2) (hm r j hr0 hr (by omega) a2)
  · by_cases zr0 : r = 0
    · subst zr0
      refine ⟨2 * M, zc_of hr hc hne hD (fun i j a1 a2 a3 a4 => ?_) (by omega) (pw_2 (by omega) hK)⟩
      by_cases zj : j = 0
      · subst zj
        have e : q 0 c * q i 0 - q i c * q 0 0 = -(q 0 0 * q i c - q i 0 * q 0 c) := by
          rw [Int.mul_comm (q 0 c) (q i 0), Int.mul_comm (q i c) (q 0 0)]; omega
        rw [e, Int.natAbs_neg]
        have := hm i c (by omega) a1 (by omega) hc; omega
      · have e : q 0 0 * (q 0 c * q i j - q i c * q 0 j) = q 0 c * (q 0 0 * q i j - q i 0 * q 0 j) - q 0 j * (q 0 0 * q i c - q i 0 * q 0 c) := by grind
        exact hk_2 e h0 (hx c (by omega) hc).2 (hx j (by omega) a2).2 (hm i j (by omega) a1 (by omega) a2) (hm i c (by omega) a1 (by omega) hc)
    · have m0 : ∀ i j, i = 0 → j = 0 → (q r c * q i j - q i c * q r j).natAbs ≤ M := by
        intro i j e1 e2
        subst e1; subst e2
        have e : q r c * q 0 0 - q 0 c * q r 0 = q 0 0 * q r c - q r 0 * q 0 c := by
          rw [Int.mul_comm (q r c) (q 0 0), Int.mul_comm (q 0 c) (q r 0)]
        rw [e]
        exact hm r c (by omega) hr (by omega) hc
      by_cases h2 : (q r c).natAbs + 2 ≤ (q 0 0).natAbs
      · refine ⟨4 * M + 2916, zc_of hr hc hne hD (fun i j a1 a2 a3 a4 => ?_) (by omega) (pw_4 h2 hK)⟩
        by_cases zi : i = 0
        · by_cases zj : j = 0
          · have := m0 i j zi zj; omega
          · subst zi
            have := hk_2 (id_b (q 0 0) (q 0 c) (q 0 j) (q r c) (q r j) (q r 0)) h0 (hx j (by omega) a2).2 (hx c (by omega) hc).2 (hm r c (by omega) hr (by omega) hc) (hm r j (by omega) hr (by omega) a2)
            omega
        · by_cases zj : j = 0
          · subst zj
            have := hk_2 (id_c (q 0 0) (q r c) (q i 0) (q i c) (q r 0) (q 0 c)) h0 (hx i (by omega) a1).1 (hx r (by omega) hr).1 (hm r c (by omega) hr (by omega) hc) (hm i c (by omega) a1 (by omega) hc)
            omega
          · exact hk_4 (id_d (q 0 0) (q 0 c) (q 0 j) (q r 0) (q r c) (q r j) (q i 0) (q i c) (q i j)) h0 (hx c (by omega) hc).2 (hx j (by omega) a2).2 (hx r (by omega) hr).1 (hx i (by omega) a1).1 (hm i j (by omega) a1 (by omega) a2) (hm r j (by omega) hr (by omega) a2) (hm i c (by omega) a1 (by omega) hc) (hm r c (by omega) hr (by omega) hc) (zc_D hD (by omega) hr (by omega) a1 a3 (by omega) hc (by omega) a2 a4)
      · have zr : q r 0 = 0 := by
          apply Classical.byContradiction
          intro y
          have := hfst r 0 (by omega) hr (by omega) (by omega) (Or.inr ⟨rfl, by omega⟩) y
          have := (hx r (by omega) hr).1; omega
        have zcc : q 0 c = 0 := by
          apply Classical.byContradiction
          intro y
          have := hfst 0 c (by omega) (by omega) (by omega) hc (Or.inl (by omega)) y
          have := (hx c (by omega) hc).2; omega
        refine ⟨M + 2916, zc_of hr hc hne hD (fun i j a1 a2 a3 a4 => ?_) (by omega) (pw_1 (by omega) hM hK)⟩
        by_cases zi : i = 0
        · by_cases zj : j = 0
          · have := m0 i j zi zj; omega
          · subst zi
            have e := id_b (q 0 0) (q 0 c) (q 0 j) (q r c) (q r j) (q r 0)
            rw [zcc, Int.zero_mul (q 0 0 * q r j - q r 0 * q 0 j), Int.sub_zero] at e
            rw [zcc]
            have := hk_1 e h0 (hx j (by omega) a2).2 (by have := hm r c (by omega) hr (by omega) hc; rw [zcc] at this; exact this)
            omega
        · by_cases zj : j = 0
          · subst zj
            have e := id_c (q 0 0) (q r c) (q i 0) (q i c) (q r 0) (q 0 c)
            rw [zr, Int.zero_mul (q 0 0 * q i c - q i 0 * q 0 c), Int.sub_zero] at e
            rw [zr]
            have := hk_1 e h0 (hx i (by omega) a1).1 (by have := hm r c (by omega) hr (by omega) hc; rw [zr] at this; exact this)
            omega
          · have e := id_d (q 0 0) (q 0 c) (q 0 j) (q r 0) (q r c) (q r j) (q i 0) (q i c) (q i j)
            have hd := zc_D hD (r := r) (i := i) (c := c) (j := j) (by omega) hr (by omega) a1 a3 (by omega) hc (by omega) a2 a4
            have hu := hm r c (by omega) hr (by omega) hc
            rw [zr, zcc] at e hd
            rw [zr, zcc] at hu
            refine hk_3 (x := q 0 j) (y := q i 0) (u := q 0 0 * q r c - 0 * 0) (D := q 0 0 * (q r c * q i j - q r j * q i c) - 0 * (0 * q i j - q r j * q i 0) + q 0 j * (0 * q i c - q r c * q i 0)) ?_ h0 (hx j (by omega) a2).2 (hx i (by omega) a1).1 hu hd
            rw [e]
            simp only [Int.zero_mul, Int.mul_zero, Int.sub_zero, Int.add_zero]
/-- what the first corner leaves -/
def f0_ (H q : Nat → Nat → Int) : Prop := de3_ q H ∧ ((cc_ q 0 ∧ q 0 0 ≠ 0 ∧ (q 0 0).natAbs ≤ 14 ∧ ∀ i j, 0 < i → i < 3 → 0 < j → j < 3 → (q i j).natAbs ≤ 31850510) ∨ lb_ q 0 none)
theorem zc_ts {H : Nat → Nat → Int} : ∀ (m : Nat) (q : Nat → Nat → Int) (M : Nat), zc_ q M → de3_ q H → ¬ cc_ q 0 → (q 0 0).natAbs ≤ m → ts_ 0 (f0_ H) m q := by
  intro m
  induction m with
  | zero => intro q M h _ _ hp; exact absurd hp (by have := h.1; omega)
  | succ m ih =>
    intro q M h hd hnc hp
    refine ⟨zc_R h, fun hb => ⟨hd, Or.inr hb⟩, fun r c hb => ?_⟩
    obtain ⟨he, M', h'⟩ := zc_step h hnc hb
    have hr : r < 3 := hb.2.1
    have hc : c < 3 := hb.2.2.2.1
    have hd' : de3_ (sr_ q 0 r c) H := de3_t (de3_sr (by omega) hr hc) hd
    refine ⟨fun hcc => ⟨hd', Or.inl ⟨hcc, h'.1, zc_p h', fun i j a1 a2 a3 a4 => ?_⟩⟩, fun hcc => ih _ M' h' hd' hcc ?_⟩
    · have := zc_b h' a1 a2 a3 a4
      have := zc_M h'
      omega
    · rw [sr_kk q (by omega)]; omega
theorem l0_ts {H : Nat → Nat → Int} (hR : ∀ i j, i < 3 → j < 3 → (H i j).natAbs ≤ 2916) (hD : (dz_ H 0 1 2).natAbs ≤ 2916) (hm : ∀ r c i j, r < 3 → c < 3 → i < 3 → j < 3 → (H r c * H i j - H i c * H r j).natAbs ≤ 2916) (hl : ∀ r c, lb_ H 0 (some (r, c)) → (H r c).natAbs ≤ 14) : ts_ 0 (f0_ H) 60 H := by
  refine ⟨fun i j _ a _ b => zi_Rabs (by have := hR i j a b; omega), fun hb => ⟨de3_r H, Or.inr hb⟩, fun r c hb => ?_⟩
  have hr : r < 3 := hb.2.1
  have hc : c < 3 := hb.2.2.2.1
  have hne : H r c ≠ 0 := hb.2.2.2.2.1
  have h14 := hl r c hb
  have hd' : de3_ (sr_ H 0 r c) H := de3_sr (by omega) hr hc
  have hK : (2916 + 972) * 2 ^ (H r c).natAbs ≤ 63700992 := by
    have : 2 ^ (H r c).natAbs ≤ 2 ^ 14 := Nat.pow_le_pow_right (by omega) h14
    omega
  have h' : zc_ (sr_ H 0 r c) 2916 := zc_of hr hc hne hD (fun i j a1 a2 _ _ => hm r c i j hr hc a1 a2) (Nat.le_refl _) hK
  refine ⟨fun hcc => ⟨hd', Or.inl ⟨hcc, h'.1, zc_p h', fun i j a1 a2 a3 a4 => ?_⟩⟩, fun hcc => zc_ts 59 _ 2916 h' hd' hcc ?_⟩
  · have := zc_b h' a1 a2 a3 a4
    omega
  · rw [sr_kk H (by omega)]; omega
end
section
/-! the square's second corner -/
def un_ : Nat → Nat
  | 0 => 1
  | 1 => 2
  | 2 => 3
  | k + 3 => un_ (k + 1) + un_ k + 1
theorem un_s (k : Nat) : un_ (k + 3) = un_ (k + 1) + un_ k + 1 := rfl
theorem un_60 : un_ 60 = 47261894 := by
  have h0 : un_ 0 = 1 := rfl
  have h1 : un_ 1 = 2 := rfl
  have h2 : un_ 2 = 3 := rfl
  have h3 : un_ 3 = 4 := by rw [un_s, h1, h0]
  have h4 : un_ 4 = 6 := by rw [un_s, h2, h1]
  have h5 : un_ 5 = 8 := by rw [un_s, h3, h2]
  have h6 : un_ 6 = 11 := by rw [un_s, h4, h3]
  have h7 : un_ 7 = 15 := by rw [un_s, h5, h4]
  have h8 : un_ 8 = 20 := by rw [un_s, h6, h5]
  have h9 : un_ 9 = 27 := by rw [un_s, h7, h6]
  have h10 : un_ 10 = 36 := by rw [un_s, h8, h7]
  have h11 : un_ 11 = 48 := by rw [un_s, h9, h8]
  have h12 : un_ 12 = 64 := by rw [un_s, h10, h9]
  have h13 : un_ 13 = 85 := by rw [un_s, h11, h10]
  have h14 : un_ 14 = 113 := by rw [un_s, h12, h11]
  have h15 : un_ 15 = 150 := by rw [un_s, h13, h12]
  have h16 : un_ 16 = 199 := by rw [un_s, h14, h13]
  have h17 : un_ 17 = 264 := by rw [un_s, h15, h14]
  have h18 : un_ 18 = 350 := by rw [un_s, h16, h15]
  have h19 : un_ 19 = 464 := by rw [un_s, h17, h16]
  have h20 : un_ 20 = 615 := by rw [un_s, h18, h17]
  have h21 : un_ 21 = 815 := by rw [un_s, h19, h18]
  have h22 : un_ 22 = 1080 := by rw [un_s, h20, h19]
  have h23 : un_ 23 = 1431 := by rw [un_s, h21, h20]
  have h24 : un_ 24 = 1896 := by rw [un_s, h22, h21]
  have h25 : un_ 25 = 2512 := by rw [un_s, h23, h22]
  have h26 : un_ 26 = 3328 := by rw [un_s, h24, h23]
  have h27 : un_ 27 = 4409 := by rw [un_s, h25, h24]
  have h28 : un_ 28 = 5841 := by rw [un_s, h26, h25]
  have h29 : un_ 29 = 7738 := by rw [un_s, h27, h26]
  have h30 : un_ 30 = 10251 := by rw [un_s, h28, h27]
  have h31 : un_ 31 = 13580 := by rw [un_s, h29, h28]
  have h32 : un_ 32 = 17990 := by rw [un_s, h30, h29]
  have h33 : un_ 33 = 23832 := by rw [un_s, h31, h30]
  have h34 : un_ 34 = 31571 := by rw [un_s, h32, h31]
  have h35 : un_ 35 = 41823 := by rw [un_s, h33, h32]
  have h36 : un_ 36 = 55404 := by rw [un_s, h34, h33]
  have h37 : un_ 37 = 73395 := by rw [un_s, h35, h34]
  have h38 : un_ 38 = 97228 := by rw [un_s, h36, h35]
  have h39 : un_ 39 = 128800 := by rw [un_s, h37, h36]
  have h40 : un_ 40 = 170624 := by rw [un_s, h38, h37]
  have h41 : un_ 41 = 226029 := by rw [un_s, h39, h38]
  have h42 : un_ 42 = 299425 := by rw [un_s, h40, h39]
  have h43 : un_ 43 = 396654 := by rw [un_s, h41, h40]
  have h44 : un_ 44 = 525455 := by rw [un_s, h42, h41]
  have h45 : un_ 45 = 696080 := by rw [un_s, h43, h42]
  have h46 : un_ 46 = 922110 := by rw [un_s, h44, h43]
  have h47 : un_ 47 = 1221536 := by rw [un_s, h45, h44]
  have h48 : un_ 48 = 1618191 := by rw [un_s, h46, h45]
  have h49 : un_ 49 = 2143647 := by rw [un_s, h47, h46]
  have h50 : un_ 50 = 2839728 := by rw [un_s, h48, h47]
  have h51 : un_ 51 = 3761839 := by rw [un_s, h49, h48]
  have h52 : un_ 52 = 4983376 := by rw [un_s, h50, h49]
  have h53 : un_ 53 = 6601568 := by rw [un_s, h51, h50]
  have h54 : un_ 54 = 8745216 := by rw [un_s, h52, h51]
  have h55 : un_ 55 = 11584945 := by rw [un_s, h53, h52]
  have h56 : un_ 56 = 15346785 := by rw [un_s, h54, h53]
  have h57 : un_ 57 = 20330162 := by rw [un_s, h55, h54]
  have h58 : un_ 58 = 26931731 := by rw [un_s, h56, h55]
  have h59 : un_ 59 = 35676948 := by rw [un_s, h57, h56]
  have h60 : un_ 60 = 47261894 := by rw [un_s, h58, h57]
  exact h60
theorem un_m : ∀ k, un_ k ≤ un_ (k + 1) ∧ un_ (k + 2) ≤ un_ (k + 1) + un_ k ∧ 1 ≤ un_ k := by
  have key : ∀ k, (un_ k ≤ un_ (k + 1) ∧ un_ (k + 2) ≤ un_ (k + 1) + un_ k ∧ 1 ≤ un_ k) ∧ (un_ (k + 1) ≤ un_ (k + 2) ∧ un_ (k + 3) ≤ un_ (k + 2) + un_ (k + 1) ∧ 1 ≤ un_ (k + 1)) ∧ un_ (k + 2) ≤ un_ (k + 3) := by
    intro k
    induction k with
    | zero => decide
    | succ k ih =>
      obtain ⟨⟨a1, a2, a3⟩, ⟨b1, b2, b3⟩, c⟩ := ih
      have e4 : un_ (k + 4) = un_ (k + 2) + un_ (k + 1) + 1 := un_s (k + 1)
      have e3 : un_ (k + 3) = un_ (k + 1) + un_ k + 1 := un_s k
      exact ⟨⟨b1, b2, b3⟩, ⟨c, by show un_ (k + 4) ≤ un_ (k + 3) + un_ (k + 2); omega, by show 1 ≤ un_ (k + 2); omega⟩, by show un_ (k + 3) ≤ un_ (k + 4); omega⟩
  exact fun k => (key k).1
/-- rows and columns beside the first corner are empty -/
def e0_ (q : Nat → Nat → Int) : Prop := q 0 1 = 0 ∧ q 0 2 = 0 ∧ q 1 0 = 0 ∧ q 2 0 = 0
def zd_ (q : Nat → Nat → Int) : Prop := e0_ q ∧ q 1 1 ≠ 0 ∧ (q 2 1).natAbs < (q 1 1).natAbs ∧ (q 1 2).natAbs < (q 1 1).natAbs ∧ ((0 < q 1 1 ∧ 0 ≤ q 2 1 ∧ 0 ≤ q 1 2) ∨ (q 1 1 < 0 ∧ q 2 1 ≤ 0 ∧ q 1 2 ≤ 0)) ∧ (q 1 1 * q 2 2 - q 2 1 * q 1 2).natAbs ≤ 2916 ∧ (q 1 1).natAbs ≤ 31850510
theorem e0_sr {q : Nat → Nat → Int} {r c : Nat} (h : e0_ q) (hr : 1 ≤ r) (hr3 : r < 3) (hc : 1 ≤ c) (hc3 : c < 3) : e0_ (sr_ q 1 r c) ∧ sr_ q 1 r c 0 0 = q 0 0 := by
  obtain ⟨h1, h2, h3, h4⟩ := h
  have r0 : ∀ i, 1 ≤ i → i < 3 → q i 0 = 0 := by intro i a b; have : i = 1 ∨ i = 2 := by omega
                                                 rcases this with rfl | rfl <;> assumption
  have c0 : ∀ j, 1 ≤ j → j < 3 → q 0 j = 0 := by intro i a b; have : i = 1 ∨ i = 2 := by omega
                                                 rcases this with rfl | rfl <;> assumption
  have s0 : ∀ s, 1 ≤ s → sv_ 1 s 0 = 0 := by intro s hs; unfold sv_; rw [if_neg (by omega), if_neg (by omega)]
  have X : ∀ i j, i < 3 → yw_ (xw_ q 1 r) 1 c i j = q (sv_ 1 r i) (sv_ 1 c j) := fun i j hi => xy_sv q hi j
  have Xi0 : ∀ i, 1 ≤ i → i < 3 → yw_ (xw_ q 1 r) 1 c i 0 = 0 := fun i a b => by rw [X i 0 b, s0 c hc]; exact r0 _ (sv_ge hr a) (sv_lt (by omega) hr3 b)
  have X0j : ∀ j, 1 ≤ j → j < 3 → yw_ (xw_ q 1 r) 1 c 0 j = 0 := fun j a b => by rw [X 0 j (by omega), s0 r hr]; exact c0 _ (sv_ge hc a) (sv_lt (by omega) hc3 b)
  have X00 : yw_ (xw_ q 1 r) 1 c 0 0 = q 0 0 := by rw [X 0 0 (by omega), s0 r hr, s0 c hc]
  have rp0 : ∀ j, rp_ (yw_ (xw_ q 1 r) 1 c) 1 1 3 0 j = yw_ (xw_ q 1 r) 1 c 0 j := fun j => by unfold rp_; rw [if_neg (by omega)]
  refine ⟨⟨?_, ?_, ?_, ?_⟩, ?_⟩
  · unfold sr_ cq_; rw [if_neg (by omega), rp0]; exact X0j 1 (by omega) (by omega)
  · unfold sr_ cq_; rw [if_pos (by omega), rp0, rp0, X0j 1 (by omega) (by omega), X0j 2 (by omega) (by omega)]; simp
  · unfold sr_ cq_; rw [if_neg (by omega)]; unfold rp_; rw [if_neg (by omega)]; exact Xi0 1 (by omega) (by omega)
  · unfold sr_ cq_; rw [if_neg (by omega)]; unfold rp_; rw [if_pos (by omega), Xi0 1 (by omega) (by omega), Xi0 2 (by omega) (by omega)]; simp
  · unfold sr_ cq_; rw [if_neg (by omega), rp0]; exact X00
theorem fm_sg {a b : Int} : (0 < b ∧ 0 ≤ a - a.fdiv b * b) ∨ (b < 0 ∧ a - a.fdiv b * b ≤ 0) ∨ b = 0 := by
  by_cases h : 0 < b
  · exact Or.inl ⟨h, fm_pos h⟩
  · by_cases h' : b = 0
    · exact Or.inr (Or.inr h')
    · exact Or.inr (Or.inl ⟨by omega, fm_neg (by omega)⟩)
/-- a round at the second corner: its four numbers -/
theorem s1_e {q : Nat → Nat → Int} {r c : Nat} (hr : 1 ≤ r) (hr3 : r < 3) (hc : 1 ≤ c) (hc3 : c < 3) : sr_ q 1 r c 1 1 = q r c ∧ sr_ q 1 r c 2 1 = q (3 - r) c - (q (3 - r) c).fdiv (q r c) * q r c ∧ sr_ q 1 r c 1 2 = q r (3 - c) - (q r (3 - c)).fdiv (q r c) * q r c ∧ sr_ q 1 r c 1 1 * sr_ q 1 r c 2 2 - sr_ q 1 r c 2 1 * sr_ q 1 r c 1 2 = q r c * q (3 - r) (3 - c) - q (3 - r) c * q r (3 - c) := by
  have e : ∀ s, 1 ≤ s → s < 3 → sv_ 1 s 2 = 3 - s := by
    intro s a b
    have : s = 1 ∨ s = 2 := by omega
    rcases this with rfl | rfl <;> rfl
  have h1 := sr_ik q (k := 1) (r := r) (c := c) (i := 2) (by omega) (by omega) (by omega)
  have h2 := sr_kj q (k := 1) (r := r) (c := c) (j := 2) (by omega) (by omega) (by omega)
  have h3 := sr_mm q (k := 1) (r := r) (c := c) (i := 2) (j := 2) (by omega) (by omega) (by omega) (by omega) (by omega)
  rw [e r hr hr3] at h1 h3
  rw [e c hc hc3] at h2 h3
  exact ⟨sr_kk q (by omega), h1, h2, h3⟩
theorem zd_of {q : Nat → Nat → Int} {r c : Nat} (h : e0_ q) (hr : 1 ≤ r) (hr3 : r < 3) (hc : 1 ≤ c) (hc3 : c < 3) (hne : q r c ≠ 0) (hD : (q 1 1 * q 2 2 - q 2 1 * q 1 2).natAbs ≤ 2916) (hB : (q r c).natAbs ≤ 31850510) : zd_ (sr_ q 1 r c) := by
  obtain ⟨e1, e2, e3, e4⟩ := s1_e (q := q) hr hr3 hc hc3
  refine ⟨(e0_sr h hr hr3 hc hc3).1, by rw [e1]; exact hne, ?_, ?_, ?_, ?_, by rw [e1]; exact hB⟩
  · rw [e1, e2]; exact fm_lt hne
  · rw [e1, e3]; exact fm_lt hne
  · rw [e1, e2, e3]
    have g1 := fm_sg (a := q (3 - r) c) (b := q r c)
    have g2 := fm_sg (a := q r (3 - c)) (b := q r c)
    generalize q (3 - r) c - (q (3 - r) c).fdiv (q r c) * q r c = x at *
    generalize q r (3 - c) - (q r (3 - c)).fdiv (q r c) * q r c = y at *
    omega
  · rw [e4]
    have s1 : ∀ x : Int, x = q 1 1 * q 2 2 - q 2 1 * q 1 2 → x.natAbs ≤ 2916 := fun x hx => by rw [hx]; exact hD
    have s2 : ∀ x : Int, x = -(q 1 1 * q 2 2 - q 2 1 * q 1 2) → x.natAbs ≤ 2916 := fun x hx => by rw [hx, Int.natAbs_neg]; exact hD
    have h1 : r = 1 ∨ r = 2 := by omega
    have h2 : c = 1 ∨ c = 2 := by omega
    rcases h1 with rfl | rfl <;> rcases h2 with rfl | rfl
    · exact s1 _ rfl
    · exact s2 _ (by grind)
    · exact s2 _ (by grind)
    · exact s1 _ (by grind)
theorem zd_R {q : Nat → Nat → Int} (h : zd_ q) : rz_ q 1 := by
  obtain ⟨_, h0, h1, h2, _, hD, hB⟩ := h
  have e1 : (q 1 1 * q 2 2).natAbs = (q 1 1).natAbs * (q 2 2).natAbs := Int.natAbs_mul _ _
  have e2 : (q 2 1 * q 1 2).natAbs ≤ (q 1 1).natAbs * (q 1 1).natAbs := by rw [Int.natAbs_mul]; exact Nat.mul_le_mul (by omega) (by omega)
  have e3 : (q 1 1).natAbs * (q 2 2).natAbs ≤ (q 1 1).natAbs * ((q 1 1).natAbs + 2916) := by
    have : 2916 ≤ (q 1 1).natAbs * 2916 := Nat.le_mul_of_pos_left _ (by omega)
    rw [Nat.mul_add]
    generalize q 1 1 * q 2 2 = x at *
    generalize q 2 1 * q 1 2 = y at *
    omega
  have e4 : (q 2 2).natAbs ≤ (q 1 1).natAbs + 2916 := Nat.le_of_mul_le_mul_left e3 (by omega)
  intro i j a1 a2 a3 a4
  have h1' : i = 1 ∨ i = 2 := by omega
  have h2' : j = 1 ∨ j = 2 := by omega
  rcases h1' with rfl | rfl <;> rcases h2' with rfl | rfl <;> exact zi_Rabs (by omega)
end
section
/-- a number left beside the second corner -/
def cm_ (q : Nat → Nat → Int) (x : Nat) : Prop := x ≠ 0 ∧ ((q 2 1).natAbs = x ∨ (q 1 2).natAbs = x)
theorem cm_ex {q : Nat → Nat → Int} (h : ¬ cc_ q 1) : ∃ x, cm_ q x := by
  apply Classical.byContradiction
  intro k
  apply h
  refine ⟨fun i a b => ?_, fun j a b => ?_⟩
  · have : i = 2 := by omega
    subst this
    apply Classical.byContradiction
    intro z; exact k ⟨_, by omega, Or.inl rfl⟩
  · have : j = 2 := by omega
    subst this
    apply Classical.byContradiction
    intro z; exact k ⟨_, by omega, Or.inr rfl⟩
theorem md_le {p e : Nat} (he : 0 < e) (h : e ≤ p) (hm : p % e ≠ 0) : p % e ≤ p - e := by
  have d1 := Nat.div_add_mod p e
  have d3 : 1 ≤ p / e := (Nat.le_div_iff_mul_le he).mpr (by omega)
  have d5 : e * 1 ≤ e * (p / e) := Nat.mul_le_mul_left _ d3
  omega
theorem md_0 {p e : Nat} (he : 0 < e) (h : e < p) (hm : p % e = 0) : 2 * e ≤ p := by
  have d1 := Nat.div_add_mod p e
  have d3 : 1 ≤ p / e := (Nat.le_div_iff_mul_le he).mpr (by omega)
  have d4 : p / e ≠ 1 := by intro z1; rw [z1, hm] at d1; omega
  have d5 : e * 2 ≤ e * (p / e) := Nat.mul_le_mul_left _ (by omega)
  omega
/-- a round: the corner gets smaller; either as in Euclid's way, or the block's last number is large then -/
theorem zd_step {q : Nat → Nat → Int} {r c : Nat} (h : zd_ q) (hnc : ¬ cc_ q 1) (hb : lb_ q 1 (some (r, c))) (hnc' : ¬ cc_ (sr_ q 1 r c) 1) : (q r c).natAbs < (q 1 1).natAbs ∧ (∀ x, cm_ q x → (q r c).natAbs ≤ x) ∧
    ((2 * (q r c).natAbs ≤ (q 1 1).natAbs ∨ ∃ x, cm_ (sr_ q 1 r c) x ∧ x + (q r c).natAbs ≤ (q 1 1).natAbs) ∨ ((q 2 2).natAbs < (q 1 1).natAbs ∧ (sr_ q 1 r c 1 1).natAbs < (sr_ q 1 r c 2 2).natAbs)) := by
  obtain ⟨h00, h0, h1, h2, hs, hD, hB⟩ := h
  obtain ⟨hr, hr3, hc, hc3, hne, hmin, _⟩ := hb
  dsimp only at hr hr3 hc hc3 hne hmin
  have hcm : ∀ x, cm_ q x → (q r c).natAbs ≤ x ∧ x < (q 1 1).natAbs := by
    rintro x ⟨k1, k2 | k2⟩
    · have := hmin 2 1 (by omega) (by omega) (by omega) (by omega) (by omega); omega
    · have := hmin 1 2 (by omega) (by omega) (by omega) (by omega) (by omega); omega
  obtain ⟨x0, hx0⟩ := cm_ex hnc
  have he : (q r c).natAbs < (q 1 1).natAbs := by have := hcm x0 hx0; omega
  refine ⟨he, fun x hx => (hcm x hx).1, ?_⟩
  obtain ⟨e1, e2, e3, e4⟩ := s1_e (q := q) hr hr3 hc hc3
  have hpos : 0 < (q r c).natAbs := by omega
  have cr : (r = 1 ∧ c = 1) ∨ (r = 1 ∧ c = 2) ∨ (r = 2 ∧ c = 1) ∨ (r = 2 ∧ c = 2) := by omega
  rcases cr with ⟨rfl, rfl⟩ | ⟨rfl, rfl⟩ | ⟨rfl, rfl⟩ | ⟨rfl, rfl⟩
  · omega
  · left
    have f := (fd_abs (a := q 1 1) (b := q 1 2) (by omega)).2
    have e3' : (sr_ q 1 1 2 1 2).natAbs = (q 1 1).natAbs % (q 1 2).natAbs := by rw [e3]; exact f
    by_cases z : (q 1 1).natAbs % (q 1 2).natAbs = 0
    · exact Or.inl (md_0 hpos he z)
    · right
      have := md_le hpos (by omega) z
      exact ⟨_, ⟨z, Or.inr e3'⟩, by omega⟩
  · left
    have f := (fd_abs (a := q 1 1) (b := q 2 1) (by omega)).2
    have e2' : (sr_ q 1 2 1 2 1).natAbs = (q 1 1).natAbs % (q 2 1).natAbs := by rw [e2]; exact f
    by_cases z : (q 1 1).natAbs % (q 2 1).natAbs = 0
    · exact Or.inl (md_0 hpos he z)
    · right
      have := md_le hpos (by omega) z
      exact ⟨_, ⟨z, Or.inl e2'⟩, by omega⟩
  · by_cases hsg : (0 < q 1 1 ∧ 0 < q 2 2) ∨ (q 1 1 < 0 ∧ q 2 2 < 0)
    · left
      have f1 := (fd_abs (a := q 1 2) (b := q 2 2) (by omega)).2
      have f2 := (fd_abs (a := q 2 1) (b := q 2 2) (by omega)).2
      have e2' : (sr_ q 1 2 2 2 1).natAbs = (q 1 2).natAbs % (q 2 2).natAbs := by rw [e2]; exact f1
      have e3' : (sr_ q 1 2 2 1 2).natAbs = (q 2 1).natAbs % (q 2 2).natAbs := by rw [e3]; exact f2
      obtain ⟨x, hx1, hx2⟩ := cm_ex hnc'
      right
      refine ⟨x, ⟨hx1, hx2⟩, ?_⟩
      rcases hx2 with k | k
      · rw [e2'] at k
        have nz : q 1 2 ≠ 0 := by intro z; rw [z] at k; simp at k; omega
        have := hmin 1 2 (by omega) (by omega) (by omega) (by omega) nz
        have := md_le hpos this (by omega)
        omega
      · rw [e3'] at k
        have nz : q 2 1 ≠ 0 := by intro z; rw [z] at k; simp at k; omega
        have := hmin 2 1 (by omega) (by omega) (by omega) (by omega) nz
        have := md_le hpos this (by omega)
        omega
    · right
      refine ⟨he, ?_⟩
      rw [e1]
      have a1 : (sr_ q 1 2 2 2 1).natAbs ≤ (q 1 2).natAbs := by
        by_cases nz : q 1 2 = 0
        · rw [e2]; show (q 1 2 - (q 1 2).fdiv (q 2 2) * q 2 2).natAbs ≤ _; rw [nz]; simp
        · have := hmin 1 2 (by omega) (by omega) (by omega) (by omega) nz
          have f := fm_lt (a := q 1 2) hne
          rw [e2]; show (q 1 2 - (q 1 2).fdiv (q 2 2) * q 2 2).natAbs ≤ _; omega
      have a2 : (sr_ q 1 2 2 1 2).natAbs ≤ (q 2 1).natAbs := by
        by_cases nz : q 2 1 = 0
        · rw [e3]; show (q 2 1 - (q 2 1).fdiv (q 2 2) * q 2 2).natAbs ≤ _; rw [nz]; simp
        · have := hmin 2 1 (by omega) (by omega) (by omega) (by omega) nz
          have f := fm_lt (a := q 2 1) hne
          rw [e3]; show (q 2 1 - (q 2 1).fdiv (q 2 2) * q 2 2).natAbs ≤ _; omega
      have a3 : (sr_ q 1 2 2 2 1 * sr_ q 1 2 2 1 2).natAbs ≤ (q 2 1 * q 1 2).natAbs := by
        rw [Int.natAbs_mul, Int.natAbs_mul, Nat.mul_comm]; exact Nat.mul_le_mul a2 a1
      have a4 : q 2 2 * sr_ q 1 2 2 2 2 = q 2 2 * q 1 1 - q 1 2 * q 2 1 + sr_ q 1 2 2 2 1 * sr_ q 1 2 2 1 2 := by
        have e4' : sr_ q 1 2 2 1 1 * sr_ q 1 2 2 2 2 - sr_ q 1 2 2 2 1 * sr_ q 1 2 2 1 2 = q 2 2 * q 1 1 - q 1 2 * q 2 1 := e4
        rw [e1] at e4'; omega
      have a5 : (q 2 2).natAbs * (sr_ q 1 2 2 2 2).natAbs = (q 2 2 * q 1 1 - q 1 2 * q 2 1 + sr_ q 1 2 2 2 1 * sr_ q 1 2 2 1 2).natAbs := by rw [← Int.natAbs_mul, a4]
      have a6 : (q 2 2 * q 1 1).natAbs = (q 2 2).natAbs * (q 1 1).natAbs := Int.natAbs_mul _ _
      have s1 : q 2 2 * q 1 1 ≤ 0 := by
        by_cases z : 0 < q 2 2
        · exact Int.mul_nonpos_of_nonneg_of_nonpos (by omega) (by omega)
        · exact Int.mul_nonpos_of_nonpos_of_nonneg (by omega) (by omega)
      have s2 : 0 ≤ q 1 2 * q 2 1 := by
        rcases hs with ⟨_, s, s'⟩ | ⟨_, s, s'⟩
        · exact Int.mul_nonneg s' s
        · exact Int.mul_nonneg_of_nonpos_of_nonpos s' s
      have a7 : (q 2 2).natAbs * (q 1 1).natAbs ≤ (q 2 2).natAbs * (sr_ q 1 2 2 2 2).natAbs := by
        rw [a5, ← a6]
        rw [Int.mul_comm (q 2 1) (q 1 2)] at a3
        generalize q 2 2 * q 1 1 = x at *
        generalize q 1 2 * q 2 1 = y at *
        generalize sr_ q 1 2 2 2 1 * sr_ q 1 2 2 1 2 = w at *
        omega
      have a8 : (q 1 1).natAbs ≤ (sr_ q 1 2 2 2 2).natAbs := Nat.le_of_mul_le_mul_left a7 hpos
      omega
/-- what the second corner leaves -/
def dx_ (H : Nat → Nat → Int) (X : Nat) (q : Nat → Nat → Int) : Prop := de3_ q H ∧ (q 0 0).natAbs = X
def f1_ (H : Nat → Nat → Int) (X : Nat) (q : Nat → Nat → Int) : Prop := dx_ H X q ∧ e0_ q ∧ q 1 2 = 0 ∧ q 2 1 = 0 ∧ (q 2 2).natAbs ≤ 2916 ∧ (q 1 1).natAbs ≤ 31850510
theorem zd_F {H q : Nat → Nat → Int} {X : Nat} (hd : dx_ H X q) (h : zd_ q) (hc : cc_ q 1) : f1_ H X q := by
  obtain ⟨h00, h0, _, _, _, hD, hB⟩ := h
  have z1 : q 2 1 = 0 := hc.1 2 (by omega) (by omega)
  have z2 : q 1 2 = 0 := hc.2 2 (by omega) (by omega)
  refine ⟨hd, h00, z2, z1, ?_, hB⟩
  rw [z1, Int.zero_mul, Int.sub_zero] at hD
  exact ab_mul (t := q 1 1) (n := q 2 2) (B := 2916) h0 hD
theorem zd_ts {H : Nat → Nat → Int} {X : Nat} : ∀ k : Nat, (∀ q, zd_ q → dx_ H X q → ¬ cc_ q 1 → ((q 1 1).natAbs < un_ (k + 1) ∨ ∃ x, cm_ q x ∧ x < un_ k) → ts_ 1 (f1_ H X) k q) ∧ (∀ q, zd_ q → dx_ H X q → ¬ cc_ q 1 → (q 1 1).natAbs < (q 2 2).natAbs → ((q 1 1).natAbs < un_ k + un_ (k - 1) ∨ ∃ x, cm_ q x ∧ x < un_ k) → ts_ 1 (f1_ H X) k q) := by
  have lt : ∀ q, zd_ q → ∀ x, cm_ q x → x < (q 1 1).natAbs := by
    rintro q h x ⟨_, k2 | k2⟩
    · have := h.2.2.1; omega
    · have := h.2.2.2.1; omega
  have none : ∀ q, zd_ q → ¬ lb_ q 1 none := fun q h z => h.2.1 (z 1 1 (by omega) (by omega) (by omega) (by omega))
  intro k
  induction k with
  | zero =>
    have bad : ∀ q, zd_ q → ¬ cc_ q 1 → ((q 1 1).natAbs < 2 ∨ ∃ x, cm_ q x ∧ x < 1) → False := by
      intro q h hnc hh
      obtain ⟨x, hx⟩ := cm_ex hnc
      have := lt q h x hx
      have := hx.1
      rcases hh with hh | ⟨y, hy, hy'⟩
      · omega
      · have := hy.1; omega
    refine ⟨fun q h _ hnc hh => (bad q h hnc hh).elim, fun q h _ hnc _ hh => (bad q h hnc hh).elim⟩
  | succ k ih =>
    obtain ⟨ihA, ihB⟩ := ih
    obtain ⟨u1, u2, u3⟩ := un_m k
    have go : ∀ q, zd_ q → dx_ H X q → ¬ cc_ q 1 → (∀ r c, lb_ q 1 (some (r, c)) → ¬ cc_ (sr_ q 1 r c) 1 → zd_ (sr_ q 1 r c) → dx_ H X (sr_ q 1 r c) → ts_ 1 (f1_ H X) k (sr_ q 1 r c)) → ts_ 1 (f1_ H X) (k + 1) q := by
      intro q h hd hnc hh
      refine ⟨zd_R h, fun z => (none q h z).elim, fun r c hb => ?_⟩
      have hr : 1 ≤ r := hb.1
      have hr3 : r < 3 := hb.2.1
      have hc : 1 ≤ c := hb.2.2.1
      have hc3 : c < 3 := hb.2.2.2.1
      have hne : q r c ≠ 0 := hb.2.2.2.2.1
      have hd' : dx_ H X (sr_ q 1 r c) := ⟨de3_t (de3_sr (by omega) hr3 hc3) hd.1, by rw [(e0_sr h.1 hr hr3 hc hc3).2]; exact hd.2⟩
      have hle : (q r c).natAbs ≤ (q 1 1).natAbs := hb.2.2.2.2.2.1 1 1 (by omega) (by omega) (by omega) (by omega) h.2.1
      have h' : zd_ (sr_ q 1 r c) := zd_of h.1 hr hr3 hc hc3 hne h.2.2.2.2.2.1 (by have := h.2.2.2.2.2.2; omega)
      exact ⟨fun hcc => zd_F hd' h' hcc, fun hcc => hh r c hb hcc h' hd'⟩
    refine ⟨fun q h hd hnc hh => go q h hd hnc (fun r c hb hcc h' hd' => ?_), fun q h hd hnc hbig hh => go q h hd hnc (fun r c hb hcc h' hd' => ?_)⟩
    · obtain ⟨s1, s2, s3⟩ := zd_step h hnc hb hcc
      have e11 : sr_ q 1 r c 1 1 = q r c := sr_kk q (by omega)
      by_cases z : (q r c).natAbs < un_ (k + 1)
      · exact ihA _ h' hd' hcc (Or.inl (by rw [e11]; exact z))
      · have hp : (q 1 1).natAbs < un_ (k + 2) := by
          rcases hh with hh | ⟨x, hx, hx'⟩
          · exact hh
          · have := s2 x hx; omega
        rcases s3 with (s3 | ⟨x, hx, hx'⟩) | ⟨_, s3⟩
        · omega
        · exact ihA _ h' hd' hcc (Or.inr ⟨x, hx, by omega⟩)
        · refine ihB _ h' hd' hcc s3 (Or.inl ?_)
          rw [e11]
          cases k with
          | zero =>
            have e2 : un_ 2 = 3 := rfl
            have e1 : un_ 1 = 2 := rfl
            have hp' : (q 1 1).natAbs < 3 := hp
            have z' : ¬ (q r c).natAbs < 2 := z
            omega
          | succ k =>
            have e3 : un_ (k + 3) = un_ (k + 1) + un_ k + 1 := un_s k
            have hp' : (q 1 1).natAbs < un_ (k + 3) := hp
            show (q r c).natAbs < un_ (k + 1) + un_ k
            omega
    · obtain ⟨s1, s2, s3⟩ := zd_step h hnc hb hcc
      have e11 : sr_ q 1 r c 1 1 = q r c := sr_kk q (by omega)
      by_cases z : (q r c).natAbs < un_ (k + 1)
      · exact ihA _ h' hd' hcc (Or.inl (by rw [e11]; exact z))
      · have hp : (q 1 1).natAbs < un_ (k + 1) + un_ k := by
          rcases hh with hh | ⟨x, hx, hx'⟩
          · exact hh
          · have := s2 x hx; omega
        rcases s3 with (s3 | ⟨x, hx, hx'⟩) | ⟨s3, _⟩
        · omega
        · exact ihA _ h' hd' hcc (Or.inr ⟨x, hx, by omega⟩)
        · omega
theorem l1_ts {H q : Nat → Nat → Int} (hH : (dz_ H 0 1 2).natAbs ≤ 2916) (hf : f0_ H q) : ts_ 1 (f1_ H (q 0 0).natAbs) 60 q := by
  obtain ⟨hd, hf⟩ := hf
  rcases hf with ⟨hc, h00, _, hb⟩ | hz
  · have he : e0_ q := ⟨hc.2 1 (by omega) (by omega), hc.2 2 (by omega) (by omega), hc.1 1 (by omega) (by omega), hc.1 2 (by omega) (by omega)⟩
    have hD : (q 1 1 * q 2 2 - q 2 1 * q 1 2).natAbs ≤ 2916 := by
      have h1 := de3_det hd
      have h2 : dz_ q 0 1 2 = q 0 0 * (q 1 1 * q 2 2 - q 2 1 * q 1 2) := by
        obtain ⟨a1, a2, a3, a4⟩ := he
        unfold dz_ dt_; rw [a1, a2, a3, a4]; grind
      rw [h2] at h1
      exact ab_mul (B := 2916) h00 (by rw [h1]; exact hH)
    refine ⟨fun i j a1 a2 a3 a4 => zi_Rabs (by have := hb i j (by omega) a2 (by omega) a4; omega), fun z => ?_, fun r c hl => ?_⟩
    · have z11 := z 1 1 (by omega) (by omega) (by omega) (by omega)
      have z12 := z 1 2 (by omega) (by omega) (by omega) (by omega)
      have z21 := z 2 1 (by omega) (by omega) (by omega) (by omega)
      have z22 := z 2 2 (by omega) (by omega) (by omega) (by omega)
      exact ⟨⟨hd, rfl⟩, he, z12, z21, by rw [z22]; decide, by rw [z11]; decide⟩
    · have hr : 1 ≤ r := hl.1
      have hr3 : r < 3 := hl.2.1
      have hc1 : 1 ≤ c := hl.2.2.1
      have hc3 : c < 3 := hl.2.2.2.1
      have hne : q r c ≠ 0 := hl.2.2.2.2.1
      have hB := hb r c (by omega) hr3 (by omega) hc3
      have hd' : dx_ H (q 0 0).natAbs (sr_ q 1 r c) := ⟨de3_t (de3_sr (by omega) hr3 hc3) hd, by rw [(e0_sr he hr hr3 hc1 hc3).2]⟩
      have h' : zd_ (sr_ q 1 r c) := zd_of he hr hr3 hc1 hc3 hne hD hB
      refine ⟨fun hcc => zd_F hd' h' hcc, fun hcc => (zd_ts 59).1 _ h' hd' hcc (Or.inl ?_)⟩
      rw [sr_kk q (by omega)]
      have : un_ (59 + 1) = 47261894 := un_60
      omega
  · have Z : ∀ i j, i < 3 → j < 3 → q i j = 0 := fun i j a b => hz i j (by omega) a (by omega) b
    have fin : f1_ H (q 0 0).natAbs q := ⟨⟨hd, rfl⟩, ⟨Z 0 1 (by omega) (by omega), Z 0 2 (by omega) (by omega), Z 1 0 (by omega) (by omega), Z 2 0 (by omega) (by omega)⟩, Z 1 2 (by omega) (by omega), Z 2 1 (by omega) (by omega), by rw [Z 2 2 (by omega) (by omega)]; decide, by rw [Z 1 1 (by omega) (by omega)]; decide⟩
    refine ⟨fun i j _ a _ b => by rw [Z i j a b]; exact zi_R0, fun _ => fin, fun r c hl => ?_⟩
    exact absurd (Z r c hl.2.1 hl.2.2.2.1) hl.2.2.2.2.1
/-- the third corner: nothing changes -/
theorem l2_ts {F : (Nat → Nat → Int) → Prop} {q : Nat → Nat → Int} (hF : F q) (hc : ∀ q', (∀ i j, i < 3 → j < 3 → q' i j = q i j) → F q') (hB : (q 2 2).natAbs ≤ 2916) : ts_ 2 F 60 q := by
  refine ⟨fun i j a1 a2 a3 a4 => ?_, fun _ => hF, fun r c hl => ?_⟩
  · have e1 : i = 2 := by omega
    have e2 : j = 2 := by omega
    subst e1; subst e2
    exact zi_Rabs (by omega)
  · have e1 : r = 2 := by have := hl.1; have := hl.2.1; dsimp only at *; omega
    have e2 : c = 2 := by have := hl.2.2.1; have := hl.2.2.2.1; dsimp only at *; omega
    subst e1; subst e2
    have cc : cc_ (sr_ q 2 2 2) 2 := ⟨fun i a b => absurd b (by omega), fun i a b => absurd b (by omega)⟩
    refine ⟨fun _ => hc _ (fun i j hi hj => ?_), fun z => absurd cc z⟩
    unfold sr_ cq_ rp_
    rw [if_neg (by omega), if_neg (by omega), xy_sv q hi]
    have e : ∀ i, sv_ 2 2 i = i := by
      intro i; unfold sv_
      by_cases z : i = 2
      · rw [if_pos z, z]
      · rw [if_neg z, if_neg z]
    rw [e, e]
end
section
/-! the class: greatest common divisors, pairs of the diagonal -/
section
variable {fc fr fk fs fh fl fb : Int32} {aR aW aS aO aQ aD aE : Nat → Int32} {post : Int32 → Prop}
theorem xz_16 : ∀ j k a b : Nat, k + j ≤ 40 → a < 2147483648 → b < 2147483648 → (b ≤ a ∧ a * b < 2 ^ j) → post (nI (Nat.gcd a b)) → wX_greatest_16 post fc fr fk fs fh fl fb aR aW aS aO aQ aD aE (j + 1) (nI a) (nI b) (nI k) := by
  intro j
  induction j with
  | zero =>
    intro k a b hk ha hb ⟨h1, h2⟩ hp
    have hb0 : b = 0 := by
      rcases Nat.eq_zero_or_pos b with z | z
      · exact z
      · have : 1 * 1 ≤ a * b := Nat.mul_le_mul (by omega) z
        omega
    subst hb0
    rw [Nat.gcd_zero_right] at hp
    exact br_c (fun _ => hp) (fun _ => br_t nI_0 hp)
  | succ j ih =>
    intro k a b hk ha hb ⟨h1, h2⟩ hp
    refine br_f (nI_ge (a := k) (b := 40) (by omega) (by omega)) ?_
    rcases Nat.eq_zero_or_pos b with z | z
    · subst z; rw [Nat.gcd_zero_right] at hp; exact br_t nI_0 hp
    · have hne : ¬ nI b = 0 := nI_ne0 z hb
      have hlt := Nat.mod_lt a z
      refine br_f hne ⟨hne, nm_r (zn_rem ha hb) (nm_r (nI_1 k) (ih (k + 1) b (a % b) (by omega) hb (by omega) ⟨by omega, ?_⟩ ?_))⟩
      · have h3 : 2 * (a % b) ≤ a := by
          have d1 := Nat.div_add_mod a b
          have d3 : 1 ≤ a / b := (Nat.le_div_iff_mul_le z).mpr (by omega)
          have d5 : b * 1 ≤ b * (a / b) := Nat.mul_le_mul_left _ d3
          omega
        have h4 : (2 * (a % b)) * b ≤ a * b := Nat.mul_le_mul_right _ h3
        have h5 : (2 * (a % b)) * b = 2 * (b * (a % b)) := by grind
        rw [Nat.pow_succ] at h2
        omega
      · rw [Nat.gcd_comm, ← Nat.gcd_rec, Nat.gcd_comm]; exact hp
theorem xz_great {a b : Nat} (ha : a ≤ 2916) (hb : b ≤ 2916) (hp : post (nI (Nat.gcd a b))) : wpX_greatest post (fc, fr, fk, fs, fh, fl, fb, aR, aW, aS, aO, aQ, aD, aE) (nI a) (nI b) := by
  have e1 : ((a : Int).natAbs) = a := Int.natAbs_natCast a
  have e2 : ((b : Int).natAbs) = b := Int.natAbs_natCast b
  unfold wpX_greatest
  rw [← zi_n a, ← zi_n b]
  refine xf_size (zi_Rn (by omega)) ?_
  refine xf_size (zi_Rn (by omega)) ?_
  rw [e1, e2]
  have hab : a * b ≤ 2916 * 2916 := Nat.mul_le_mul ha hb
  by_cases h : b ≤ a
  · exact ⟨_, xz_16 39 0 a b (by omega) (by omega) (by omega) ⟨h, by omega⟩ hp⟩
  · have hb0 : 0 < b := by omega
    have hne : ¬ nI b = 0 := nI_ne0 hb0 (by omega)
    refine ⟨40, br_f (by decide) (br_f hne ⟨hne, nm_r (zn_rem (by omega) (by omega)) ?_⟩)⟩
    rw [Nat.mod_eq_of_lt (by omega)]
    refine nm_r (nI_1 0) (xz_16 38 1 b a (by omega) (by omega) (by omega) ⟨by omega, by rw [Nat.mul_comm]; omega⟩ ?_)
    rw [Nat.gcd_comm]; exact hp
end
theorem lc_eq {x y : Nat} (h : Nat.gcd x y ≠ 0) : x / Nat.gcd x y * y = Nat.lcm x y := by
  unfold Nat.lcm
  rw [Nat.mul_comm x y, Nat.mul_comm, Nat.mul_div_assoc _ (Nat.gcd_dvd_left x y)]
section
variable {fc fr fk fs fh fl fb : Int32} {aR aW aS aO aQ aD aE : Nat → Int32} {post : SX → Prop} {d : Nat → Int}
/-- a pair becomes its greatest common divisor and its least common multiple -/
theorem xz_pair {i j x y : Nat} (hi : i < 3) (hj : j < 3) (hij : i ≠ j) (hx : d i = x) (hy : d j = y) (hx' : x ≤ 2916) (hy' : y ≤ 2916) (hp : ∀ d' : Nat → Int, d' i = (Nat.gcd x y : Nat) → d' j = (Nat.lcm x y : Nat) → (∀ k, k ≠ i → k ≠ j → d' k = d k) → post (fc, fr, fk, fs, fh, fl, fb, aR, aW, aS, aO, aQ, vE d', aE)) : wpX_sortPair post (fc, fr, fk, fs, fh, fl, fb, aR, aW, aS, aO, aQ, vE d, aE) (nI i) (nI j) := by
  have ei : (nI i).toNatClampNeg = i := nI_clamp (by omega)
  have ej : (nI j).toNatClampNeg = j := nI_clamp (by omega)
  refine ⟨vp_in_nI hi (by omega), ?_⟩
  rw [ei]
  refine nm_r (e' := nI x) (by show zi_v (d i) = nI x; rw [hx, zi_n]) ⟨vp_in_nI hj (by omega), ?_⟩
  rw [ej]
  refine nm_r (e' := nI y) (by show zi_v (d j) = nI y; rw [hy, zi_n]) ?_
  have hg : Nat.gcd x y ≤ 2916 := by
    rcases Nat.eq_zero_or_pos x with z | z
    · subst z; rw [Nat.gcd_zero_left]; exact hy'
    · exact Nat.le_trans (Nat.gcd_le_left y z) hx'
  refine xz_great hx' hy' ?_
  refine zn_eq (b := 0) (by omega) (by omega) (fun z => ?_) (fun z => ?_)
  · have hx0 : x = 0 := Nat.eq_zero_of_gcd_eq_zero_left z
    have hy0 : y = 0 := Nat.eq_zero_of_gcd_eq_zero_right z
    subst hx0; subst hy0
    exact hp d (by rw [hx]; rfl) (by rw [hy]; rfl) (fun _ _ _ => rfl)
  · refine ⟨nI_ne0 (by omega) (by omega), vp_in_nI hj (by omega), ?_⟩
    rw [zn_div (by omega) (by omega), zn_mul, lc_eq z, ← zi_n, vE_upd]
    refine nm_e ⟨vp_in_nI hi (by omega), ?_⟩
    rw [← zi_n (Nat.gcd x y), vE_upd]
    refine nm_e (hp _ (by rw [vs_s]) (by rw [vs_o _ _ (by omega), vs_s]) (fun k h1 h2 => by rw [vs_o _ _ h1, vs_o _ _ h2]))
end
/-- the three divisors of three numbers -/
def t3_ (x y z : Nat) (g1 g2 g3 : Int → Prop) : Prop := (∀ n : Int, g1 n ↔ n ∣ (x : Int) ∧ n ∣ (y : Int) ∧ n ∣ (z : Int)) ∧ (∀ n : Int, g2 n ↔ n ∣ (x : Int) * y ∧ n ∣ (x : Int) * z ∧ n ∣ (y : Int) * z) ∧ (∀ n : Int, g3 n ↔ n ∣ (x : Int) * y * z)
theorem t3_gl {x y : Nat} : ((Nat.gcd x y : Nat) : Int) * ((Nat.lcm x y : Nat) : Int) = (x : Int) * y := by
  rw [← Int.natCast_mul, Nat.gcd_mul_lcm, Int.natCast_mul]
theorem t3_g {x y : Nat} {n : Int} : n ∣ ((Nat.gcd x y : Nat) : Int) ↔ n ∣ (x : Int) ∧ n ∣ (y : Int) := by
  have : ((Nat.gcd x y : Nat) : Int) = ((Int.gcd (x : Int) (y : Int) : Nat) : Int) := by rw [Int.gcd_natCast_natCast]
  rw [this]; exact Int.dvd_coe_gcd_iff
theorem t3_xl (x y : Nat) : (x : Int) ∣ ((Nat.lcm x y : Nat) : Int) ∧ (y : Int) ∣ ((Nat.lcm x y : Nat) : Int) := ⟨Int.natCast_dvd_natCast.mpr (Nat.dvd_lcm_left x y), Int.natCast_dvd_natCast.mpr (Nat.dvd_lcm_right x y)⟩
theorem t3_m {x y z : Nat} {n : Int} : n ∣ ((Nat.gcd x y : Nat) : Int) * z ↔ n ∣ (x : Int) * z ∧ n ∣ (y : Int) * z := by
  have : ((Nat.gcd x y : Nat) : Int) * z = ((Nat.gcd (x * z) (y * z) : Nat) : Int) := by rw [Nat.gcd_mul_right, Int.natCast_mul]
  rw [this, t3_g, Int.natCast_mul, Int.natCast_mul]
theorem t3_01 {x y z : Nat} {g1 g2 g3 : Int → Prop} (h : t3_ x y z g1 g2 g3) : t3_ (Nat.gcd x y) (Nat.lcm x y) z g1 g2 g3 := by
  obtain ⟨h1, h2, h3⟩ := h
  refine ⟨fun n => ?_, fun n => ?_, fun n => ?_⟩
  · rw [h1, t3_g]
    constructor
    · rintro ⟨a, b, c⟩; exact ⟨⟨a, b⟩, Int.dvd_trans a (t3_xl x y).1, c⟩
    · rintro ⟨⟨a, b⟩, _, c⟩; exact ⟨a, b, c⟩
  · rw [h2, t3_gl, t3_m]
    constructor
    · rintro ⟨a, b, c⟩; exact ⟨a, ⟨b, c⟩, Int.dvd_trans b (Int.mul_dvd_mul (t3_xl x y).1 (Int.dvd_refl _))⟩
    · rintro ⟨a, ⟨b, c⟩, _⟩; exact ⟨a, b, c⟩
  · rw [h3, t3_gl]
theorem t3_rot {x y z : Nat} {g1 g2 g3 : Int → Prop} (h : t3_ x y z g1 g2 g3) : t3_ y z x g1 g2 g3 := by
  obtain ⟨h1, h2, h3⟩ := h
  refine ⟨fun n => ?_, fun n => ?_, fun n => ?_⟩
  · rw [h1]; exact ⟨fun ⟨a, b, c⟩ => ⟨b, c, a⟩, fun ⟨a, b, c⟩ => ⟨c, a, b⟩⟩
  · rw [h2, Int.mul_comm (y : Int) x, Int.mul_comm (z : Int) x]; exact ⟨fun ⟨a, b, c⟩ => ⟨c, a, b⟩, fun ⟨a, b, c⟩ => ⟨b, c, a⟩⟩
  · rw [h3]
    have : (y : Int) * z * x = (x : Int) * y * z := by grind
    rw [this]
theorem t3_12 {x y z : Nat} {g1 g2 g3 : Int → Prop} (h : t3_ x y z g1 g2 g3) : t3_ x (Nat.gcd y z) (Nat.lcm y z) g1 g2 g3 := t3_rot (t3_rot (t3_01 (t3_rot h)))
theorem t3_fin {G : Int → Int → Int → Prop} {x y z : Nat} (h : t3_ x y z (d1_ G) (d2_ G) (d3_ G)) (hxy : x ∣ y) (hyz : y ∣ z) : dv_ G x (x * y) (x * y * z) := by
  obtain ⟨h1, h2, h3⟩ := h
  have a : (x : Int) ∣ y := Int.natCast_dvd_natCast.mpr hxy
  have b : (y : Int) ∣ z := Int.natCast_dvd_natCast.mpr hyz
  refine ⟨fun n => ?_, fun n => ?_, fun n => ?_⟩
  · rw [h1]; exact ⟨fun k => ⟨k, Int.dvd_trans k a, Int.dvd_trans (Int.dvd_trans k a) b⟩, fun k => k.1⟩
  · rw [h2, Int.natCast_mul]
    constructor
    · intro k
      refine ⟨k, Int.dvd_trans k (Int.mul_dvd_mul (Int.dvd_refl _) b), Int.dvd_trans k ?_⟩
      exact Int.mul_dvd_mul a b
    · intro k; exact k.1
  · rw [h3, Int.natCast_mul, Int.natCast_mul]
end
section
/-! the stair form as a square: sizes; the diagonal's sizes -/
theorem hr_row {t : Nat} {so : Nat → Int} {h : Nat → Nat → Int} {a b c d e f : Int} (hs : sa_ t so h a b c d e f) (hz : ∀ i j, t ≤ i → i < 3 → j < 3 → h i j = 0) {i : Nat} (hi : i < 3) : (h i 0 = a ∧ h i 1 = b ∧ h i 2 = c) ∨ (h i 0 = 0 ∧ h i 1 = d ∧ h i 2 = e) ∨ (h i 0 = 0 ∧ h i 1 = 0 ∧ h i 2 = f) ∨ (h i 0 = 0 ∧ h i 1 = 0 ∧ h i 2 = 0) := by
  obtain ⟨t1, t2, g0, g1, g2⟩ := hs
  by_cases q : t ≤ i
  · exact Or.inr (Or.inr (Or.inr ⟨hz i 0 q hi (by omega), hz i 1 q hi (by omega), hz i 2 q hi (by omega)⟩))
  · by_cases q2 : t2 ≤ i
    · rcases g2 with ⟨_, k, _⟩ | ⟨_, k, _, k0, k1, k2⟩
      · omega
      · have : i = t2 := by omega
        subst this; exact Or.inr (Or.inr (Or.inl ⟨k0, k1, k2⟩))
    · by_cases q1 : t1 ≤ i
      · rcases g1 with ⟨_, k, _⟩ | ⟨_, k, _, k0, k1, k2⟩
        · omega
        · have : i = t1 := by omega
          subst this; exact Or.inr (Or.inl ⟨k0, k1, k2⟩)
      · rcases g0 with ⟨_, k, _⟩ | ⟨_, k, _, k0, k1, k2⟩
        · omega
        · have : i = 0 := by omega
          subst this; exact Or.inl ⟨k0, k1, k2⟩
theorem hm_6 {Q : Nat → Prop} {R : Nat → Nat → Int} {a b c d e f : Int} (hn : hn_ a b c d e f) (hR : sm_ Q R) (hL : ∀ x y z, sp_L Q R x y z ↔ hl_ a b c d e f x y z) : (a * d).natAbs ≤ 2916 ∧ (a * e).natAbs ≤ 2916 ∧ (b * e - c * d).natAbs ≤ 2916 ∧ (a * f).natAbs ≤ 2916 ∧ (b * f).natAbs ≤ 2916 ∧ (d * f).natAbs ≤ 2916 := by
  by_cases h0 : a * d * f = 0
  · have := hb_2 hn h0 hR hL; omega
  · have k := hb_3 hR hL
    obtain ⟨n1, n2, n3, na, nd, nb, nc⟩ := hn
    have za : a ≠ 0 := by intro z; rw [z] at h0; simp at h0
    have zd : d ≠ 0 := by intro z; rw [z] at h0; simp at h0
    have zf : f ≠ 0 := by intro z; rw [z] at h0; simp at h0
    have x4 := nb (by omega)
    have x5 := nc (by omega)
    have y1 : (a * d).natAbs ≤ 2916 := ab_mul (t := f) (n := a * d) (B := 2916) zf (by rw [Int.mul_comm]; exact k)
    have y2 : (a * f).natAbs ≤ 2916 := ab_mul (t := d) (n := a * f) (B := 2916) zd (by rw [show d * (a * f) = a * d * f by grind]; exact k)
    have y3 : (d * f).natAbs ≤ 2916 := ab_mul (t := a) (n := d * f) (B := 2916) za (by rw [show a * (d * f) = a * d * f by grind]; exact k)
    have y4 : (a * e).natAbs ≤ (a * f).natAbs := by rw [Int.natAbs_mul, Int.natAbs_mul]; exact Nat.mul_le_mul_left _ (by omega)
    have y5 : (b * f).natAbs ≤ (d * f).natAbs := by rw [Int.natAbs_mul, Int.natAbs_mul]; exact Nat.mul_le_mul_right _ (by omega)
    have y6 : (b * e).natAbs ≤ (d * f).natAbs := by rw [Int.natAbs_mul, Int.natAbs_mul]; exact Nat.mul_le_mul (by omega) (by omega)
    have y7 : (c * d).natAbs ≤ (d * f).natAbs := by rw [Int.natAbs_mul, Int.natAbs_mul, Nat.mul_comm]; exact Nat.mul_le_mul (by omega) (by omega)
    have y8 : 0 ≤ b * e := Int.mul_nonneg (by omega) (by omega)
    have y9 : 0 ≤ c * d := Int.mul_nonneg (by omega) (by omega)
    refine ⟨y1, by omega, ?_, y2, by omega, y3⟩
    generalize b * e = u at *
    generalize c * d = v at *
    omega
/-- minors of two of the rows -/
theorem hm_m {a b c d e f x y z x' y' z' : Int} (h6 : (a * d).natAbs ≤ 2916 ∧ (a * e).natAbs ≤ 2916 ∧ (b * e - c * d).natAbs ≤ 2916 ∧ (a * f).natAbs ≤ 2916 ∧ (b * f).natAbs ≤ 2916 ∧ (d * f).natAbs ≤ 2916) (h : (x = a ∧ y = b ∧ z = c) ∨ (x = 0 ∧ y = d ∧ z = e) ∨ (x = 0 ∧ y = 0 ∧ z = f) ∨ (x = 0 ∧ y = 0 ∧ z = 0)) (h' : (x' = a ∧ y' = b ∧ z' = c) ∨ (x' = 0 ∧ y' = d ∧ z' = e) ∨ (x' = 0 ∧ y' = 0 ∧ z' = f) ∨ (x' = 0 ∧ y' = 0 ∧ z' = 0)) : (x * y' - y * x').natAbs ≤ 2916 ∧ (x * z' - z * x').natAbs ≤ 2916 ∧ (y * z' - z * y').natAbs ≤ 2916 := by
  obtain ⟨k1, k2, k3, k4, k5, k6⟩ := h6
  have cm : ∀ u v : Int, u * v - v * u = 0 := by intro u v; rw [Int.mul_comm]; omega
  have ng : ∀ u v u' v' : Int, v * u' - u * v' = -(u * v' - v * u') := by intro u v u' v'; omega
  rcases h with ⟨rfl, rfl, rfl⟩ | ⟨rfl, rfl, rfl⟩ | ⟨rfl, rfl, rfl⟩ | ⟨rfl, rfl, rfl⟩ <;> rcases h' with ⟨rfl, rfl, rfl⟩ | ⟨rfl, rfl, rfl⟩ | ⟨rfl, rfl, rfl⟩ | ⟨rfl, rfl, rfl⟩ <;> simp only [Int.mul_zero, Int.zero_mul, Int.sub_zero, Int.zero_sub, Int.natAbs_neg, Int.natAbs_zero, cm] <;> refine ⟨?_, ?_, ?_⟩ <;> first
    | omega
    | (rw [Int.mul_comm]; omega)
    | (rw [show ∀ u v w t : Int, u * v - w * t = -(t * w - v * u) from fun u v w t => by rw [Int.mul_comm u v, Int.mul_comm w t]; omega, Int.natAbs_neg]; omega)
theorem mt_3 {B : Nat} {u v : Nat → Int} (a1 : (u 0 * v 1 - u 1 * v 0).natAbs ≤ B) (a2 : (u 0 * v 2 - u 2 * v 0).natAbs ≤ B) (a3 : (u 1 * v 2 - u 2 * v 1).natAbs ≤ B) : ∀ i, i < 3 → ∀ j, j < 3 → (u i * v j - v i * u j).natAbs ≤ B := by
  have z : ∀ x y : Int, x * y - y * x = 0 := by intro x y; grind
  have b1 : u 0 * v 1 - v 0 * u 1 = u 0 * v 1 - u 1 * v 0 := by grind
  have b2 : u 0 * v 2 - v 0 * u 2 = u 0 * v 2 - u 2 * v 0 := by grind
  have b3 : u 1 * v 2 - v 1 * u 2 = u 1 * v 2 - u 2 * v 1 := by grind
  have c1 : u 1 * v 0 - v 1 * u 0 = -(u 0 * v 1 - u 1 * v 0) := by grind
  have c2 : u 2 * v 0 - v 2 * u 0 = -(u 0 * v 2 - u 2 * v 0) := by grind
  have c3 : u 2 * v 1 - v 2 * u 1 = -(u 1 * v 2 - u 2 * v 1) := by grind
  refine co3 (co3 ?_ ?_ ?_) (co3 ?_ ?_ ?_) (co3 ?_ ?_ ?_)
  · rw [z]; exact Nat.zero_le _
  · rw [b1]; exact a1
  · rw [b2]; exact a2
  · rw [c1, Int.natAbs_neg]; exact a1
  · rw [z]; exact Nat.zero_le _
  · rw [b3]; exact a3
  · rw [c2, Int.natAbs_neg]; exact a2
  · rw [c3, Int.natAbs_neg]; exact a3
  · rw [z]; exact Nat.zero_le _
/-- the square of the stair form is within -/
def hs_ (H : Nat → Nat → Int) : Prop := (∀ i j, i < 3 → j < 3 → (H i j).natAbs ≤ 2916) ∧ (dz_ H 0 1 2).natAbs ≤ 2916 ∧ (∀ r c i j, r < 3 → c < 3 → i < 3 → j < 3 → (H r c * H i j - H i c * H r j).natAbs ≤ 2916)
theorem hs_of {Q : Nat → Prop} {R : Nat → Nat → Int} {t : Nat} {so : Nat → Int} {h : Nat → Nat → Int} {a b c d e f : Int} (hn : hn_ a b c d e f) (hR : sm_ Q R) (hL : ∀ x y z, sp_L Q R x y z ↔ hl_ a b c d e f x y z) (hs : sa_ t so h a b c d e f) (ht : t ≤ 3) (hz : ∀ i j, t ≤ i → i < 3 → j < 3 → h i j = 0) : hs_ h ∧ (∀ x y z, lq_ h x y z ↔ hl_ a b c d e f x y z) := by
  have hB := hB_of hn hR hL
  obtain ⟨b1, b2, b3, b4, b5, b6⟩ := hB
  have hl : ∀ x y z, lq_ h x y z ↔ hl_ a b c d e f x y z := fun x y z => sa_hl hn hs ht (fun i a b => ⟨hz i 0 a b (by omega), hz i 1 a b (by omega), hz i 2 a b (by omega)⟩) x y z
  have h6 := hm_6 hn hR hL
  refine ⟨⟨fun i j hi hj => ?_, ?_, fun r cc i j h1 h2 h3 h4 => ?_⟩, hl⟩
  · have hrow := hr_row hs hz hi
    have : j = 0 ∨ j = 1 ∨ j = 2 := by omega
    rcases this with rfl | rfl | rfl <;> omega
  · have e : ∀ n : Int, n ∣ dz_ h 0 1 2 ↔ n ∣ a * d * f := fun n => by rw [← lq_d3, d3_c hl, hl_d3]
    have := nt_uniq (g := (dz_ h 0 1 2).natAbs) (g' := (a * d * f).natAbs) (fun n => by rw [Int.dvd_natAbs, Int.dvd_natAbs]; exact e n)
    rw [this]; exact hb_3 hR hL
  · have hm := hm_m h6 (hr_row hs hz h1) (hr_row hs hz h3)
    exact mt_3 (u := h r) (v := h i) hm.1 hm.2.1 hm.2.2 cc h2 j h4
theorem hs_14 {Q : Nat → Prop} {R : Nat → Nat → Int} {t : Nat} {so : Nat → Int} {h : Nat → Nat → Int} {a b c d e f : Int} (hn : hn_ a b c d e f) (hR : sm_ Q R) (hL : ∀ x y z, sp_L Q R x y z ↔ hl_ a b c d e f x y z) (hs : sa_ t so h a b c d e f) (ht : t ≤ 3) (hz : ∀ i j, t ≤ i → i < 3 → j < 3 → h i j = 0) {r k : Nat} (hb : lb_ h 0 (some (r, k))) : (h r k).natAbs ≤ 14 := by
  apply Classical.byContradiction
  intro z
  obtain ⟨_, _, _, _, hne, hmin, _⟩ := hb
  dsimp only at hne hmin
  have big : ∀ i j, i < 3 → j < 3 → h i j ≠ 0 → 15 ≤ (h i j).natAbs := fun i j a b q => by have := hmin i j (by omega) a (by omega) b q; omega
  have pv : ∀ m, m < 3 → pv_ a d f m = 0 ∨ 15 ≤ (pv_ a d f m).natAbs := by
    intro m hm
    rcases sa_so hs ht hm with ⟨q, _⟩ | ⟨q, s, s3, _, q0, q1, q2⟩
    · exact Or.inl q
    · right
      have : m = 0 ∨ m = 1 ∨ m = 2 := by omega
      rcases this with rfl | rfl | rfl
      · have e : h s 0 = a := q0
        have q' : 0 < a := q
        have := big s 0 s3 (by omega) (by rw [e]; omega)
        rw [e] at this; exact this
      · have e : h s 1 = d := q1
        have q' : 0 < d := q
        have := big s 1 s3 (by omega) (by rw [e]; omega)
        rw [e] at this; exact this
      · have e : h s 2 = f := q2
        have q' : 0 < f := q
        have := big s 2 s3 (by omega) (by rw [e]; omega)
        rw [e] at this; exact this
  have pa : a = 0 ∨ 15 ≤ a.natAbs := pv 0 (by omega)
  have pd : d = 0 ∨ 15 ≤ d.natAbs := pv 1 (by omega)
  have pf : f = 0 ∨ 15 ≤ f.natAbs := pv 2 (by omega)
  have mul : ∀ x y : Int, 15 ≤ x.natAbs → 15 ≤ y.natAbs → 225 ≤ (x * y).natAbs := by
    intro x y hx hy
    rw [Int.natAbs_mul]
    have : 15 * 15 ≤ x.natAbs * y.natAbs := Nat.mul_le_mul hx hy
    omega
  by_cases h0 : a * d * f = 0
  · obtain ⟨k1, k2, k3, k4, k5, k6⟩ := hb_2 hn h0 hR hL
    have zad : a * d = 0 := by
      rcases pa with q | q
      · rw [q]; simp
      · rcases pd with q' | q'
        · rw [q']; simp
        · have := mul a d q q'; omega
    have zaf : a * f = 0 := by
      rcases pa with q | q
      · rw [q]; simp
      · rcases pf with q' | q'
        · rw [q']; simp
        · have := mul a f q q'; omega
    have zdf : d * f = 0 := by
      rcases pd with q | q
      · rw [q]; simp
      · rcases pf with q' | q'
        · rw [q']; simp
        · have := mul d f q q'; omega
    obtain ⟨l1, l2, l3, l4, l5, l6⟩ := hb_1 hn zad zaf zdf hR hL
    have hB : ∀ i j, i < 3 → j < 3 → (h i j).natAbs ≤ 9 := by
      intro i j hi hj
      have hrow := hr_row hs hz hi
      have : j = 0 ∨ j = 1 ∨ j = 2 := by omega
      rcases this with rfl | rfl | rfl <;> omega
    have hr3 : r < 3 := by assumption
    have hk3 : k < 3 := by assumption
    have := hB r k hr3 hk3
    omega
  · have k := hb_3 hR hL
    have za : a ≠ 0 := by intro z; rw [z] at h0; simp at h0
    have zd : d ≠ 0 := by intro z; rw [z] at h0; simp at h0
    have zf : f ≠ 0 := by intro z; rw [z] at h0; simp at h0
    have m1 := mul a d (pa.resolve_left za) (pd.resolve_left zd)
    have m2 : 225 * 15 ≤ (a * d * f).natAbs := by rw [Int.natAbs_mul]; exact Nat.mul_le_mul m1 (pf.resolve_left zf)
    omega
/-- a diagonal square -/
theorem dq_hl {q : Nat → Nat → Int} (h : e0_ q) (h1 : q 1 2 = 0) (h2 : q 2 1 = 0) (x y z : Int) : lq_ q x y z ↔ hl_ (q 0 0) 0 0 (q 1 1) 0 (q 2 2) x y z := by
  obtain ⟨a1, a2, a3, a4⟩ := h
  constructor
  · intro s
    refine s _ (hl_gr _ _ _ _ _ _) (co3 ?_ ?_ ?_)
    · rw [a1, a2]; exact hl_0 _ _ _ _ _ _
    · rw [a3, h1]; exact hl_1 _ _ _ _ _ _
    · rw [a4, h2]; exact hl_2 _ _ _ _ _ _
  · rintro ⟨i, j, k, rfl, rfl, rfl⟩
    have g := sp_gr (fun i => i < 3) q
    have r0 := sp_row (Q := fun i => i < 3) (w := q) (i := 0) (by omega)
    have r1 := sp_row (Q := fun i => i < 3) (w := q) (i := 1) (by omega)
    have r2 := sp_row (Q := fun i => i < 3) (w := q) (i := 2) (by omega)
    rw [a1, a2] at r0; rw [a3, h1] at r1; rw [a4, h2] at r2
    exact gr_e (gr_add g (gr_add g (gr_mul g r0 i) (gr_mul g r1 j)) (gr_mul g r2 k)) (by omega) (by omega) (by omega)
theorem dq_t3 {q : Nat → Nat → Int} (h : e0_ q) (h1 : q 1 2 = 0) (h2 : q 2 1 = 0) : t3_ (q 0 0).natAbs (q 1 1).natAbs (q 2 2).natAbs (d1_ (lq_ q)) (d2_ (lq_ q)) (d3_ (lq_ q)) := by
  have hl := dq_hl h h1 h2
  have mm : ∀ (n x y : Int), n ∣ (x.natAbs : Int) * (y.natAbs : Int) ↔ n ∣ x * y := by
    intro n x y
    rw [← Int.natCast_mul, ← Int.natAbs_mul, Int.dvd_natAbs]
  refine ⟨fun n => ?_, fun n => ?_, fun n => ?_⟩
  · rw [d1_c hl, hl_d1, Int.dvd_natAbs, Int.dvd_natAbs, Int.dvd_natAbs]
    exact ⟨fun ⟨x, _, _, y, _, z⟩ => ⟨x, y, z⟩, fun ⟨x, y, z⟩ => ⟨x, ⟨0, by simp⟩, ⟨0, by simp⟩, y, ⟨0, by simp⟩, z⟩⟩
  · rw [d2_c hl, hl_d2, mm, mm, mm]
    exact ⟨fun ⟨x, _, _, y, _, z⟩ => ⟨x, y, z⟩, fun ⟨x, y, z⟩ => ⟨x, ⟨0, by simp⟩, ⟨0, by simp⟩, y, ⟨0, by simp⟩, z⟩⟩
  · rw [d3_c hl, hl_d3]
    have e : ((q 0 0).natAbs : Int) * ((q 1 1).natAbs : Int) * ((q 2 2).natAbs : Int) = ((q 0 0 * q 1 1 * q 2 2).natAbs : Int) := by
      rw [Int.natAbs_mul, Int.natAbs_mul, Int.natCast_mul, Int.natCast_mul]
    rw [e, Int.dvd_natAbs]
end
section
/-! the class: the diagonal form's walk -/
theorem g1_b {H : Nat → Nat → Int} (hs : hs_ H) {n : Nat} (h : d1_ (lq_ H) n) (h0 : ¬ d1_ (lq_ H) 0) : n ≤ 2916 := by
  unfold lq_ at *
  rw [sp_d1] at h h0
  have ⟨i, hi, hm⟩ : ∃ i, i < 3 ∧ ¬ ((0 : Int) ∣ H i 0 ∧ (0 : Int) ∣ H i 1 ∧ (0 : Int) ∣ H i 2) := by
    apply Classical.byContradiction
    intro k
    exact h0 (fun i hi => Classical.byContradiction fun z => k ⟨i, hi, z⟩)
  obtain ⟨k0, k1, k2⟩ := h i hi
  have le : ∀ x : Int, x ≠ 0 → (n : Int) ∣ x → x.natAbs ≤ 2916 → n ≤ 2916 := by
    intro x hx hd hb
    have hd' := Int.natAbs_dvd_natAbs.mpr hd
    rw [Int.natAbs_natCast] at hd'
    have := Nat.le_of_dvd (by omega) hd'
    omega
  by_cases z0 : H i 0 = 0
  · by_cases z1 : H i 1 = 0
    · have z2 : H i 2 ≠ 0 := by intro z2; apply hm; rw [z0, z1, z2]; simp
      exact le _ z2 k2 (hs.1 i 2 hi (by omega))
    · exact le _ z1 k1 (hs.1 i 1 hi (by omega))
  · exact le _ z0 k0 (hs.1 i 0 hi (by omega))
theorem g2_b {H : Nat → Nat → Int} (hs : hs_ H) {n : Nat} (h : d2_ (lq_ H) n) (h0 : ¬ d2_ (lq_ H) 0) : n ≤ 2916 := by
  unfold lq_ at *
  rw [sp_d2] at h h0
  have ⟨i, j, hi, hj, hm⟩ : ∃ i j, i < 3 ∧ j < 3 ∧ ¬ ((0 : Int) ∣ m1_ (H i 0) (H i 1) (H i 2) (H j 0) (H j 1) (H j 2) ∧ (0 : Int) ∣ m2_ (H i 0) (H i 1) (H i 2) (H j 0) (H j 1) (H j 2) ∧ (0 : Int) ∣ m3_ (H i 0) (H i 1) (H i 2) (H j 0) (H j 1) (H j 2)) := by
    apply Classical.byContradiction
    intro k
    exact h0 (fun i j hi hj => Classical.byContradiction fun z => k ⟨i, j, hi, hj, z⟩)
  obtain ⟨k0, k1, k2⟩ := h i j hi hj
  have le : ∀ x : Int, x ≠ 0 → (n : Int) ∣ x → x.natAbs ≤ 2916 → n ≤ 2916 := by
    intro x hx hd hb
    have hd' := Int.natAbs_dvd_natAbs.mpr hd
    rw [Int.natAbs_natCast] at hd'
    have := Nat.le_of_dvd (by omega) hd'
    omega
  have c1 : (m1_ (H i 0) (H i 1) (H i 2) (H j 0) (H j 1) (H j 2)).natAbs ≤ 2916 := by
    have := hs.2.2 i 0 j 1 hi (by omega) hj (by omega)
    unfold m1_
    rw [Int.mul_comm (H i 1) (H j 0)]; exact this
  have c2 : (m2_ (H i 0) (H i 1) (H i 2) (H j 0) (H j 1) (H j 2)).natAbs ≤ 2916 := by
    have := hs.2.2 i 0 j 2 hi (by omega) hj (by omega)
    unfold m2_
    rw [Int.mul_comm (H i 2) (H j 0)]; exact this
  have c3 : (m3_ (H i 0) (H i 1) (H i 2) (H j 0) (H j 1) (H j 2)).natAbs ≤ 2916 := by
    have := hs.2.2 i 1 j 2 hi (by omega) hj (by omega)
    unfold m3_
    rw [Int.mul_comm (H i 2) (H j 1)]; exact this
  by_cases z0 : m1_ (H i 0) (H i 1) (H i 2) (H j 0) (H j 1) (H j 2) = 0
  · by_cases z1 : m2_ (H i 0) (H i 1) (H i 2) (H j 0) (H j 1) (H j 2) = 0
    · have z2 : m3_ (H i 0) (H i 1) (H i 2) (H j 0) (H j 1) (H j 2) ≠ 0 := by intro z2; apply hm; rw [z0, z1, z2]; simp
      exact le _ z2 k2 c3
    · exact le _ z1 k1 c2
  · exact le _ z0 k0 c1
theorem t3_b {H : Nat → Nat → Int} (hs : hs_ H) {x y z : Nat} (h : t3_ x y z (d1_ (lq_ H)) (d2_ (lq_ H)) (d3_ (lq_ H))) : x ≤ 2916 ∧ y ≤ 2916 ∧ z ≤ 2916 ∧ x * y ≤ 2916 := by
  obtain ⟨h1, h2, h3⟩ := h
  have p3 : x * y * z ≤ 2916 := by
    have e : ∀ n : Int, n ∣ ((x * y * z : Nat) : Int) ↔ n ∣ dz_ H 0 1 2 := fun n => by rw [Int.natCast_mul, Int.natCast_mul, ← h3, lq_d3]
    have := nt_uniq (g := x * y * z) (g' := (dz_ H 0 1 2).natAbs) (fun n => by rw [e, Int.dvd_natAbs])
    rw [this]; exact hs.2.1
  have m0 : ∀ u v : Nat, u * v = 0 → u = 0 ∨ v = 0 := fun u v q => Nat.mul_eq_zero.mp q
  have le1 : ∀ u v : Nat, v ≠ 0 → u ≤ u * v := fun u v q => Nat.le_mul_of_pos_right _ (by omega)
  have le2 : ∀ u v : Nat, u ≠ 0 → v ≤ u * v := fun u v q => Nat.le_mul_of_pos_left _ (by omega)
  by_cases w : x * y = 0 ∧ x * z = 0 ∧ y * z = 0
  · by_cases w1 : x = 0 ∧ y = 0 ∧ z = 0
    · obtain ⟨rfl, rfl, rfl⟩ := w1; decide
    · have n0 : ¬ d1_ (lq_ H) 0 := by
        rw [h1]
        rintro ⟨k1, k2, k3⟩
        have k1 := Int.zero_dvd.mp k1
        have k2 := Int.zero_dvd.mp k2
        have k3 := Int.zero_dvd.mp k3
        exact w1 ⟨by omega, by omega, by omega⟩
      obtain ⟨wxy, wxz, wyz⟩ := w
      refine ⟨?_, ?_, ?_, by omega⟩
      · by_cases q : x = 0
        · omega
        · have y0 := (m0 _ _ wxy).resolve_left q
          have z0 := (m0 _ _ wxz).resolve_left q
          refine g1_b hs ((h1 _).mpr ⟨Int.dvd_refl _, ?_, ?_⟩) n0
          · rw [y0]; simp
          · rw [z0]; simp
      · by_cases q : y = 0
        · omega
        · have x0 := (m0 _ _ wxy).resolve_right q
          have z0 := (m0 _ _ wyz).resolve_left q
          refine g1_b hs ((h1 _).mpr ⟨?_, Int.dvd_refl _, ?_⟩) n0
          · rw [x0]; simp
          · rw [z0]; simp
      · by_cases q : z = 0
        · omega
        · have x0 := (m0 _ _ wxz).resolve_right q
          have y0 := (m0 _ _ wyz).resolve_right q
          refine g1_b hs ((h1 _).mpr ⟨?_, ?_, Int.dvd_refl _⟩) n0
          · rw [x0]; simp
          · rw [y0]; simp
  · by_cases w3 : x * y * z = 0
    · have n0 : ¬ d2_ (lq_ H) 0 := by
        rw [h2]
        rintro ⟨k1, k2, k3⟩
        have k1 := Int.zero_dvd.mp k1
        have k2 := Int.zero_dvd.mp k2
        have k3 := Int.zero_dvd.mp k3
        rw [← Int.natCast_mul] at k1 k2 k3
        exact w ⟨by omega, by omega, by omega⟩
      have key : ∀ u : Nat, ((u : Int) ∣ (x : Int) * y ∧ (u : Int) ∣ (x : Int) * z ∧ (u : Int) ∣ (y : Int) * z) → u ≤ 2916 := fun u hu => g2_b hs ((h2 _).mpr hu) n0
      rcases m0 _ _ w3 with q | q
      · rcases m0 _ _ q with q | q
        · have b := key (y * z) ⟨by rw [q]; simp, by rw [q]; simp, by rw [Int.natCast_mul]; exact Int.dvd_refl _⟩
          have yz : y * z ≠ 0 := by intro r; exact w ⟨by rw [q]; simp, by rw [q]; simp, r⟩
          have y0 : y ≠ 0 := by intro r; rw [r] at yz; simp at yz
          have z0 : z ≠ 0 := by intro r; rw [r] at yz; simp at yz
          have l1 := le1 y z z0
          have l2 := le2 y z y0
          refine ⟨by omega, by omega, by omega, by rw [q]; simp⟩
        · have b := key (x * z) ⟨by rw [q]; simp, by rw [Int.natCast_mul]; exact Int.dvd_refl _, by rw [q]; simp⟩
          have xz : x * z ≠ 0 := by intro r; exact w ⟨by rw [q]; simp, r, by rw [q]; simp⟩
          have x0 : x ≠ 0 := by intro r; rw [r] at xz; simp at xz
          have z0 : z ≠ 0 := by intro r; rw [r] at xz; simp at xz
          have l1 := le1 x z z0
          have l2 := le2 x z x0
          refine ⟨by omega, by omega, by omega, by rw [q]; simp⟩
      · have b := key (x * y) ⟨by rw [Int.natCast_mul]; exact Int.dvd_refl _, by rw [q]; simp, by rw [q]; simp⟩
        have xy : x * y ≠ 0 := by intro r; exact w ⟨r, by rw [q]; simp, by rw [q]; simp⟩
        have x0 : x ≠ 0 := by intro r; rw [r] at xy; simp at xy
        have y0 : y ≠ 0 := by intro r; rw [r] at xy; simp at xy
        have l1 := le1 x y y0
        have l2 := le2 x y x0
        refine ⟨by omega, by omega, by omega, b⟩
    · have z0 : z ≠ 0 := by intro r; rw [r] at w3; simp at w3
      have xy : x * y ≠ 0 := by intro r; rw [r] at w3; simp at w3
      have x0 : x ≠ 0 := by intro r; rw [r] at xy; simp at xy
      have y0 : y ≠ 0 := by intro r; rw [r] at xy; simp at xy
      have l0 := le1 (x * y) z z0
      have l00 := le2 (x * y) z xy
      have l1 := le1 x y y0
      have l2 := le2 x y x0
      refine ⟨by omega, by omega, by omega, by omega⟩
theorem t3_de {q H : Nat → Nat → Int} (h : de3_ q H) {x y z : Nat} (ht : t3_ x y z (d1_ (lq_ q)) (d2_ (lq_ q)) (d3_ (lq_ q))) : t3_ x y z (d1_ (lq_ H)) (d2_ (lq_ H)) (d3_ (lq_ H)) :=
  ⟨fun n => (h n).1.symm.trans (ht.1 n), fun n => (h n).2.1.symm.trans (ht.2.1 n), fun n => (h n).2.2.symm.trans (ht.2.2 n)⟩
/-- the stairs copied to the square -/
def cs9_ (s a : Nat → Int32) (k : Nat) : Nat → Int32 := fun i => if i < k then s i else a i
theorem cs9_s (s a : Nat → Int32) (k : Nat) : upd (cs9_ s a k) k (s k) = cs9_ s a (k + 1) := by
  funext i; unfold upd cs9_
  by_cases q : i = k
  · subst q; rw [if_pos rfl, if_pos (by omega)]
  · rw [if_neg q]
    by_cases q' : i < k
    · rw [if_pos q', if_pos (show i < k + 1 by omega)]
    · rw [if_neg q', if_neg (show ¬ i < k + 1 by omega)]
theorem cs9_e (h : Nat → Nat → Int) (a : Nat → Int32) : ∃ q, cs9_ (mE h) a 9 = mE q ∧ ∀ i j, i < 3 → j < 3 → q i j = h i j := by
  refine ⟨fun i j => if i < 3 then h i j else (a (3 * i + j)).toInt, ?_, fun i j hi _ => by dsimp only; rw [if_pos hi]⟩
  funext i
  unfold cs9_ mE
  dsimp only
  by_cases q : i < 9
  · rw [if_pos q, if_pos (by omega)]
  · rw [if_neg q, if_neg (by omega), zi_of]
    have : 3 * (i / 3) + i % 3 = i := by omega
    rw [this]
section
variable {fc fr fk fs fh fl fb : Int32} {aR aW aS aO aQ aD aE : Nat → Int32} {post : SX → Prop}
theorem xh_14 (hp : ∃ n, wX_buildShape_40 post n 0 fc fr fk fs fh fl fb aR aW aS aO (cs9_ aS aQ 9) aD aE) : ∀ d k : Nat, k + d = 9 → wX_buildShape_14 post fc fr fk fs fh fl fb (d + 1) (nI k) aR aW aS aO (cs9_ aS aQ k) aD aE := by
  intro d
  induction d with
  | zero =>
    intro k hk
    have : k = 9 := by omega
    subst this
    exact br_t (by decide) hp
  | succ d ih =>
    intro k hk
    have ec : (nI k).toNatClampNeg = k := nI_clamp (by omega)
    refine br_f (nI_ge (a := k) (b := 9) (by omega) (by omega)) ⟨vp_in_nI (by omega) (by omega), vp_in_nI (by omega) (by omega), ?_⟩
    rw [ec]
    exact nm_r (cs9_s aS aQ k) (nm_r (nI_1 k) (ih (k + 1) (by omega)))
theorem xh_91 {J40 : Int32 → Int32 → Int32 → Int32 → Int32 → Int32 → Int32 → Int32 → (Nat → Int32) → (Nat → Int32) → (Nat → Int32) → (Nat → Int32) → (Nat → Int32) → (Nat → Int32) → (Nat → Int32) → Prop} {q : Nat → Nat → Int} {d : Nat → Int} {k : Nat} (hk : k < 3) (hR : zi_R (q k k)) (hJ : J40 (nI (k + 1)) fc fr fk fs fh fl fb aR aW aS aO (mE q) (vE (vs_ d k ((q k k).natAbs : Nat))) aE) : wX_buildShape_91 post J40 (nI k) fc fr fk fs fh fl fb aR aW aS aO (mE q) (vE d) aE := by
  have ek : (nI k).toNatClampNeg = k := nI_clamp (by omega)
  refine ⟨by rw [zn_4]; exact vp_in_nI (by omega) (by omega), ?_⟩
  rw [mE_4 q hk]
  refine xf_size hR ⟨vp_in_nI hk (by omega), ?_⟩
  rw [ek, ← zi_n, vE_upd]
  exact nm_e (nm_r (nI_1 k) hJ)
/-- from the stair form's square to the sorted diagonal -/
theorem xh_40 {H : Nat → Nat → Int} {G : Int → Int → Int → Prop} (hs : hs_ H) (hG : ∀ x y z, lq_ H x y z ↔ G x y z) (h14 : ∀ r c, lb_ H 0 (some (r, c)) → (H r c).natAbs ≤ 14) (hp : ∀ aQ' aD', (∃ d0 d1 d2 : Nat, aD' 0 = nI d0 ∧ aD' 1 = nI d1 ∧ aD' 2 = nI d2 ∧ d0 < 2147483648 ∧ d1 < 2147483648 ∧ d2 < 2147483648 ∧ dv_ G d0 (d0 * d1) (d0 * d1 * d2)) → post (fc, fr, fk, fs, 1, fl, fb, aR, aW, aS, aO, aQ', aD', aE)) : ∃ n, wX_buildShape_40 post n 0 fc fr fk fs fh fl fb aR aW aS aO (mE H) aD aE := by
  refine ⟨4, br_f (by decide) ?_⟩
  rw [← vE_of aD]
  refine ⟨_, xq_49 (k := 0) (F := f0_ H) (by omega) (fun q0 hq0 => ?_) 60 0 (by omega) H (l0_ts hs.1 hs.2.1 hs.2.2 h14)⟩
  have hts1 := l1_ts hs.2.1 hq0
  have hR0 : zi_R (q0 0 0) := by
    rcases hq0.2 with ⟨_, _, h14, _⟩ | hz
    · exact zi_Rabs (by omega)
    · rw [hz 0 0 (by omega) (by omega) (by omega) (by omega)]; exact zi_R0
  refine xh_91 (k := 0) (by omega) hR0 ?_
  refine br_f (by decide) ⟨_, xq_49 (k := 1) (F := f1_ H (q0 0 0).natAbs) (by omega) (fun q1 hq1 => ?_) 60 0 (by omega) q0 hts1⟩
  refine xh_91 (k := 1) (by omega) (zi_Rabs (by have := hq1.2.2.2.2.2; omega)) ?_
  refine br_f (by decide) ⟨_, xq_49 (k := 2) (F := fun q => f1_ H (q0 0 0).natAbs q ∧ (q 1 1).natAbs = (q1 1 1).natAbs) (by omega) (fun q2 hq2 => ?_) 60 0 (by omega) q1 (l2_ts ⟨hq1, rfl⟩ (fun q' e => ?_) hq1.2.2.2.2.1)⟩
  · obtain ⟨⟨⟨hde, hX⟩, he0, h12, h21, hZ, _⟩, hY⟩ := hq2
    refine xh_91 (k := 2) (by omega) (zi_Rabs (by omega)) ?_
    have ht := t3_de hde (dq_t3 he0 h12 h21)
    obtain ⟨bx, byy, bz, bxy⟩ := t3_b hs ht
    rw [hX, hY] at ht bxy
    rw [hX] at bx
    rw [hY] at byy
    generalize (q0 0 0).natAbs = x at *
    generalize (q1 1 1).natAbs = y at *
    generalize (q2 2 2).natAbs = z at *
    have lcb : ∀ u v : Nat, Nat.lcm u v ≤ u * v := by
      intro u v
      rcases Nat.eq_zero_or_pos (Nat.gcd u v) with g | g
      · rw [Nat.eq_zero_of_gcd_eq_zero_left g]; simp
      · have := Nat.gcd_mul_lcm u v
        have h2 : 1 * Nat.lcm u v ≤ Nat.gcd u v * Nat.lcm u v := Nat.mul_le_mul_right _ g
        omega
    have gcb : ∀ u v : Nat, u ≤ 2916 → v ≤ 2916 → Nat.gcd u v ≤ 2916 := by
      intro u v hu hv
      rcases Nat.eq_zero_or_pos u with g | g
      · subst g; rw [Nat.gcd_zero_left]; exact hv
      · exact Nat.le_trans (Nat.gcd_le_left v g) hu
    have l1 := lcb x y
    have g1 := gcb x y bx byy
    have g2 := gcb (Nat.lcm x y) z (by omega) bz
    have l2 : Nat.lcm (Nat.lcm x y) z ≤ 2916 * 2916 := Nat.le_trans (lcb _ _) (Nat.mul_le_mul (by omega) bz)
    have l3 : Nat.lcm (Nat.gcd x y) (Nat.gcd (Nat.lcm x y) z) ≤ 2916 * 2916 := Nat.le_trans (lcb _ _) (Nat.mul_le_mul g1 g2)
    have g3 := gcb (Nat.gcd x y) (Nat.gcd (Nat.lcm x y) z) g1 g2
    refine br_t (by decide) ?_
    refine xz_pair (i := 0) (j := 1) (x := x) (y := y) (by omega) (by omega) (by omega) ?_ ?_ bx byy (fun d' p0 p1 p2 => ?_)
    · rw [vs_o _ _ (by omega), vs_o _ _ (by omega), vs_s]
    · rw [vs_o _ _ (by omega), vs_s]
    · have p2' := p2 2 (by omega) (by omega)
      rw [vs_s] at p2'
      refine xz_pair (i := 1) (j := 2) (x := Nat.lcm x y) (y := z) (by omega) (by omega) (by omega) p1 p2' (by omega) bz (fun d'' r0 r1 r2 => ?_)
      have r2' := r2 0 (by omega) (by omega)
      rw [p0] at r2'
      refine xz_pair (i := 0) (j := 1) (x := Nat.gcd x y) (y := Nat.gcd (Nat.lcm x y) z) (by omega) (by omega) (by omega) r2' r0 g1 g2 (fun d3 s0 s1 s2 => ?_)
      have s2' := s2 2 (by omega) (by omega)
      rw [r1] at s2'
      refine hp _ _ ⟨Nat.gcd (Nat.gcd x y) (Nat.gcd (Nat.lcm x y) z), Nat.lcm (Nat.gcd x y) (Nat.gcd (Nat.lcm x y) z), Nat.lcm (Nat.lcm x y) z, ?_, ?_, ?_, by omega, by omega, by omega, ?_⟩
      · show zi_v (d3 0) = _; rw [s0, zi_n]
      · show zi_v (d3 1) = _; rw [s1, zi_n]
      · show zi_v (d3 2) = _; rw [s2', zi_n]
      · refine dv_c hG (t3_fin (t3_01 (t3_12 (t3_01 ht))) ?_ ?_)
        · exact Nat.dvd_trans (Nat.gcd_dvd_left _ _) (Nat.dvd_lcm_left _ _)
        · refine Nat.lcm_dvd ?_ ?_
          · exact Nat.dvd_trans (Nat.dvd_trans (Nat.gcd_dvd_left x y) (Nat.dvd_lcm_left x y)) (Nat.dvd_lcm_left _ _)
          · exact Nat.dvd_trans (Nat.gcd_dvd_left _ _) (Nat.dvd_lcm_left _ _)
  · obtain ⟨⟨hd, hX⟩, ⟨a1, a2, a3, a4⟩, h2, h3, h4, h5⟩ := hq1
    refine ⟨⟨⟨de3_t (de3_c e) hd, ?_⟩, ⟨?_, ?_, ?_, ?_⟩, ?_, ?_, ?_, ?_⟩, ?_⟩
    · rw [e 0 0 (by omega) (by omega)]; exact hX
    · rw [e 0 1 (by omega) (by omega)]; exact a1
    · rw [e 0 2 (by omega) (by omega)]; exact a2
    · rw [e 1 0 (by omega) (by omega)]; exact a3
    · rw [e 2 0 (by omega) (by omega)]; exact a4
    · rw [e 1 2 (by omega) (by omega)]; exact h2
    · rw [e 2 1 (by omega) (by omega)]; exact h3
    · rw [e 2 2 (by omega) (by omega)]; exact h4
    · rw [e 1 1 (by omega) (by omega)]; exact h5
    · rw [e 1 1 (by omega) (by omega)]
theorem lb_c {q q' : Nat → Nat → Int} (e : ∀ i j, i < 3 → j < 3 → q' i j = q i j) {r c : Nat} (h : lb_ q' 0 (some (r, c))) : lb_ q 0 (some (r, c)) := by
  obtain ⟨h1, h2, h3, h4, h5, h6, h7⟩ := h
  dsimp only at h1 h2 h3 h4 h5 h6 h7
  rw [e r c h2 h4] at h5
  refine ⟨h1, h2, h3, h4, h5, fun i j a1 a2 a3 a4 a5 => ?_, fun i j a1 a2 a3 a4 a5 a6 => ?_⟩
  · have := h6 i j a1 a2 a3 a4 (by rw [e i j a2 a4]; exact a5)
    rw [e r c h2 h4, e i j a2 a4] at this; exact this
  · have := h7 i j a1 a2 a3 a4 a5 (by rw [e i j a2 a4]; exact a6)
    rw [e r c h2 h4, e i j a2 a4] at this; exact this
/-- the class's diagonal form -/
theorem xh_shape {N : Nat} {R : Nat → Nat → Int} (hN : N < 5) (hR : sm_ (fun i => i < N) R) (hl : rl_ N R fr fs fh aS aO aD)
    (hp : ∀ fk' fs' aW' aS' aO' aQ' aD' a b c d e f, hn_ a b c d e f → (∀ x y z, sp_L (fun i => i < N) R x y z ↔ hl_ a b c d e f x y z) → xs_ fs' aS' aO' a b c d e f → shp_ N R aD' → post (nI N, 1, fk', fs', 1, fl, fb, mE R, aW', aS', aO', aQ', aD', aE)) : wpX_buildShape post (nI N, fr, fk, fs, fh, fl, fb, mE R, aW, aS, aO, aQ, aD, aE) := by
  unfold wpX_buildShape
  refine xb_b hN hR hl.1 (fun fk' fs' aW' aS' aO' a b c d e f hn hL hs => ?_)
  rcases hl.2 with rfl | ⟨rfl, hsh⟩
  · refine br_t rfl ?_
    have hs' := hs
    obtain ⟨t, so, h, e1, e2, e3, hsa, ht, hz⟩ := hs'
    obtain ⟨hh, hlq⟩ := hs_of hn hR hL hsa ht hz
    obtain ⟨q, hq, hqe⟩ := cs9_e h aQ
    have hG : ∀ x y z, lq_ q x y z ↔ sp_L (fun i => i < N) R x y z := by
      intro x y z
      rw [hL, ← hlq]
      exact sp_c (Q := fun i => i < 3) (Q' := fun i => i < 3) (fun _ => Iff.rfl) (fun i hi j hj => hqe i j hi hj) x y z
    have hs2 : hs_ q := by
      refine ⟨fun i j a1 a2 => by rw [hqe i j a1 a2]; exact hh.1 i j a1 a2, ?_, fun r c i j a1 a2 a3 a4 => ?_⟩
      · have : dz_ q 0 1 2 = dz_ h 0 1 2 := by
          unfold dz_
          rw [hqe 0 0 (by omega) (by omega), hqe 0 1 (by omega) (by omega), hqe 0 2 (by omega) (by omega), hqe 1 0 (by omega) (by omega), hqe 1 1 (by omega) (by omega), hqe 1 2 (by omega) (by omega), hqe 2 0 (by omega) (by omega), hqe 2 1 (by omega) (by omega), hqe 2 2 (by omega) (by omega)]
        rw [this]; exact hh.2.1
      · rw [hqe r c a1 a2, hqe i j a3 a4, hqe i c a3 a2, hqe r j a1 a4]; exact hh.2.2 r c i j a1 a2 a3 a4
    have h14 : ∀ r c, lb_ q 0 (some (r, c)) → (q r c).natAbs ≤ 14 := by
      intro r c hb
      rw [hqe r c hb.2.1 hb.2.2.2.1]
      exact hs_14 hn hR hL hsa ht hz (lb_c hqe hb)
    have main := xh_40 (post := post) (fc := nI N) (fr := 1) (fk := fk') (fs := fs') (fh := 0) (fl := fl) (fb := fb) (aR := mE R) (aW := aW') (aS := aS') (aO := aO') (aD := aD) (aE := aE) hs2 hG h14 (fun aQ' aD' hd => hp fk' fs' aW' aS' aO' aQ' aD' a b c d e f hn hL hs hd)
    rw [← hq, ← e3] at main
    have m14 := xh_14 (post := post) (fc := nI N) (fr := 1) (fk := fk') (fs := fs') (fh := 0) (fl := fl) (fb := fb) (aR := mE R) (aW := aW') (aS := aS') (aO := aO') (aQ := aQ) (aD := aD) (aE := aE) main 9 0 (by omega)
    have e0 : cs9_ aS' aQ 0 = aQ := by funext i; unfold cs9_; rw [if_neg (by omega)]
    rw [e0] at m14
    exact ⟨_, m14⟩
  · exact br_f (by decide) (hp fk' fs' aW' aS' aO' aQ aD a b c d e f hn hL hs hsh)
end
end
section
/-! divisor, shape -/
theorem dv_y {N : Nat} {R C : Nat → Nat → Int} (hw : rw_ N R C) {g1 g2 g3 : Nat} (h : dv_ (sp_L (fun i => i < N) R) g1 g2 g3) : dv_ (sp_L (qs_ (2 ^ N - 1)) (pd_ C 3)) g1 g2 g3 := by
  refine dv_c (fun x y z => ?_) h
  rw [yL_k hw]
  refine sp_c (fun _ => Iff.rfl) (fun i hi j hj => ?_) x y z
  unfold pd_; rw [if_pos hj]
section
variable {fc fr fk fs fh fl fb : Int32} {aR aW aS aO aQ aD aE : Nat → Int32} {post : Int32 → SX → Prop} {d0 d1 d2 : Nat}
theorem xd_19 {k : Nat} (hk : k < 4) (h0 : aD 0 = nI d0) (h1 : aD 1 = nI d1) (h2 : aD 2 = nI d2) (hp : post (nI (gn_ d0 (d0 * d1) (d0 * d1 * d2) k)) (fc, fr, fk, fs, fh, fl, fb, aR, aW, aS, aO, aQ, aD, aE)) : ∃ n, wX_divisor_19 post (nI k) fc fr fk fs fh fl fb aR aW aS aO aQ aD aE n 1 0 := by
  have st : ∀ (n x y j : Nat), j < k → j < 3 → aD j = nI y → wX_divisor_19 post (nI k) fc fr fk fs fh fl fb aR aW aS aO aQ aD aE n (nI (x * y)) (nI (j + 1)) → wX_divisor_19 post (nI k) fc fr fk fs fh fl fb aR aW aS aO aQ aD aE (n + 1) (nI x) (nI j) := by
    intro n x y j hj hj3 e h
    have ec : (nI j).toNatClampNeg = j := nI_clamp (by omega)
    refine br_f (nI_ge (by omega) (by omega)) ⟨vp_in_nI hj3 (by omega), ?_⟩
    rw [ec, e, zn_mul]
    exact nm_e (nm_r (nI_1 j) h)
  have : k = 0 ∨ k = 1 ∨ k = 2 ∨ k = 3 := by omega
  rcases this with rfl | rfl | rfl | rfl
  · exact ⟨1, br_t (by decide) hp⟩
  · refine ⟨2, st 1 1 d0 0 (by omega) (by omega) h0 (br_t (by decide) ?_)⟩
    rw [Nat.one_mul]; exact hp
  · refine ⟨3, st 2 1 d0 0 (by omega) (by omega) h0 (st 1 _ d1 1 (by omega) (by omega) h1 (br_t (by decide) ?_))⟩
    rw [Nat.one_mul]; exact hp
  · refine ⟨4, st 3 1 d0 0 (by omega) (by omega) h0 (st 2 _ d1 1 (by omega) (by omega) h1 (st 1 _ d2 2 (by omega) (by omega) h2 (br_t (by decide) ?_)))⟩
    rw [Nat.one_mul]; exact hp
end
theorem i_vc_divisor {k : Nat} {u : SX} {v : SY} (I : i_Rel k u v) (hk : k + 4 ≤ 2048) (v1 : Int32) : wpX_divisor (fun r u' => wpY_divisor (fun r' => r' = r ∧ i_Rel (k + 4) u' v) v v1) u v1 := by
  refine i_el (P := fun u v => wpX_divisor (fun r u' => wpY_divisor (fun r' => r' = r ∧ i_Rel (k + 4) u' v) v v1) u v1) ?_ I
  intro N R C fr fk fs fh fl fb aW aS aO aQ aD aE gf gl hw hl
  have same : i_Rel (k + 4) (nI N, fr, fk, fs, fh, fl, fb, mE R, aW, aS, aO, aQ, aD, aE) (nI N, gf, gl, mE C) := ⟨N, R, C, rfl, rfl, rfl, rfl, hw, hl⟩
  have yy : ∀ post : Int32 → Prop, ((v1 < 0 → post (-1)) ∧ (¬ v1 < 0 → (v1 ≤ 3 → wpY_divisorOf (fun r_8 => post r_8) (nI N, gf, gl, mE C) v1 (nI (2 ^ N - 1)) 3) ∧ (¬ v1 ≤ 3 → post (-1)))) → wpY_divisor post (nI N, gf, gl, mE C) v1 := by
    intro post h
    unfold wpY_divisor wpY_allRows
    dsimp only
    rw [yo_all N hw.1]
    exact h
  refine br_c (fun q1 => yy _ (br_t q1 ⟨rfl, same⟩)) (fun q1 => br_c (fun q2 => ?_) (fun q2 => yy _ (br_f q1 (br_f q2 ⟨rfl, same⟩))))
  obtain ⟨m, hm, rfl⟩ := nI_of q1
  have hm4 : m < 4 := by
    have := (nI_leI (b := 3) hm (by omega)).mp q2; omega
  refine xh_shape hw.1 (rw_sm hw) hl (fun fk' fs' aW' aS' aO' aQ' aD' a b c d e f hn hL hs hsh => ?_)
  have rel : i_Rel (k + 4) (nI N, 1, fk', fs', 1, fl, fb, mE R, aW', aS', aO', aQ', aD', aE) (nI N, gf, gl, mE C) := ⟨N, R, C, rfl, rfl, rfl, rfl, hw, Or.inr ⟨rfl, a, b, c, d, e, f, hn, hL, hs⟩, Or.inr ⟨rfl, hsh⟩⟩
  obtain ⟨d0, d1, d2, e0, e1, e2, _, _, _, hdv⟩ := hsh
  refine xd_19 hm4 e0 e1 e2 (yy _ (br_f q1 (br_t q2 ?_)))
  exact yd_gn (c := 3) (rw_yb hw) (by have := yq_16 N hw.1; omega) (by omega) (by omega) hm4 (dv_y hw hdv) (fun _ => ⟨rfl, rel⟩)
/-- the divisors by the diagonal: one over the one before -/
theorem gn_d {d0 d1 d2 t m : Nat} (hr : rk_ (d0 : Nat) (d0 * d1 : Nat) (d0 * d1 * d2 : Nat) = t) (hm : m < t) : gn_ d0 (d0 * d1) (d0 * d1 * d2) m ≠ 0 ∧ gn_ d0 (d0 * d1) (d0 * d1 * d2) (m + 1) = gn_ d0 (d0 * d1) (d0 * d1 * d2) m * (if m = 0 then d0 else if m = 1 then d1 else d2) ∧ gn_ d0 (d0 * d1) (d0 * d1 * d2) (m + 1) ≠ 0 := by
  have hlt := rk_lt (d0 : Nat) (d0 * d1 : Nat) (d0 * d1 * d2 : Nat)
  have n0 : 1 ≤ t → d0 ≠ 0 := by
    intro h z
    subst z
    rw [rk_0 (by simp) (by simp) (by simp)] at hr; omega
  have n1 : 2 ≤ t → d0 * d1 ≠ 0 := by
    intro h z
    by_cases q : d0 = 0
    · exact n0 (by omega) q
    · rw [rk_1 (by rw [z]; simp) (by rw [z]; simp) (by omega)] at hr; omega
  have n2 : 3 ≤ t → d0 * d1 * d2 ≠ 0 := by
    intro h z
    rw [rk_2 (by rw [z]; simp) (by have := n1 (by omega); omega)] at hr; omega
  have : m = 0 ∨ m = 1 ∨ m = 2 := by omega
  rcases this with rfl | rfl | rfl
  · exact ⟨by show (1 : Nat) ≠ 0; decide, by show d0 = 1 * d0; rw [Nat.one_mul], n0 (by omega)⟩
  · exact ⟨n0 (by omega), rfl, n1 (by omega)⟩
  · exact ⟨n1 (by omega), rfl, n2 (by omega)⟩
theorem i_vc_shape {k : Nat} {u : SX} {v : SY} (I : i_Rel k u v) (hk : k + 4 ≤ 2048) (v1 : Int32) : wpX_shape (fun r u' => wpY_shape (fun r' => r' = r ∧ i_Rel (k + 4) u' v) v v1) u v1 := by
  refine i_el (P := fun u v => wpX_shape (fun r u' => wpY_shape (fun r' => r' = r ∧ i_Rel (k + 4) u' v) v v1) u v1) ?_ I
  intro N R C fr fk fs fh fl fb aW aS aO aQ aD aE gf gl hw hl
  unfold wpX_shape
  refine xh_shape hw.1 (rw_sm hw) hl (fun fk' fs' aW' aS' aO' aQ' aD' a b c d e f hn hL hs hsh => ?_)
  have rel : i_Rel (k + 4) (nI N, 1, fk', fs', 1, fl, fb, mE R, aW', aS', aO', aQ', aD', aE) (nI N, gf, gl, mE C) := ⟨N, R, C, rfl, rfl, rfl, rfl, hw, Or.inr ⟨rfl, a, b, c, d, e, f, hn, hL, hs⟩, Or.inr ⟨rfl, hsh⟩⟩
  obtain ⟨d0, d1, d2, e0, e1, e2, l0, l1, l2, hdv⟩ := hsh
  obtain ⟨t, so, h, rfl, rfl, rfl, hsa, ht, hz⟩ := hs
  have hdy := dv_y hw hdv
  have hrk : rk_ (d0 : Nat) (d0 * d1 : Nat) (d0 * d1 * d2 : Nat) = t := rk_t hn hsa (dv_c hL hdv)
  have S16 : 2 ^ N - 1 < 32 := by have := yq_16 N hw.1; omega
  have yr : ∀ post : Int32 → Prop, post (nI t) → wpY_rank post (nI N, gf, gl, mE C) := by
    intro post hp
    unfold wpY_rank wpY_allRows
    dsimp only
    rw [yo_all N hw.1]
    refine yr_rank (c := 3) (rw_yb hw) S16 (by omega) (by omega) hdy ?_
    rw [hrk]; exact hp
  have yd : ∀ (post : Int32 → Prop) (m : Nat), m < 4 → (gn_ d0 (d0 * d1) (d0 * d1 * d2) m < 2147483648 → post (nI (gn_ d0 (d0 * d1) (d0 * d1 * d2) m))) → wpY_divisor post (nI N, gf, gl, mE C) (nI m) := by
    intro post m hm hp
    unfold wpY_divisor wpY_allRows
    dsimp only
    rw [yo_all N hw.1]
    refine br_f (nI_pos (by omega)) (br_t (nI_le (b := 3) (by omega) (by omega)) ?_)
    exact yd_gn (c := 3) (rw_yb hw) S16 (by omega) (by omega) hm hdy hp
  refine br_c (fun q1 => br_t q1 ⟨rfl, rel⟩) (fun q1 => ?_)
  have q0 : ¬ v1 < 0 := by
    intro z
    apply q1
    rw [Int32.lt_iff_toInt_lt] at z ⊢
    have e0 : (0 : Int32).toInt = 0 := by decide
    have e1 : (1 : Int32).toInt = 1 := by decide
    omega
  obtain ⟨m, hm, rfl⟩ := nI_of q0
  have hm1 : 1 ≤ m := by
    apply Classical.byContradiction
    intro z
    have : m = 0 := by omega
    subst this
    exact q1 (by decide)
  obtain ⟨m, rfl⟩ : ∃ m', m = m' + 1 := ⟨m - 1, by omega⟩
  refine zn_le (by omega) (by omega) (fun hle => ?_) (fun hlt => ?_)
  · rw [nI_pred]
    have ec : (nI m).toNatClampNeg = m := nI_clamp (by omega)
    refine ⟨vp_in_nI (by omega) (by omega), ?_⟩
    rw [ec]
    refine br_f q1 ?_
    refine yr _ (br_t (nI_le (by omega) (by omega)) ?_)
    refine yd _ (m + 1) (by omega) (fun k1 => ?_)
    rw [nI_pred]
    refine yd _ m (by omega) (fun k2 => ?_)
    obtain ⟨g1, g2, g3⟩ := gn_d hrk (m := m) (by omega)
    refine ⟨nI_ne0 (by omega) k2, ?_, rel⟩
    rw [zn_div k1 k2, g2, Nat.mul_div_cancel_left _ (by omega)]
    have : m = 0 ∨ m = 1 ∨ m = 2 := by omega
    rcases this with rfl | rfl | rfl
    · exact e0.symm
    · exact e1.symm
    · exact e2.symm
  · refine br_f q1 ?_
    exact yr _ (br_f (nI_ge hlt (by omega)) ⟨rfl, rel⟩)
end
section
/-! order -/
/-- divisors of minors by one smaller divide those with a point more -/
theorem dn_12 {G : Int → Int → Int → Prop} (g : gr_ G) {x y z n : Int} (h : d1_ G n) : d2_ (la_ G x y z) n := by
  rw [la_d2 g]
  refine ⟨d12 h, fun u v w s => ?_⟩
  obtain ⟨a, b, c⟩ := h _ _ _ s
  unfold m1_ m2_ m3_
  exact ⟨Int.dvd_sub (Int.dvd_mul_of_dvd_left a) (Int.dvd_mul_of_dvd_left b), Int.dvd_sub (Int.dvd_mul_of_dvd_left a) (Int.dvd_mul_of_dvd_left c), Int.dvd_sub (Int.dvd_mul_of_dvd_left b) (Int.dvd_mul_of_dvd_left c)⟩
theorem dn_23 {G : Int → Int → Int → Prop} (g : gr_ G) {x y z n : Int} (h : d2_ G n) : d3_ (la_ G x y z) n := by
  rw [la_d3 g]
  refine ⟨d23 h, fun x1 y1 z1 x2 y2 z2 s1 s2 => ?_⟩
  obtain ⟨a, b, c⟩ := h _ _ _ _ _ _ s1 s2
  rw [dt_1]
  exact Int.dvd_add (Int.dvd_add (Int.dvd_mul_of_dvd_left c) (Int.dvd_mul_of_dvd_left (Int.dvd_neg.mpr b))) (Int.dvd_mul_of_dvd_left a)
theorem gn_le {g1 g2 g3 : Nat} {m : Nat} (hm : m < 4) (P : Nat → Prop) (h0 : P 1) (h1 : P g1) (h2 : P g2) (h3 : P g3) : P (gn_ g1 g2 g3 m) := by
  have : m = 0 ∨ m = 1 ∨ m = 2 ∨ m = 3 := by omega
  rcases this with rfl | rfl | rfl | rfl
  · exact h0
  · exact h1
  · exact h2
  · exact h3
/-- there is an order that divides the last number of the shape, or none -/
theorem or_dich {a b c d e f x y z : Int} {d0 d1 d2 g1' g2' g3' t : Nat} (hn : hn_ a b c d e f) (hd : dv_ (hl_ a b c d e f) d0 (d0 * d1) (d0 * d1 * d2)) (hd' : dv_ (la_ (hl_ a b c d e f) x y z) g1' g2' g3') (ht : rk_ (d0 : Nat) (d0 * d1 : Nat) (d0 * d1 * d2 : Nat) = t) : on_ (hl_ a b c d e f) x y z ∨ ∃ m : Nat, oy_ (hl_ a b c d e f) x y z m ∧ m ∣ (if t = 0 then 1 else if t = 1 then d0 else if t = 2 then d1 else d2) := by
  have o : oc_ (hl_ a b c d e f) x y z (d0 : Nat) (d0 * d1 : Nat) (d0 * d1 * d2 : Nat) g1' g2' g3' := oc_all hn.2.2.2.1 hn.2.2.2.2.1 hd.1 hd.2.1 hd.2.2 hd'.1 hd'.2.1 hd'.2.2 (by omega) (by omega) (by omega) (by omega) (by omega) (by omega)
  have gG := hl_gr a b c d e f
  have htl := rk_lt (d0 : Nat) (d0 * d1 : Nat) (d0 * d1 * d2 : Nat)
  by_cases q : rk_ (d0 : Nat) (d0 * d1 : Nat) (d0 * d1 * d2 : Nat) < rk_ (g1' : Nat) (g2' : Nat) (g3' : Nat)
  · exact Or.inl (o.1 q)
  · right
    obtain ⟨o1, o2⟩ := o.2 (by omega)
    rw [ht] at o1 o2 htl
    rw [gn_gk] at o1
    rw [gn_gk, gn_gk, ← Int.natCast_ediv] at o2
    refine ⟨_, o2, ?_⟩
    rcases Nat.eq_zero_or_pos t with z0 | z0
    · subst z0; show 1 / 1 ∣ 1; exact Nat.dvd_refl _
    · obtain ⟨s, rfl⟩ : ∃ s, t = s + 1 := ⟨t - 1, by omega⟩
      obtain ⟨n1, n2, n3⟩ := gn_d ht (m := s) (by omega)
      -- the divisor before divides the divisor with the point
      have dv : gn_ d0 (d0 * d1) (d0 * d1 * d2) s ∣ gn_ g1' g2' g3' (s + 1) := by
        have : s = 0 ∨ s = 1 ∨ s = 2 := by omega
        rcases this with rfl | rfl | rfl
        · exact Nat.one_dvd _
        · have h1 : d2_ (la_ (hl_ a b c d e f) x y z) (d0 : Nat) := dn_12 gG ((hd.1 _).mp (Int.dvd_refl _))
          exact Int.natCast_dvd_natCast.mp ((hd'.2.1 _).mpr h1)
        · have h1 : d3_ (la_ (hl_ a b c d e f) x y z) (d0 * d1 : Nat) := dn_23 gG ((hd.2.1 _).mp (Int.dvd_refl _))
          exact Int.natCast_dvd_natCast.mp ((hd'.2.2 _).mpr h1)
      have dd : gn_ g1' g2' g3' (s + 1) ∣ gn_ d0 (d0 * d1) (d0 * d1 * d2) (s + 1) := by
        have : s = 0 ∨ s = 1 ∨ s = 2 := by omega
        rcases this with rfl | rfl | rfl
        · exact Int.natCast_dvd_natCast.mp ((hd.1 _).mpr ((la_d1 gG).mp ((hd'.1 _).mp (Int.dvd_refl _))).1)
        · exact Int.natCast_dvd_natCast.mp ((hd.2.1 _).mpr ((la_d2 gG).mp ((hd'.2.1 _).mp (Int.dvd_refl _))).1)
        · exact Int.natCast_dvd_natCast.mp ((hd.2.2 _).mpr ((la_d3 gG).mp ((hd'.2.2 _).mp (Int.dvd_refl _))).1)
      obtain ⟨u, hu⟩ := dv
      obtain ⟨w, hw⟩ := dd
      have hg' : 0 < gn_ g1' g2' g3' (s + 1) := by omega
      have e1 : gn_ d0 (d0 * d1) (d0 * d1 * d2) (s + 1) / gn_ g1' g2' g3' (s + 1) = w := by
        rw [hw, Nat.mul_div_cancel_left _ hg']
      rw [e1]
      have e2 : (if s = 0 then d0 else if s = 1 then d1 else d2) = u * w := by
        have : gn_ d0 (d0 * d1) (d0 * d1 * d2) s * (if s = 0 then d0 else if s = 1 then d1 else d2) = gn_ d0 (d0 * d1) (d0 * d1 * d2) s * (u * w) := by
          rw [← n2, hw, hu, Nat.mul_assoc]
        exact Nat.eq_of_mul_eq_mul_left (by omega) this
      have e3 : (if s + 1 = 0 then 1 else if s + 1 = 1 then d0 else if s + 1 = 2 then d1 else d2) = (if s = 0 then d0 else if s = 1 then d1 else d2) := by
        have : s = 0 ∨ s = 1 ∨ s = 2 := by omega
        rcases this with rfl | rfl | rfl <;> rfl
      rw [e3, e2]
      exact ⟨u, Nat.mul_comm _ _⟩
/-- the last number of the shape is at most 2916 -/
theorem la_b {Q : Nat → Prop} {R : Nat → Nat → Int} {a b c d e f : Int} {d0 d1 d2 t : Nat} (hn : hn_ a b c d e f) (hR : sm_ Q R) (hL : ∀ x y z, sp_L Q R x y z ↔ hl_ a b c d e f x y z) (hd : dv_ (hl_ a b c d e f) d0 (d0 * d1) (d0 * d1 * d2)) (ht : rk_ (d0 : Nat) (d0 * d1 : Nat) (d0 * d1 * d2 : Nat) = t) : (if t = 0 then 1 else if t = 1 then d0 else if t = 2 then d1 else d2) ≤ 2916 := by
  have htl := rk_lt (d0 : Nat) (d0 * d1 : Nat) (d0 * d1 * d2 : Nat)
  rw [ht] at htl
  rcases Nat.eq_zero_or_pos t with z0 | z0
  · subst z0; show 1 ≤ 2916; decide
  · obtain ⟨s, rfl⟩ : ∃ s, t = s + 1 := ⟨t - 1, by omega⟩
    obtain ⟨n1, n2, n3⟩ := gn_d ht (m := s) (by omega)
    have e3 : (if s + 1 = 0 then 1 else if s + 1 = 1 then d0 else if s + 1 = 2 then d1 else d2) = (if s = 0 then d0 else if s = 1 then d1 else d2) := by
      have : s = 0 ∨ s = 1 ∨ s = 2 := by omega
      rcases this with rfl | rfl | rfl <;> rfl
    rw [e3]
    have b1 : gn_ d0 (d0 * d1) (d0 * d1 * d2) (s + 1) ≤ 2916 := by
      have le : ∀ (n : Nat) (x : Int), x ≠ 0 → (n : Int) ∣ x → x.natAbs ≤ 2916 → n ≤ 2916 := by
        intro n x hx hdv hb
        have hd' := Int.natAbs_dvd_natAbs.mpr hdv
        rw [Int.natAbs_natCast] at hd'
        have := Nat.le_of_dvd (by omega) hd'
        omega
      have : s = 0 ∨ s = 1 ∨ s = 2 := by omega
      rcases this with rfl | rfl | rfl
      · obtain ⟨k1, k2, k3, k4, k5, k6⟩ := hl_d1.mp ((hd.1 _).mp (Int.dvd_refl _))
        obtain ⟨b1, b2, b3, b4, b5, b6⟩ := hB_of hn hR hL
        show d0 ≤ 2916
        have n3' : d0 ≠ 0 := n3
        by_cases za : a = 0
        · by_cases zd : d = 0
          · by_cases zf : f = 0
            · exfalso
              obtain ⟨zb, zc⟩ := hn.2.2.2.1 za
              have ze := hn.2.2.2.2.1 zd
              have : ((0 : Int)) ∣ (d0 : Int) := (hd.1 0).mpr (hl_d1.mpr (by rw [za, zb, zc, zd, ze, zf]; simp))
              have := Int.zero_dvd.mp this
              omega
            · exact le _ _ zf k6 b3
          · exact le _ _ zd k4 b2
        · exact le _ _ za k1 b1
      · obtain ⟨k1, k2, k3, k4, k5, k6⟩ := hl_d2.mp ((hd.2.1 _).mp (Int.dvd_refl _))
        obtain ⟨b1, b2, b3, b4, b5, b6⟩ := hm_6 hn hR hL
        show d0 * d1 ≤ 2916
        have n3' : d0 * d1 ≠ 0 := n3
        by_cases z1 : a * d = 0
        · by_cases z2 : a * e = 0
          · by_cases z3 : b * e - c * d = 0
            · by_cases z4 : a * f = 0
              · by_cases z5 : b * f = 0
                · by_cases z6 : d * f = 0
                  · exfalso
                    have : ((0 : Int)) ∣ ((d0 * d1 : Nat) : Int) := (hd.2.1 0).mpr (hl_d2.mpr (by rw [z1, z2, z3, z4, z5, z6]; simp))
                    have := Int.zero_dvd.mp this
                    omega
                  · exact le _ _ z6 k6 b6
                · exact le _ _ z5 k5 b5
              · exact le _ _ z4 k4 b4
            · exact le _ _ z3 k3 b3
          · exact le _ _ z2 k2 b2
        · exact le _ _ z1 k1 b1
      · have k := hl_d3.mp ((hd.2.2 _).mp (Int.dvd_refl _))
        have n3' : d0 * d1 * d2 ≠ 0 := n3
        refine le _ (a * d * f) ?_ k (hb_3 hR hL)
        intro z
        have : ((0 : Int)) ∣ ((d0 * d1 * d2 : Nat) : Int) := (hd.2.2 0).mpr (hl_d3.mpr (by rw [z]; exact Int.dvd_refl _))
        have := Int.zero_dvd.mp this
        omega
    have b2 : (if s = 0 then d0 else if s = 1 then d1 else d2) ≤ gn_ d0 (d0 * d1) (d0 * d1 * d2) s * (if s = 0 then d0 else if s = 1 then d1 else d2) := Nat.le_mul_of_pos_left _ (by omega)
    rw [← n2] at b2
    omega
section
variable {fc fr fk fs fh fl fb : Int32} {aR aW aS aO aQ aD aE : Nat → Int32} {post : Int32 → SX → Prop} {a b c d e f : Int}
theorem xo_step {x y z : Int32} {l m n : Nat} (hl : l ≤ 2916) (hm : 1 ≤ m) (hml : m ≤ l) (hx : x.toInt.natAbs ≤ 100) (hy : y.toInt.natAbs ≤ 100) (hz : z.toInt.natAbs ≤ 100) (hn : hn_ a b c d e f) (hB : hB_ a b c d e f) (hs : xs_ fs aS aO a b c d e f)
    (h1 : m ∣ l → hl_ a b c d e f (m * x.toInt) (m * y.toInt) (m * z.toInt) → post (nI m) (fc, fr, fk, fs, fh, fl, fb, aR, aW, aS, aO, aQ, aD, aE)) (h0 : ¬ (m ∣ l ∧ hl_ a b c d e f (m * x.toInt) (m * y.toInt) (m * z.toInt)) → wX_order_63 post x y z (nI l) fc fr fk fs fh fl fb aR aW aS aO aQ aD aE n (nI (m + 1))) : wX_order_63 post x y z (nI l) fc fr fk fs fh fl fb aR aW aS aO aQ aD aE (n + 1) (nI m) := by
  have hne : ¬ nI m = 0 := nI_ne0 (by omega) (by omega)
  refine br_f (nI_nlt (by omega) (by omega)) ⟨hne, ?_⟩
  rw [zn_rem (by omega) (by omega)]
  refine zn_eq (b := 0) (by have := Nat.mod_lt l (show 0 < m by omega); omega) (by omega) (fun q => ?_) (fun q => nm_r (nI_1 m) (h0 fun k => q (Nat.mod_eq_zero_of_dvd k.1)))
  have hd : m ∣ l := Nat.dvd_of_mod_eq_zero q
  have bd : ∀ v : Int32, v.toInt.natAbs ≤ 100 → ((m : Int) * v.toInt).natAbs ≤ 291600 := by
    intro v hv
    rw [Int.natAbs_mul, Int.natAbs_natCast]
    have : m * v.toInt.natAbs ≤ 2916 * 100 := Nat.mul_le_mul (by omega) hv
    omega
  have ev : ∀ v : Int32, nI m * v = zi_v (m * v.toInt) := by
    intro v
    have : nI m * v = zi_v (m : Int) * zi_v v.toInt := by rw [zi_n, zi_of]
    rw [this, zi_mul]
  rw [ev x, ev y, ev z]
  refine xg_in (A := 291600) (Nat.le_refl _) (bd x hx) (bd y hy) (bd z hz) hn hB hs (fun k => br_f (by decide) (h1 hd k)) (fun k => br_t rfl (nm_r (nI_1 m) (h0 fun k' => k k'.2)))
theorem xo_none {x y z : Int32} {l : Nat} (hl : l ≤ 2916) (hx : x.toInt.natAbs ≤ 100) (hy : y.toInt.natAbs ≤ 100) (hz : z.toInt.natAbs ≤ 100) (hn : hn_ a b c d e f) (hB : hB_ a b c d e f) (hs : xs_ fs aS aO a b c d e f) (ho : on_ (hl_ a b c d e f) x.toInt y.toInt z.toInt) (hp : post (-1000000) (fc, fr, fk, fs, fh, fl, fb, aR, aW, aS, aO, aQ, aD, aE)) : ∀ k m : Nat, 1 ≤ m → m + k = l + 1 → wX_order_63 post x y z (nI l) fc fr fk fs fh fl fb aR aW aS aO aQ aD aE (k + 1) (nI m) := by
  intro k
  induction k with
  | zero => intro m h1 h2; exact br_t (nI_lt (by omega) (by omega)) hp
  | succ k ih =>
    intro m h1 h2
    refine xo_step hl h1 (by omega) hx hy hz hn hB hs (fun _ q => absurd q (ho m (by omega))) (fun _ => ih (m + 1) (by omega) (by omega))
theorem xo_some {x y z : Int32} {l m0 : Nat} (hl : l ≤ 2916) (hx : x.toInt.natAbs ≤ 100) (hy : y.toInt.natAbs ≤ 100) (hz : z.toInt.natAbs ≤ 100) (hn : hn_ a b c d e f) (hB : hB_ a b c d e f) (hs : xs_ fs aS aO a b c d e f) (ho : oy_ (hl_ a b c d e f) x.toInt y.toInt z.toInt m0) (hd : m0 ∣ l) (hl0 : 0 < l) (hp : post (nI m0) (fc, fr, fk, fs, fh, fl, fb, aR, aW, aS, aO, aQ, aD, aE)) : ∀ k m : Nat, 1 ≤ m → m + k = m0 → wX_order_63 post x y z (nI l) fc fr fk fs fh fl fb aR aW aS aO aQ aD aE (k + 1) (nI m) := by
  have hle : m0 ≤ l := Nat.le_of_dvd hl0 hd
  intro k
  induction k with
  | zero =>
    intro m h1 h2
    have : m = m0 := by omega
    subst this
    exact xo_step hl h1 hle hx hy hz hn hB hs (fun _ _ => hp) (fun q => absurd ⟨hd, (ho.2 m).mpr (Int.dvd_refl _)⟩ q)
  | succ k ih =>
    intro m h1 h2
    refine xo_step hl h1 (by omega) hx hy hz hn hB hs (fun _ q => ?_) (fun _ => ih (m + 1) (by omega) (by omega))
    exfalso
    have := Int.natCast_dvd_natCast.mp ((ho.2 m).mp q)
    have := Nat.le_of_dvd (by omega) this
    omega
end
theorem i_vc_order {k : Nat} {u : SX} {v : SY} (I : i_Rel k u v) (hk : k + 4 ≤ 2048) (v1 : Int32) (v2 : Int32) (v3 : Int32) : wpX_order (fun r u' => wpY_order (fun r' v' => r' = r ∧ i_Rel (k + 4) u' v') v v1 v2 v3) u v1 v2 v3 := by
  refine i_el (P := fun u v => wpX_order (fun r u' => wpY_order (fun r' v' => r' = r ∧ i_Rel (k + 4) u' v') v v1 v2 v3) u v1 v2 v3) ?_ I
  intro N R C fr fk fs fh fl fb aW aS aO aQ aD aE gf gl hw hl
  have bad : ¬ ((-((100 : Nat) : Int) ≤ v1.toInt ∧ v1.toInt ≤ (100 : Nat)) ∧ (-((100 : Nat) : Int) ≤ v2.toInt ∧ v2.toInt ≤ (100 : Nat)) ∧ (-((100 : Nat) : Int) ≤ v3.toInt ∧ v3.toInt ≤ (100 : Nat))) → wpY_order (fun r' v' => r' = -1 ∧ i_Rel (k + 4) (nI N, fr, fk, fs, fh, fl, fb, mE R, aW, aS, aO, aQ, aD, aE) v') (nI N, gf, gl, mE C) v1 v2 v3 := by
    intro h
    unfold wpY_order
    refine yn_are (L := 100) (by omega) (fun q => absurd q h) (fun _ => br_t rfl ⟨rfl, N, R, C, rfl, rfl, rfl, rfl, hw, hl⟩)
  unfold wpX_order
  refine xn_far (L := 100) (by omega) (fun a1 => br_t rfl ?_) (fun a1 => br_f (by decide) (bad fun q => a1 q.1))
  refine xn_far (L := 100) (by omega) (fun a2 => br_t rfl ?_) (fun a2 => br_f (by decide) (bad fun q => a2 q.2.1))
  refine xn_far (L := 100) (by omega) (fun a3 => br_t rfl ?_) (fun a3 => br_f (by decide) (bad fun q => a3 q.2.2))
  refine xh_shape hw.1 (rw_sm hw) hl (fun fk' fs' aW' aS' aO' aQ' aD' a b c d e f hn hL hs hsh => ?_)
  have rel : ∀ C', rw_ N R C' → i_Rel (k + 4) (nI N, 1, fk', fs', 1, fl, fb, mE R, aW', aS', aO', aQ', aD', aE) (nI N, gf, gl, mE C') := fun C' hw' => ⟨N, R, C', rfl, rfl, rfl, rfl, hw', Or.inr ⟨rfl, a, b, c, d, e, f, hn, hL, hs⟩, Or.inr ⟨rfl, hsh⟩⟩
  obtain ⟨d0, d1, d2, e0, e1, e2, l0, l1, l2, hdv⟩ := hsh
  have hB := hB_of hn (rw_sm hw) hL
  have hdl := dv_c hL hdv
  have hw4 := rw_p hw (x := v1.toInt) (y := v2.toInt) (z := v3.toInt) (by omega) (by omega) (by omega)
  have eG : sp_L (fun i => i < N) (pd_ R 3) = hl_ a b c d e f := by funext x y z; exact propext (pj_3 hL x y z)
  -- the reference's answer
  have yy : ∀ post : Int32 → SY → Prop, (on_ (hl_ a b c d e f) v1.toInt v2.toInt v3.toInt → ∀ C', rw_ N R C' → post (-1000000) (nI N, gf, gl, mE C')) → (∀ m : Nat, oy_ (hl_ a b c d e f) v1.toInt v2.toInt v3.toInt m → ∀ C', rw_ N R C' → post (nI m) (nI N, gf, gl, mE C')) → wpY_order post (nI N, gf, gl, mE C) v1 v2 v3 := by
    intro post k0 k1
    unfold wpY_order
    refine yn_are (L := 100) (by omega) (fun _ => br_f (by decide) ?_) (fun q => absurd ⟨a1, a2, a3⟩ q)
    refine yp_put (r := 4) (by omega) ?_
    unfold wpY_allRows
    dsimp only
    rw [yo_all N hw.1]
    refine yo_put (k := 3) hw (by omega) (by omega) (by omega) (by omega) (by omega) hn hL (fun h => k0 ?_ _ hw4) (fun m hm h => k1 m ?_ _ hw4)
    · rw [← eG]; exact h
    · rw [← eG]; exact h
  obtain ⟨g1', g2', g3', hg'⟩ := dv_ex (2 ^ N - 1 + 16) (pd_ (p3_ C 4 v1.toInt v2.toInt v3.toInt) 3)
  have hdl' : dv_ (la_ (hl_ a b c d e f) v1.toInt v2.toInt v3.toInt) g1' g2' g3' := by
    refine dv_c (fun x y z => ?_) hg'
    rw [la_sp (yo_qs (yq_16 N hw.1))]
    obtain ⟨p0, p1, p2⟩ := p3_pd C v1.toInt v2.toInt v3.toInt 3
    have eL : sp_L (qs_ (2 ^ N - 1)) (pd_ (p3_ C 4 v1.toInt v2.toInt v3.toInt) 3) = hl_ a b c d e f := by
      funext x y z; rw [← eG]; exact propext (yL_k hw4 x y z)
    rw [eL, p0, p1, p2]
    exact Iff.rfl
  obtain ⟨t, so, h, et, eo, es, hsa, ht3, hz⟩ := id hs
  have hrk : rk_ (d0 : Nat) (d0 * d1 : Nat) (d0 * d1 * d2 : Nat) = t := rk_t hn hsa hdl
  have hlb := la_b hn (rw_sm hw) hL hdl hrk
  have dich := or_dich hn hdl hdl' hrk
  have hl0 : 0 < (if t = 0 then 1 else if t = 1 then d0 else if t = 2 then d1 else d2) := by
    rcases Nat.eq_zero_or_pos t with z | z
    · rw [if_pos z]; decide
    · obtain ⟨s, rfl⟩ : ∃ s, t = s + 1 := ⟨t - 1, by omega⟩
      obtain ⟨n1, n2, n3⟩ := gn_d hrk (m := s) (by omega)
      have : s = 0 ∨ s = 1 ∨ s = 2 := by omega
      rcases this with rfl | rfl | rfl
      · show 0 < d0
        have n3' : d0 ≠ 0 := n3
        omega
      · show 0 < d1
        have n3' : d0 * d1 ≠ 0 := n3
        rcases Nat.eq_zero_or_pos d1 with q | q
        · rw [q] at n3'; simp at n3'
        · exact q
      · show 0 < d2
        have n3' : d0 * d1 * d2 ≠ 0 := n3
        rcases Nat.eq_zero_or_pos d2 with q | q
        · rw [q] at n3'; simp at n3'
        · exact q
  have main : ∀ l : Nat, l = (if t = 0 then 1 else if t = 1 then d0 else if t = 2 then d1 else d2) → ∃ n, wX_order_63 (fun r u' => wpY_order (fun r' v' => r' = r ∧ i_Rel (k + 4) u' v') (nI N, gf, gl, mE C) v1 v2 v3) v1 v2 v3 (nI l) (nI N) 1 fk' fs' 1 fl fb (mE R) aW' aS' aO' aQ' aD' aE n 1 := by
    intro l el
    rw [← el] at hlb dich hl0
    rcases dich with ho | ⟨m0, ho, hdm⟩
    · refine ⟨_, xo_none hlb (by omega) (by omega) (by omega) hn hB hs ho (yy _ (fun _ C' hw' => ⟨rfl, rel C' hw'⟩) (fun m hm => ?_)) l 1 (Nat.le_refl _) (by omega)⟩
      exact absurd ((hm.2 m).mpr (Int.dvd_refl _)) (ho m (by have := hm.1; omega))
    · have hm0 : 1 ≤ m0 := by have := ho.1; omega
      refine ⟨_, xo_some hlb (by omega) (by omega) (by omega) hn hB hs ho hdm hl0 (yy _ (fun ho' => ?_) (fun m hm C' hw' => ⟨?_, rel C' hw'⟩)) (m0 - 1) 1 (Nat.le_refl _) (by omega)⟩
      · exact absurd ((ho.2 m0).mpr (Int.dvd_refl _)) (ho' m0 (by omega))
      · have h1 : (m : Int) ∣ m0 := (hm.2 m0).mp ((ho.2 m0).mpr (Int.dvd_refl _))
        have h2 : (m0 : Int) ∣ m := (ho.2 m).mp ((hm.2 m).mpr (Int.dvd_refl _))
        rw [Nat.dvd_antisymm (Int.natCast_dvd_natCast.mp h1) (Int.natCast_dvd_natCast.mp h2)]
  rw [et] at main ⊢
  refine zn_eq (b := 0) (by omega) (by omega) (fun q => ?_) (fun q => ?_)
  · exact main 1 (by rw [if_pos q])
  · obtain ⟨s, rfl⟩ : ∃ s, t = s + 1 := ⟨t - 1, by omega⟩
    rw [nI_pred]
    have ec : (nI s).toNatClampNeg = s := nI_clamp (by omega)
    refine ⟨vp_in_nI (by omega) (by omega), ?_⟩
    rw [ec]
    have : s = 0 ∨ s = 1 ∨ s = 2 := by omega
    rcases this with rfl | rfl | rfl
    · exact nm_r e0 (main d0 rfl)
    · exact nm_r e1 (main d1 rfl)
    · exact nm_r e2 (main d2 rfl)
end
section
/-! shortest points: offers and counts -/
def ln_ (x y z : Int) : Int := x * x + y * y + z * z
/-- lengths offered (N of each) take a best and its count to new ones -/
def os_ (L : Int) (F : Nat) (N : Int → Nat) (L' : Int) (F' : Nat) : Prop := 0 < L' ∧ L' ≤ L ∧ (∀ l, 0 < l → l < L' → N l = 0) ∧ ((L' = L ∧ F' = F + N L') ∨ (L' < L ∧ 0 < N L' ∧ F' = N L'))
theorem os_0 {L : Int} {F : Nat} (hL : 0 < L) : os_ L F (fun _ => 0) L F := ⟨hL, Int.le_refl _, fun _ _ _ => rfl, Or.inl ⟨rfl, rfl⟩⟩
theorem os_add {L L1 L2 : Int} {F F1 F2 : Nat} {N1 N2 : Int → Nat} (h1 : os_ L F N1 L1 F1) (h2 : os_ L1 F1 N2 L2 F2) : os_ L F (fun l => N1 l + N2 l) L2 F2 := by
  obtain ⟨a1, a2, a3, a4⟩ := h1
  obtain ⟨b1, b2, b3, b4⟩ := h2
  refine ⟨b1, by omega, fun l l0 ll => ?_, ?_⟩
  · show N1 l + N2 l = 0
    rw [a3 l l0 (by omega), b3 l l0 ll]
  · show (L2 = L ∧ F2 = F + (N1 L2 + N2 L2)) ∨ (L2 < L ∧ 0 < N1 L2 + N2 L2 ∧ F2 = N1 L2 + N2 L2)
    rcases b4 with ⟨b4, b5⟩ | ⟨b4, b5, b6⟩
    · subst b4
      rcases a4 with ⟨a4, a5⟩ | ⟨a4, a5, a6⟩
      · exact Or.inl ⟨a4, by omega⟩
      · exact Or.inr ⟨a4, by omega, by omega⟩
    · have z := a3 L2 b1 b4
      exact Or.inr ⟨by omega, by omega, by omega⟩
theorem os_c {L L' : Int} {F F' : Nat} {N N' : Int → Nat} (h : os_ L F N L' F') (e : ∀ l, 0 < l → l ≤ L' → N l = N' l) : os_ L F N' L' F' := by
  obtain ⟨a1, a2, a3, a4⟩ := h
  have e' := e L' a1 (Int.le_refl _)
  refine ⟨a1, a2, fun l l0 ll => by rw [← e l l0 (by omega)]; exact a3 l l0 ll, ?_⟩
  rw [e'] at a4; exact a4
/-- sums from -R to R -/
def sZ_ (R : Nat) (f : Int → Nat) : Nat := cz_ (2 * R + 1) (fun m => f (-(R : Int) + m))
theorem sZ_c {R : Nat} {f g : Int → Nat} (h : ∀ x, -(R : Int) ≤ x → x ≤ R → f x = g x) : sZ_ R f = sZ_ R g := cz_c (fun i hi => h _ (by omega) (by omega))
theorem cz_z {n : Nat} {f : Nat → Nat} (h : ∀ i, i < n → f i = 0) : cz_ n f = 0 := by rw [cz_c (g := fun _ => 0) h, cz_0]
theorem sZ_ext {R R' : Nat} {f : Int → Nat} (hR : R ≤ R') (h : ∀ x : Int, (R : Int) < x.natAbs → f x = 0) : sZ_ R' f = sZ_ R f := by
  unfold sZ_
  obtain ⟨k, rfl⟩ : ∃ k, R' = R + k := ⟨R' - R, by omega⟩
  have e : 2 * (R + k) + 1 = k + ((2 * R + 1) + k) := by omega
  rw [e, cz_add, cz_add, cz_z (n := k), cz_z (n := k), Nat.zero_add, Nat.add_zero]
  · refine cz_c (fun i hi => ?_)
    have : (-((R + k : Nat) : Int) + ((k + i : Nat) : Int)) = -(R : Int) + i := by omega
    rw [this]
  · intro i hi; exact h _ (by omega)
  · intro i hi; exact h _ (by omega)
theorem cz_ge {f : Nat → Nat} : ∀ {n i : Nat}, i < n → f i ≤ cz_ n f := by
  intro n
  induction n with
  | zero => intro i h; omega
  | succ n ih =>
    intro i hi
    rw [cz_]
    by_cases q : i = n
    · subst q; omega
    · have := ih (i := i) (by omega); omega
theorem sZ_ge {R : Nat} {f : Int → Nat} {x : Int} (h1 : -(R : Int) ≤ x) (h2 : x ≤ R) : f x ≤ sZ_ R f := by
  have := cz_ge (f := fun m => f (-(R : Int) + m)) (n := 2 * R + 1) (i := (x + R).toNat) (by omega)
  have e : -(R : Int) + ((x + R).toNat : Int) = x := by omega
  rw [e] at this
  exact this
theorem cz_ml (c : Nat) (f : Nat → Nat) : ∀ n, cz_ n (fun i => c * f i) = c * cz_ n f := by
  intro n
  induction n with
  | zero => rfl
  | succ n ih => rw [cz_, cz_, ih, Nat.mul_add]
/-- the next quotient -/
theorem dv_s {p x : Int} (hp : 0 < p) : (p ∣ x + 1 ∧ (x + 1) / p = x / p + 1 ∧ x + 1 = (x / p + 1) * p) ∨ (¬ p ∣ x + 1 ∧ (x + 1) / p = x / p) := by
  have e := Int.mul_ediv_add_emod x p
  have r0 := Int.emod_nonneg x (show p ≠ 0 by omega)
  have r1 := Int.emod_lt_of_pos x hp
  by_cases q : x % p + 1 = p
  · left
    have e2 : x + 1 = p * (x / p + 1) := by rw [Int.mul_add, Int.mul_one]; omega
    refine ⟨⟨_, e2⟩, ?_, by rw [Int.mul_comm]; exact e2⟩
    have : (x + 1) / p = (p * (x / p + 1)) / p := by rw [← e2]
    rw [this, Int.mul_ediv_cancel_left _ (by omega)]
  · right
    have u := (Int.ediv_emod_unique (a := x + 1) (b := p) (r := x % p + 1) (q := x / p) hp).mpr ⟨by omega, by omega, by omega⟩
    refine ⟨fun d => ?_, u.1⟩
    have := Int.emod_eq_zero_of_dvd d
    omega
/-- a sum over the numbers of one class = a sum over quotients -/
theorem pr_sum {p : Int} (hp : 0 < p) (s lo : Int) (G : Int → Nat) : ∀ n : Nat, (lo - 1 - s) / p ≤ (lo + n - 1 - s) / p ∧ cz_ n (fun m => cb_ (p ∣ lo + m - s) * G (lo + m)) = cz_ ((lo + n - 1 - s) / p - (lo - 1 - s) / p).toNat (fun k => G (s + ((lo - 1 - s) / p + 1 + k) * p)) := by
  intro n
  induction n with
  | zero =>
    have e : lo + ((0 : Nat) : Int) - 1 - s = lo - 1 - s := by omega
    rw [e, Int.sub_self]
    exact ⟨Int.le_refl _, rfl⟩
  | succ n ih =>
    obtain ⟨i1, i2⟩ := ih
    rw [cz_, i2]
    have e : lo + ((n + 1 : Nat) : Int) - 1 - s = (lo + n - 1 - s) + 1 := by omega
    rw [e]
    have e0 : lo + (n : Int) - s = (lo + n - 1 - s) + 1 := by omega
    rcases dv_s (x := lo + n - 1 - s) hp with ⟨d1, d2, d3⟩ | ⟨d1, d2⟩
    · rw [d2]
      refine ⟨by omega, ?_⟩
      have t : ((lo + n - 1 - s) / p + 1 - (lo - 1 - s) / p).toNat = ((lo + n - 1 - s) / p - (lo - 1 - s) / p).toNat + 1 := by omega
      rw [t, cz_]
      have c : cb_ (p ∣ lo + (n : Int) - s) = 1 := cb_t (by rw [e0]; exact d1)
      rw [c, Nat.one_mul]
      congr 1
      have w : (lo - 1 - s) / p + 1 + (((lo + n - 1 - s) / p - (lo - 1 - s) / p).toNat : Int) = (lo + n - 1 - s) / p + 1 := by omega
      rw [w, ← d3]
      congr 1
      omega
    · rw [d2]
      refine ⟨i1, ?_⟩
      have c : cb_ (p ∣ lo + (n : Int) - s) = 0 := cb_f (by rw [e0]; exact d1)
      rw [c, Nat.zero_mul, Nat.add_zero]
theorem pr_neg {p x : Int} (hp : 0 < p) : -(x / p) = (-x - 1) / p + 1 := by
  have e := Int.mul_ediv_add_emod x p
  have r0 := Int.emod_nonneg x (show p ≠ 0 by omega)
  have r1 := Int.emod_lt_of_pos x hp
  have u := (Int.ediv_emod_unique (a := -x - 1) (b := p) (r := p - x % p - 1) (q := -(x / p) - 1) hp).mpr ⟨by
    have : p * (-(x / p) - 1) = -(p * (x / p)) - p := by grind
    omega, by omega, by omega⟩
  omega
/-- the class's loop over one class of numbers within R -/
theorem pr_X {p s : Int} {R : Nat} (hp : 0 < p) (G : Int → Nat) : -(((R : Int) + s) / p) ≤ ((R : Int) - s) / p + 1 ∧ cz_ (((R : Int) - s) / p + 1 - -(((R : Int) + s) / p)).toNat (fun k => G (s + (-(((R : Int) + s) / p) + k) * p)) = sZ_ R (fun Y => cb_ (p ∣ Y - s) * G Y) := by
  obtain ⟨h1, h2⟩ := pr_sum hp s (-(R : Int)) G (2 * R + 1)
  have e1 : -(R : Int) + ((2 * R + 1 : Nat) : Int) - 1 - s = (R : Int) - s := by omega
  have e2 : -(R : Int) - 1 - s = -((R : Int) + s) - 1 := by omega
  have e3 := pr_neg (x := (R : Int) + s) hp
  rw [e1, e2] at h1 h2
  refine ⟨by omega, ?_⟩
  unfold sZ_
  rw [h2, e3]
  congr 1
  omega
end
section
/-! counts in a box -/
noncomputable def tb_ (R : Nat) (P : Int → Int → Int → Prop) (l : Int) : Nat := sZ_ R (fun x => sZ_ R (fun y => sZ_ R (fun z => cb_ (P x y z ∧ ln_ x y z = l))))
theorem sq_n (x : Int) : 0 ≤ x * x := by
  rcases Int.le_total 0 x with h | h
  · exact Int.mul_nonneg h h
  · exact Int.mul_nonneg_of_nonpos_of_nonpos h h
theorem sq_abs (x : Int) : x * x = (x.natAbs * x.natAbs : Nat) := by
  rw [Int.natCast_mul]
  rcases Int.natAbs_eq x with h | h
  · rw [← h]
  · generalize x.natAbs = n at h; subst h; grind
theorem sq_lt {x : Int} {R : Nat} (h : x * x < ((R + 1) * (R + 1) : Nat)) : x.natAbs ≤ R := by
  apply Classical.byContradiction
  intro z
  have h1 : (R + 1) * (R + 1) ≤ x.natAbs * x.natAbs := Nat.mul_le_mul (by omega) (by omega)
  rw [sq_abs] at h
  omega
theorem ln_lt {x y z l : Int} {R : Nat} (h : ln_ x y z = l) (hl : l < ((R + 1) * (R + 1) : Nat)) : x.natAbs ≤ R ∧ y.natAbs ≤ R ∧ z.natAbs ≤ R := by
  unfold ln_ at h
  have := sq_n x
  have := sq_n y
  have := sq_n z
  exact ⟨sq_lt (by omega), sq_lt (by omega), sq_lt (by omega)⟩
theorem tb_ext {R R' : Nat} {P : Int → Int → Int → Prop} {l : Int} (hR : R ≤ R') (hl : l < ((R + 1) * (R + 1) : Nat)) : tb_ R' P l = tb_ R P l := by
  unfold tb_
  have c : ∀ x y z, ((R : Int) < x.natAbs ∨ (R : Int) < y.natAbs ∨ (R : Int) < z.natAbs) → cb_ (P x y z ∧ ln_ x y z = l) = 0 := by
    intro x y z h
    refine cb_f (fun k => ?_)
    have := ln_lt k.2 hl
    omega
  have z0 : ∀ n, sZ_ n (fun _ => 0) = 0 := fun n => cz_0 _
  have e1 : ∀ x y, sZ_ R' (fun z => cb_ (P x y z ∧ ln_ x y z = l)) = sZ_ R (fun z => cb_ (P x y z ∧ ln_ x y z = l)) := fun x y => sZ_ext hR (fun z h => c x y z (Or.inr (Or.inr h)))
  have e2 : ∀ x, sZ_ R' (fun y => sZ_ R' (fun z => cb_ (P x y z ∧ ln_ x y z = l))) = sZ_ R (fun y => sZ_ R (fun z => cb_ (P x y z ∧ ln_ x y z = l))) := by
    intro x
    rw [sZ_c (g := fun y => sZ_ R (fun z => cb_ (P x y z ∧ ln_ x y z = l))) (fun y _ _ => e1 x y)]
    refine sZ_ext hR (fun y h => ?_)
    rw [sZ_c (g := fun _ => 0) (fun z _ _ => c x y z (Or.inr (Or.inl h))), z0]
  rw [sZ_c (g := fun x => sZ_ R (fun y => sZ_ R (fun z => cb_ (P x y z ∧ ln_ x y z = l)))) (fun x _ _ => e2 x)]
  refine sZ_ext hR (fun x h => ?_)
  rw [sZ_c (g := fun _ => 0) (fun y _ _ => ?_), z0]
  rw [sZ_c (g := fun _ => 0) (fun z _ _ => c x y z (Or.inl h)), z0]
theorem tb_pos {R : Nat} {P : Int → Int → Int → Prop} {x y z l : Int} (hP : P x y z) (h : ln_ x y z = l) (hl : l < ((R + 1) * (R + 1) : Nat)) : 0 < tb_ R P l := by
  obtain ⟨h1, h2, h3⟩ := ln_lt h hl
  have a3 := sZ_ge (R := R) (f := fun z => cb_ (P x y z ∧ ln_ x y z = l)) (x := z) (by omega) (by omega)
  have a2 := sZ_ge (R := R) (f := fun y => sZ_ R (fun z => cb_ (P x y z ∧ ln_ x y z = l))) (x := y) (by omega) (by omega)
  have a1 := sZ_ge (R := R) (f := fun x => sZ_ R (fun y => sZ_ R (fun z => cb_ (P x y z ∧ ln_ x y z = l)))) (x := x) (by omega) (by omega)
  rw [cb_t ⟨hP, h⟩] at a3
  unfold tb_
  omega
theorem tb_same {R R' : Nat} {P : Int → Int → Int → Prop} {l : Int} (h : l < ((R + 1) * (R + 1) : Nat)) (h' : l < ((R' + 1) * (R' + 1) : Nat)) : tb_ R P l = tb_ R' P l := by
  rcases Nat.le_total R R' with k | k
  · exact (tb_ext k h).symm
  · exact tb_ext k h'
/-- the class's search and the reference's give one answer -/
theorem sh_eq {P : Int → Int → Int → Prop} {bX bY b0 m0 : Int} {cX cY R : Nat} {NX : Int → Nat} (hX : os_ b0 0 NX bX cX) (hNX : ∀ l : Int, 0 < l → l < ((R + 1) * (R + 1) : Nat) → NX l = tb_ R P l) (hY : os_ m0 0 (tb_ 16 P) bY cY) (hm : ∃ x y z, P x y z ∧ ln_ x y z = m0) (h243 : m0 ≤ 243) (hb : ∃ x y z, P x y z ∧ ln_ x y z = b0) (hR : b0 < ((R + 1) * (R + 1) : Nat) ∨ R = 300) : bX = bY ∧ cX = cY := by
  obtain ⟨x1, x2, x3, x4⟩ := hX
  obtain ⟨y1, y2, y3, y4⟩ := hY
  have e17 : ((16 + 1) * (16 + 1) : Nat) = 289 := rfl
  have hYp : 0 < tb_ 16 P bY ∧ cY = tb_ 16 P bY := by
    rcases y4 with ⟨k1, k2⟩ | ⟨_, k2, k3⟩
    · obtain ⟨x, y, z, p1, p2⟩ := hm
      rw [k1]
      refine ⟨tb_pos p1 p2 (by omega), ?_⟩
      rw [k1] at k2; omega
    · exact ⟨k2, k3⟩
  have hXR : bX < ((R + 1) * (R + 1) : Nat) := by
    rcases hR with h | h
    · omega
    · subst h
      apply Classical.byContradiction
      intro z
      have e301 : ((300 + 1) * (300 + 1) : Nat) = 90601 := rfl
      have k1 := x3 bY y1 (by omega)
      rw [hNX bY y1 (by omega), tb_same (R' := 16) (by omega) (by omega)] at k1
      omega
  have hXp : 0 < NX bX ∧ cX = NX bX := by
    rcases x4 with ⟨k1, k2⟩ | ⟨_, k2, k3⟩
    · obtain ⟨x, y, z, p1, p2⟩ := hb
      have := tb_pos (R := R) p1 p2 (by omega)
      rw [hNX bX x1 hXR, k1]
      refine ⟨this, ?_⟩
      rw [hNX bX x1 hXR, k1] at k2; omega
    · exact ⟨k2, k3⟩
  rw [hNX bX x1 hXR] at hXp
  rcases Int.lt_trichotomy bX bY with h | h | h
  · exfalso
    have := y3 bX x1 h
    rw [tb_same (R := R) (R' := 16) hXR (by omega)] at hXp
    omega
  · subst h
    rw [tb_same (R := R) (R' := 16) hXR (by omega)] at hXp
    exact ⟨rfl, by omega⟩
  · exfalso
    have := x3 bY y1 h
    rw [hNX bY y1 (by omega), tb_same (R' := 16) (by omega) (by omega)] at this
    omega
/-- membership by quotients -/
theorem hl_dec {a b c d e f : Int} (hn : hn_ a b c d e f) (x y z : Int) : hl_ a b c d e f x y z ↔ a ∣ x ∧ d ∣ y - x / a * b ∧ f ∣ z - x / a * c - (y - x / a * b) / d * e := by
  constructor
  · rintro ⟨i, j, k, rfl, rfl, rfl⟩
    have s1 : i * a / a * b = i * b ∧ i * a / a * c = i * c := by
      by_cases q : a = 0
      · obtain ⟨qb, qc⟩ := hn.2.2.2.1 q
        rw [qb, qc]; simp
      · rw [Int.mul_ediv_cancel _ q]; exact ⟨rfl, rfl⟩
    have s2 : j * d / d * e = j * e := by
      by_cases q : d = 0
      · rw [hn.2.2.2.2.1 q]; simp
      · rw [Int.mul_ediv_cancel _ q]
    rw [s1.1, s1.2]
    have t1 : i * b + j * d - i * b = j * d := by omega
    rw [t1, s2]
    have t2 : i * c + j * e + k * f - i * c - j * e = k * f := by omega
    rw [t2]
    exact ⟨⟨i, Int.mul_comm _ _⟩, ⟨j, Int.mul_comm _ _⟩, ⟨k, Int.mul_comm _ _⟩⟩
  · rintro ⟨h1, h2, h3⟩
    refine ⟨x / a, (y - x / a * b) / d, (z - x / a * c - (y - x / a * b) / d * e) / f, ?_, ?_, ?_⟩
    · rw [Int.ediv_mul_cancel h1]
    · rw [Int.ediv_mul_cancel h2]; omega
    · rw [Int.ediv_mul_cancel h3]; omega
/-- what the class offers: a point, a line, all -/
noncomputable def np_ (f : Int) (R : Nat) (x y z l : Int) : Nat := if f = 0 then cb_ (ln_ x y z = l) else sZ_ R (fun Z => cb_ (f ∣ Z - z) * cb_ (ln_ x y Z = l))
noncomputable def nl_ (d e f : Int) (R : Nat) (x y z l : Int) : Nat := if d = 0 then np_ f R x y z l else sZ_ R (fun Y => cb_ (d ∣ Y - y) * np_ f R x Y (z + (Y - y) / d * e) l)
noncomputable def nt_ (a b c d e f : Int) (R : Nat) (l : Int) : Nat := if a = 0 then nl_ d e f R 0 0 0 l else sZ_ R (fun X => cb_ (a ∣ X - 0) * nl_ d e f R X (X / a * b) (X / a * c) l)
theorem cb_m (p q : Prop) : cb_ p * cb_ q = cb_ (p ∧ q) := by
  by_cases h : p
  · by_cases h' : q
    · rw [cb_t h, cb_t h', cb_t ⟨h, h'⟩]
    · rw [cb_f h', cb_f (p := p ∧ q) (fun k => h' k.2), Nat.mul_zero]
  · rw [cb_f h, cb_f (p := p ∧ q) (fun k => h k.1), Nat.zero_mul]
theorem sZ_one {R : Nat} {f : Int → Nat} {x : Int} (h1 : x.natAbs ≤ R) (h : ∀ y, y ≠ x → f y = 0) : sZ_ R f = f x := by
  have e : sZ_ R f = cz_ (2 * R + 1) (fun m => if m = (x + R).toNat then f x else 0) := by
    refine cz_c (fun i hi => ?_)
    by_cases q : i = (x + R).toNat
    · rw [if_pos q]; congr 1; omega
    · rw [if_neg q]; exact h _ (by omega)
  have g : ∀ (n k v : Nat), cz_ n (fun m => if m = k then v else 0) = if k < n then v else 0 := by
    intro n k v
    induction n with
    | zero => rfl
    | succ n ih =>
      rw [cz_, ih]
      by_cases q : n = k
      · rw [if_pos q, if_neg (by omega), if_pos (by omega), Nat.zero_add]
      · rw [if_neg q]
        by_cases q' : k < n
        · rw [if_pos q', if_pos (by omega), Nat.add_zero]
        · rw [if_neg q', if_neg (by omega)]
  rw [e, g, if_pos (by omega)]
theorem np_eq {f : Int} {R : Nat} {x y z l : Int} (hl : l < ((R + 1) * (R + 1) : Nat)) : np_ f R x y z l = sZ_ R (fun Z => cb_ (f ∣ Z - z ∧ ln_ x y Z = l)) := by
  unfold np_
  by_cases q : f = 0
  · rw [if_pos q, q]
    by_cases h : z.natAbs ≤ R
    · rw [sZ_one h]
      · exact cb_c ⟨fun k => ⟨by rw [Int.sub_self]; exact Int.dvd_refl _, k⟩, fun k => k.2⟩
      · intro y hy; exact cb_f (fun k => hy (by have := Int.zero_dvd.mp k.1; omega))
    · rw [cb_f (fun k => h (ln_lt k hl).2.2)]
      refine (cz_z (fun i hi => cb_f (fun k => h ?_))).symm
      have := Int.zero_dvd.mp k.1
      have e : z = -(R : Int) + i := by omega
      rw [e]; omega
  · rw [if_neg q]
    exact sZ_c (fun Z _ _ => cb_m _ _)
theorem sZ_ml (c R : Nat) (f : Int → Nat) : c * sZ_ R f = sZ_ R (fun x => c * f x) := (cz_ml c _ _).symm
theorem nl_eq {d e f : Int} {R : Nat} {x y z l : Int} (hl : l < ((R + 1) * (R + 1) : Nat)) (hd : d = 0 → e = 0) : nl_ d e f R x y z l = sZ_ R (fun Y => sZ_ R (fun Z => cb_ (d ∣ Y - y ∧ f ∣ Z - (z + (Y - y) / d * e) ∧ ln_ x Y Z = l))) := by
  unfold nl_
  by_cases q : d = 0
  · rw [if_pos q, np_eq hl, q, hd q]
    simp only [Int.mul_zero, Int.add_zero]
    by_cases h : y.natAbs ≤ R
    · refine Eq.trans ?_ (sZ_one (f := fun Y => sZ_ R (fun Z => cb_ (0 ∣ Y - y ∧ f ∣ Z - z ∧ ln_ x Y Z = l))) (x := y) h ?_).symm
      · refine sZ_c (fun Z _ _ => cb_c ⟨fun k => ⟨by rw [Int.sub_self]; exact Int.dvd_refl _, k.1, k.2⟩, fun k => k.2⟩)
      · intro Y hY
        refine cz_z (fun i hi => cb_f (fun k => hY (by have := Int.zero_dvd.mp k.1; omega)))
    · rw [show sZ_ R (fun Z => cb_ (f ∣ Z - z ∧ ln_ x y Z = l)) = 0 from cz_z (fun i hi => cb_f (fun k => h (ln_lt k.2 hl).2.1))]
      refine (cz_z (fun i hi => cz_z (fun i' hi' => cb_f (fun k => h ?_)))).symm
      have := Int.zero_dvd.mp k.1
      have e : y = -(R : Int) + i := by omega
      rw [e]; omega
  · rw [if_neg q]
    refine sZ_c (fun Y _ _ => ?_)
    rw [np_eq hl, sZ_ml]
    exact sZ_c (fun Z _ _ => cb_m _ _)
theorem nt_eq {a b c d e f : Int} {R : Nat} {l : Int} (hn : hn_ a b c d e f) (hl : l < ((R + 1) * (R + 1) : Nat)) : nt_ a b c d e f R l = tb_ R (hl_ a b c d e f) l := by
  unfold nt_ tb_
  by_cases q : a = 0
  · rw [if_pos q, nl_eq hl hn.2.2.2.2.1]
    obtain ⟨qb, qc⟩ := hn.2.2.2.1 q
    refine Eq.trans ?_ (sZ_one (f := fun X => sZ_ R (fun Y => sZ_ R (fun Z => cb_ (hl_ a b c d e f X Y Z ∧ ln_ X Y Z = l)))) (x := 0) (by simp) ?_).symm
    · refine sZ_c (fun Y _ _ => sZ_c (fun Z _ _ => cb_c ?_))
      rw [hl_dec hn, q, qb, qc]
      simp only [Int.mul_zero, Int.sub_zero, Int.zero_add]
      constructor
      · rintro ⟨k1, k2, k3⟩; exact ⟨⟨Int.dvd_refl _, k1, k2⟩, k3⟩
      · rintro ⟨⟨_, k1, k2⟩, k3⟩; exact ⟨k1, k2, k3⟩
    · intro X hX
      refine cz_z (fun i hi => cz_z (fun i' hi' => cb_f (fun k => hX ?_)))
      have := ((hl_dec hn _ _ _).mp k.1).1
      rw [q] at this
      exact Int.zero_dvd.mp this
  · rw [if_neg q]
    refine sZ_c (fun X _ _ => ?_)
    rw [nl_eq hl hn.2.2.2.2.1, sZ_ml]
    refine sZ_c (fun Y _ _ => ?_)
    rw [sZ_ml]
    refine sZ_c (fun Z _ _ => ?_)
    rw [cb_m]
    refine cb_c ?_
    rw [hl_dec hn]
    have e1 : Z - X / a * c - (Y - X / a * b) / d * e = Z - (X / a * c + (Y - X / a * b) / d * e) := by omega
    rw [e1, Int.sub_zero]
    constructor
    · rintro ⟨k1, k2, k3, k4⟩; exact ⟨⟨k1, k2, k3⟩, k4⟩
    · rintro ⟨⟨k1, k2, k3⟩, k4⟩; exact ⟨k1, k2, k3, k4⟩
end
section
/-! the class: the search's walk -/
theorem cz_fr (f : Nat → Nat) (n : Nat) : cz_ (n + 1) f = f 0 + cz_ n (fun k => f (k + 1)) := by
  have := cz_add f 1 n
  rw [Nat.add_comm n 1, this]
  have e : cz_ 1 f = f 0 := by rw [cz_, cz_, Nat.zero_add]
  rw [e]
  congr 1
  refine cz_c (fun i _ => ?_)
  rw [Nat.add_comm]
theorem pr_in {p s j : Int} {R : Nat} (hp : 0 < p) (h1 : -(((R : Int) + s) / p) ≤ j) (h2 : j ≤ ((R : Int) - s) / p) : -(R : Int) ≤ s + j * p ∧ s + j * p ≤ R := by
  have a1 := Int.ediv_mul_le ((R : Int) - s) (show p ≠ 0 by omega)
  have a2 := Int.ediv_mul_le ((R : Int) + s) (show p ≠ 0 by omega)
  have b1 : j * p ≤ ((R : Int) - s) / p * p := Int.mul_le_mul_of_nonneg_right h2 (by omega)
  have b2 : -(((R : Int) + s) / p) * p ≤ j * p := Int.mul_le_mul_of_nonneg_right h1 (by omega)
  rw [Int.neg_mul] at b2
  omega
theorem h_in {v : Int} {R : Nat} (h : -(R : Int) ≤ v ∧ v ≤ R) (hR : R ≤ 300) : v.natAbs ≤ 300 ∧ v.natAbs ≤ 45360 ∧ v.natAbs ≤ R := by omega
theorem h_dv {x d : Int} (h : x.natAbs ≤ 200000000) : (x / d).natAbs ≤ 1000000000 ∧ (-(x / d)).natAbs ≤ 1000000001 := by
  have := Int.natAbs_ediv_le_natAbs x d
  rw [Int.natAbs_neg]; omega
theorem h_rp {R : Nat} {y : Int} (hR : R ≤ 300) (hy : y.natAbs ≤ 100000000) : ((R : Int) + y).natAbs ≤ 200000000 ∧ ((R : Int) - y).natAbs ≤ 200000000 := by omega
theorem h_zr {x : Int} (h : x.natAbs ≤ 200000000) : zi_R x := zi_Rabs (by omega)
theorem h_zj {x : Int} (h : x.natAbs ≤ 1000000001) : zi_R x := zi_Rabs (by omega)
theorem h_zl {L L1 : Int} (h : zi_R L) (h1 : 0 < L1) (h2 : L1 ≤ L) : zi_R L1 := ⟨by omega, by have := h.2; omega⟩
theorem h_j {to j : Int} {n : Nat} (ht : to.natAbs ≤ 1000000000) (hj : j.natAbs ≤ 1000000001) (h : to + 1 - j = (n + 1 : Nat)) : (j + 1).natAbs ≤ 1000000001 ∧ to + 1 - (j + 1) = n ∧ j ≤ to := by omega
theorem h_n {to j : Int} (h : j ≤ to + 1) : to + 1 - j = ((to + 1 - j).toNat : Int) := by omega
theorem ln_R {x y z : Int} (hx : x.natAbs ≤ 300) (hy : y.natAbs ≤ 300) (hz : z.natAbs ≤ 45360) : zi_R (ln_ x y z) := by
  unfold ln_
  have a1 := sq_abs x
  have a2 := sq_abs y
  have a3 := sq_abs z
  have b1 : x.natAbs * x.natAbs ≤ 300 * 300 := Nat.mul_le_mul hx hx
  have b2 : y.natAbs * y.natAbs ≤ 300 * 300 := Nat.mul_le_mul hy hy
  have b3 : z.natAbs * z.natAbs ≤ 45360 * 45360 := Nat.mul_le_mul hz hz
  rw [a1, a2, a3]
  exact ⟨by omega, by omega⟩
section
variable {fc fr fk fs fh fl fb : Int32} {aR aW aS aO aQ aD aE : Nat → Int32} {post : SX → Prop}
theorem xp_offer {x y z L : Int} {F : Nat} (hL : 0 < L) (hLR : zi_R L) (hR : zi_R (ln_ x y z)) (hp : ∀ L' F', os_ L F (fun l => cb_ (ln_ x y z = l)) L' F' → post (fc, fr, fk, fs, fh, zi_v L', nI F', aR, aW, aS, aO, aQ, aD, aE)) : wpX_offer post (fc, fr, fk, fs, fh, zi_v L, nI F, aR, aW, aS, aO, aQ, aD, aE) (zi_v x) (zi_v y) (zi_v z) := by
  have e : zi_v x * zi_v x + zi_v y * zi_v y + zi_v z * zi_v z = zi_v (ln_ x y z) := by rw [zi_mul, zi_mul, zi_mul, zi_add, zi_add]; rfl
  generalize ln_ x y z = m at *
  have same : m ≠ L → ¬ (0 < m ∧ m < L) → os_ L F (fun l => cb_ (m = l)) L F := by
    intro h1 h2
    refine ⟨hL, Int.le_refl _, fun l l0 ll => cb_f (by omega), Or.inl ⟨rfl, ?_⟩⟩
    show F = F + cb_ (m = L)
    rw [cb_f h1, Nat.add_zero]
  have f41 : ¬ (0 < m ∧ m < L) → wX_offer_41 post (zi_v m) fc fr fk fs fh (zi_v L) (nI F) aR aW aS aO aQ aD aE := by
    intro h2
    refine zb_eq hR hLR (fun q => nm_r (nI_1 F) (hp L (F + 1) ⟨hL, Int.le_refl _, fun l l0 ll => cb_f (by omega), Or.inl ⟨rfl, ?_⟩⟩)) (fun q => hp L F (same q h2))
    show F + 1 = F + cb_ (m = L)
    rw [cb_t q]
  refine nm_r e ?_
  refine zc_le m 0 rfl rfl hR zi_R0 (fun q => f41 (by omega)) (fun q => zb_le hLR hR (fun q' => f41 (by omega)) (fun q' => ?_))
  refine hp m 1 ⟨q, by omega, fun l l0 ll => cb_f (by omega), Or.inr ⟨q', ?_, ?_⟩⟩
  · show 0 < cb_ (m = m)
    rw [cb_t rfl]; decide
  · show 1 = cb_ (m = m)
    rw [cb_t rfl]
theorem xp_63 {x y z p to : Int} (hto : to.natAbs ≤ 1000000000) : ∀ (n : Nat) (j : Int), j.natAbs ≤ 1000000001 → to + 1 - j = n → (∀ i, j ≤ i → i ≤ to → zi_R (ln_ x y (z + i * p))) → ∀ (L : Int) (F : Nat), 0 < L → zi_R L → (∀ L' F', os_ L F (fun l => cz_ n (fun k => cb_ (ln_ x y (z + (j + k) * p) = l))) L' F' → post (fc, fr, fk, fs, fh, zi_v L', nI F', aR, aW, aS, aO, aQ, aD, aE)) → wX_searchPoint_63 post (zi_v x) (zi_v y) (zi_v z) (zi_v p) (zi_v to) (n + 1) (zi_v j) fc fr fk fs fh (zi_v L) (nI F) aR aW aS aO aQ aD aE := by
  intro n
  induction n with
  | zero =>
    intro j hj hn _ L F hL _ hp
    refine br_t ((zi_lt (h_zj (Nat.le_succ_of_le hto)) (h_zj hj)).mpr (by omega)) (hp L F (os_0 hL))
  | succ n ih =>
    intro j hj hn hR L F hL hLR hp
    obtain ⟨j1, j2, j3⟩ := h_j hto hj hn
    refine br_f (fun q => ?_) ?_
    · have := (zi_lt (h_zj (Nat.le_succ_of_le hto)) (h_zj hj)).mp q; omega
    · rw [zi_mul, zi_add]
      refine xp_offer hL hLR (hR j (Int.le_refl _) j3) (fun L1 F1 h1 => ?_)
      refine nm_r (zi_add j 1) (ih (j + 1) j1 j2 (fun i a b => hR i (Int.le_trans (Int.le_add_of_nonneg_right (by decide)) a) b) L1 F1 h1.1 (h_zl hLR h1.1 h1.2.1) (fun L' F' h2 => hp L' F' ?_))
      refine os_c (os_add h1 h2) (fun l _ _ => ?_)
      rw [cz_fr]
      have e1 : j + ((0 : Nat) : Int) = j := by omega
      rw [e1]
      congr 1
      refine cz_c (fun i _ => ?_)
      have e2 : j + 1 + (i : Int) = j + ((i + 1 : Nat) : Int) := by omega
      rw [e2]
theorem xp_point {a b c d e f x y z L : Int} {F R : Nat} (hn : hn_ a b c d e f) (hB : hB_ a b c d e f) (hs : xs_ fs aS aO a b c d e f) (hR : R ≤ 300) (hx : x.natAbs ≤ 300) (hy : y.natAbs ≤ 300) (hz : z.natAbs ≤ 100000000) (hz0 : f = 0 → z.natAbs ≤ 45360) (hL : 0 < L) (hLR : zi_R L) (hp : ∀ L' F', os_ L F (np_ f R x y z) L' F' → post (fc, fr, fk, fs, fh, zi_v L', nI F', aR, aW, aS, aO, aQ, aD, aE)) : wpX_searchPoint post (fc, fr, fk, fs, fh, zi_v L, nI F, aR, aW, aS, aO, aQ, aD, aE) (zi_v x) (zi_v y) (zi_v z) (nI R) := by
  obtain ⟨t, so, h, rfl, rfl, rfl, hsa, ht, _⟩ := hs
  rcases sa_so hsa ht (k := 2) (by omega) with ⟨q1, q2⟩ | ⟨q1, s, s3, q2, q3, q4, q5⟩
  · have zf : f = 0 := q1
    refine nm_r (e' := -1) (by show zi_v (so 2) = -1; rw [q2]; decide) (br_f (by decide) ?_)
    refine xp_offer hL hLR (ln_R hx hy (hz0 zf)) (fun L' F' h1 => hp L' F' ?_)
    refine os_c h1 (fun l _ _ => ?_)
    unfold np_; rw [if_pos zf]
  · have pf : 0 < f := q1
    have zf : f ≠ 0 := by omega
    have e5 : h s 2 = f := q5
    obtain ⟨b1, b2, b3, _⟩ := hB
    refine nm_r (e' := nI s) (by show zi_v (so 2) = nI s; rw [q2, zi_n]) (br_t (nI_pos' (by omega)) ⟨zn_in (r := s) (c := 2) (by omega) (by omega), ?_⟩)
    rw [mE_ix2 h (by omega), e5]
    refine nm_e ?_
    rw [← zi_n R, zi_add, zi_sub]
    obtain ⟨r1, r2⟩ := h_rp hR hz
    have fR : zi_R f := zi_Rabs (Nat.lt_of_le_of_lt b3 (by decide))
    refine xf_div (h_zr r1) fR ?_
    rw [zi_neg]
    refine nm_e ?_
    refine xf_div (h_zr r2) fR ?_
    rw [Int.fdiv_eq_ediv_of_nonneg _ (Int.le_of_lt pf), Int.fdiv_eq_ediv_of_nonneg _ (Int.le_of_lt pf)]
    obtain ⟨k1, _⟩ := pr_X (p := f) (s := z) (R := R) pf (fun _ => 0)
    refine ⟨_, xp_63 (h_dv r2).1 _ _ (h_dv r1).2 (h_n k1) (fun i i1 i2 => ?_) L F hL hLR (fun L' F' h1 => hp L' F' (os_c h1 (fun l _ _ => ?_)))⟩
    · exact ln_R hx hy (h_in (pr_in pf i1 i2) hR).2.1
    · have := (pr_X (p := f) (s := z) (R := R) pf (fun Z => cb_ (ln_ x y Z = l))).2
      rw [this]
      unfold np_; rw [if_neg zf]
theorem xp_65 {a b c d e f x y z to : Int} {R s : Nat} {h : Nat → Nat → Int} (hn : hn_ a b c d e f) (hB : hB_ a b c d e f) (hs : xs_ fs (mE h) aO a b c d e f) (hs3 : s < 3) (he : h s 2 = e) (hR : R ≤ 300) (hx : x.natAbs ≤ 300) (hto : to.natAbs ≤ 1000000000) : ∀ (n : Nat) (j : Int), j.natAbs ≤ 1000000001 → to + 1 - j = n → (∀ i, j ≤ i → i ≤ to → (y + i * d).natAbs ≤ 300 ∧ (z + i * e).natAbs ≤ 100000000 ∧ (f = 0 → (z + i * e).natAbs ≤ 45360)) → ∀ (L : Int) (F : Nat), 0 < L → zi_R L → (∀ L' F', os_ L F (fun l => cz_ n (fun k => np_ f R x (y + (j + k) * d) (z + (j + k) * e) l)) L' F' → post (fc, fr, fk, fs, fh, zi_v L', nI F', aR, aW, mE h, aO, aQ, aD, aE)) → wX_searchLine_65 post (zi_v x) (zi_v y) (zi_v z) (nI R) (nI s) (zi_v d) (zi_v to) (n + 1) (zi_v j) fc fr fk fs fh (zi_v L) (nI F) aR aW (mE h) aO aQ aD aE := by
  intro n
  induction n with
  | zero =>
    intro j hj hn _ L F hL _ hp
    refine br_t ((zi_lt (h_zj (Nat.le_succ_of_le hto)) (h_zj hj)).mpr (by omega)) (hp L F (os_0 hL))
  | succ n ih =>
    intro j hj hnn hR' L F hL hLR hp
    obtain ⟨j1, j2, j3⟩ := h_j hto hj hnn
    refine br_f (fun q => ?_) ⟨zn_in (r := s) (c := 2) (by clear hB hn hs; omega) (by decide), ?_⟩
    · have := (zi_lt (h_zj (Nat.le_succ_of_le hto)) (h_zj hj)).mp q; omega
    · rw [mE_ix2 h (by clear hB hn hs; omega), he, zi_mul, zi_mul, zi_add, zi_add]
      obtain ⟨g1, g2, g3⟩ := hR' j (Int.le_refl _) j3
      refine xp_point hn hB hs hR hx g1 g2 g3 hL hLR (fun L1 F1 h1 => ?_)
      refine nm_r (zi_add j 1) (ih (j + 1) j1 j2 (fun i a b => hR' i (Int.le_trans (Int.le_add_of_nonneg_right (by decide)) a) b) L1 F1 h1.1 (h_zl hLR h1.1 h1.2.1) (fun L' F' h2 => hp L' F' ?_))
      refine os_c (os_add h1 h2) (fun l _ _ => ?_)
      rw [cz_fr]
      have e1 : j + ((0 : Nat) : Int) = j := by omega
      rw [e1]
      congr 1
      refine cz_c (fun i _ => ?_)
      have e2 : j + 1 + (i : Int) = j + ((i + 1 : Nat) : Int) := by omega
      rw [e2]
theorem xp_line {a b c d e f x y z L : Int} {F R : Nat} (hn : hn_ a b c d e f) (hB : hB_ a b c d e f) (hs : xs_ fs aS aO a b c d e f) (hR : R ≤ 300) (hx : x.natAbs ≤ 300) (hy : y.natAbs ≤ 100000000) (hd0 : d = 0 → y.natAbs ≤ 300 ∧ z.natAbs ≤ 100000000 ∧ (f = 0 → z.natAbs ≤ 45360)) (hd1 : d ≠ 0 → ∀ i, (y + i * d).natAbs ≤ R → (z + i * e).natAbs ≤ 100000000 ∧ (f = 0 → (z + i * e).natAbs ≤ 45360)) (hL : 0 < L) (hLR : zi_R L) (hp : ∀ L' F', os_ L F (nl_ d e f R x y z) L' F' → post (fc, fr, fk, fs, fh, zi_v L', nI F', aR, aW, aS, aO, aQ, aD, aE)) : wpX_searchLine post (fc, fr, fk, fs, fh, zi_v L, nI F, aR, aW, aS, aO, aQ, aD, aE) (zi_v x) (zi_v y) (zi_v z) (nI R) := by
  have hs' := hs
  obtain ⟨t, so, h, e1, e2, e3, hsa, ht, _⟩ := hs'
  subst e3
  rcases sa_so hsa ht (k := 1) (by omega) with ⟨q1, q2⟩ | ⟨q1, s, s3, q2, q3, q4, q5⟩
  · have zd : d = 0 := q1
    obtain ⟨g1, g2, g3⟩ := hd0 zd
    refine nm_r (e' := -1) (by rw [e2]; show zi_v (so 1) = -1; rw [q2]; decide) (br_f (by decide) ?_)
    refine xp_point hn hB hs hR hx g1 g2 g3 hL hLR (fun L' F' h1 => hp L' F' ?_)
    refine os_c h1 (fun l _ _ => ?_)
    unfold nl_; rw [if_pos zd]
  · have pd : 0 < d := q1
    have zd : d ≠ 0 := by omega
    have e4 : h s 1 = d := q4
    have e5 : h s 2 = e := q5
    obtain ⟨b1, b2, b3, _⟩ := id hB
    refine nm_r (e' := nI s) (by rw [e2]; show zi_v (so 1) = nI s; rw [q2, zi_n]) (br_t (nI_pos' (by omega)) ⟨zn_in (r := s) (c := 1) (by omega) (by omega), ?_⟩)
    rw [mE_ix1 h (by omega), e4]
    refine nm_e ?_
    rw [← zi_n R, zi_add, zi_sub]
    obtain ⟨r1, r2⟩ := h_rp hR hy
    have dR : zi_R d := zi_Rabs (Nat.lt_of_le_of_lt b2 (by decide))
    refine xf_div (h_zr r1) dR ?_
    rw [zi_neg]
    refine nm_e ?_
    refine xf_div (h_zr r2) dR ?_
    rw [Int.fdiv_eq_ediv_of_nonneg _ (Int.le_of_lt pd), Int.fdiv_eq_ediv_of_nonneg _ (Int.le_of_lt pd), zi_n R]
    obtain ⟨k1, _⟩ := pr_X (p := d) (s := y) (R := R) pd (fun _ => 0)
    refine ⟨_, xp_65 hn hB hs s3 e5 hR hx (h_dv r2).1 _ _ (h_dv r1).2 (h_n k1) (fun i i1 i2 => ?_) L F hL hLR (fun L' F' h1 => hp L' F' (os_c h1 (fun l _ _ => ?_)))⟩
    · have hh := h_in (pr_in pd i1 i2) hR
      have := hd1 zd i hh.2.2
      exact ⟨hh.1, this.1, this.2⟩
    · have := (pr_X (p := d) (s := y) (R := R) pd (fun Y => np_ f R x Y (z + (Y - y) / d * e) l)).2
      unfold nl_; rw [if_neg zd, ← this]
      refine cz_c (fun k _ => ?_)
      have e6 : (y + (-(((R : Int) + y) / d) + k) * d - y) / d = -(((R : Int) + y) / d) + k := by
        have : y + (-(((R : Int) + y) / d) + (k : Int)) * d - y = (-(((R : Int) + y) / d) + k) * d := by omega
        rw [this, Int.mul_ediv_cancel _ zd]
      rw [e6]
end
end
section
/-- what is needed of a line -/
def lc_ (d e f : Int) (R : Nat) (y z : Int) : Prop := y.natAbs ≤ 100000000 ∧ (d = 0 → y.natAbs ≤ 300 ∧ z.natAbs ≤ 100000000 ∧ (f = 0 → z.natAbs ≤ 45360)) ∧ (d ≠ 0 → ∀ i, (y + i * d).natAbs ≤ R → (z + i * e).natAbs ≤ 100000000 ∧ (f = 0 → (z + i * e).natAbs ≤ 45360))
/-- what is needed of the radius -/
def kb_ (a b c d e f : Int) (R : Nat) : Prop := ∀ x y z, hl_ a b c d e f x y z → x.natAbs ≤ R → (d ≠ 0 → y.natAbs ≤ R) → y.natAbs ≤ 300 ∧ (f = 0 → z.natAbs ≤ 45360)
theorem ab_i {i a : Int} {R : Nat} (ha : a ≠ 0) (h : (i * a).natAbs ≤ R) : i.natAbs ≤ R := by
  rw [Int.natAbs_mul] at h
  exact Nat.le_trans (Nat.le_mul_of_pos_right _ (by omega)) h
theorem ab_m {i b : Int} {A B : Nat} (h : i.natAbs ≤ A) (h' : b.natAbs ≤ B) : (i * b).natAbs ≤ A * B := by
  rw [Int.natAbs_mul]; exact Nat.mul_le_mul h h'
theorem lc_of {a b c d e f : Int} {R : Nat} (hn : hn_ a b c d e f) (hB : hB_ a b c d e f) (hR : R ≤ 300) (hK : kb_ a b c d e f R) {i : Int} (hi : i.natAbs ≤ 300) (hx : (i * a).natAbs ≤ R) : lc_ d e f R (i * b) (i * c) := by
  obtain ⟨b1, b2, b3, b4, b5, b6⟩ := hB
  have hb := ab_m hi b4
  have hc := ab_m hi b5
  refine ⟨by omega, fun zd => ?_, fun zd j hj => ?_⟩
  · have := hK (i * a) (i * b) (i * c) ⟨i, 0, 0, by omega, by omega, by omega⟩ hx (fun q => absurd zd q)
    exact ⟨this.1, by omega, this.2⟩
  · have k := hK (i * a) (i * b + j * d) (i * c + j * e) ⟨i, j, 0, by omega, by omega, by omega⟩ hx (fun _ => hj)
    have pd := hn.2.1
    have hbd := hn.2.2.2.2.2.1 (by omega)
    have hb2 : (i * b).natAbs ≤ 300 * (d.natAbs - 1) := ab_m hi (by omega)
    have hj2 : (j * d).natAbs ≤ 300 * d.natAbs := by
      have : 300 * (d.natAbs - 1) + 300 = 300 * d.natAbs := by omega
      generalize i * b = u at *
      generalize j * d = v at *
      omega
    have hj3 : j.natAbs ≤ 300 := by
      rw [Int.natAbs_mul] at hj2
      exact Nat.le_of_mul_le_mul_right hj2 (by omega)
    have he := ab_m hj3 b6
    exact ⟨by omega, k.2⟩
section
variable {fc fr fk fs fh fl fb : Int32} {aR aW aS aO aQ aD aE : Nat → Int32} {post : SX → Prop}
/-- the loop over the first row's multiples -/
theorem xp_123 {a b c d e f to : Int} {R s : Nat} {so : Nat → Int} {h : Nat → Nat → Int} (hn : hn_ a b c d e f) (hB : hB_ a b c d e f) (hs : xs_ fs (mE h) (vE so) a b c d e f) (hR : R ≤ 300) (hs3 : s < 3) (hso : so 0 = s) (h1 : h s 1 = b) (h2 : h s 2 = c) (hto : to.natAbs ≤ 1000000000) : ∀ (n : Nat) (j : Int), j.natAbs ≤ 1000000001 → to + 1 - j = n → (∀ i, j ≤ i → i ≤ to → (i * a).natAbs ≤ 300 ∧ lc_ d e f R (i * b) (i * c)) → ∀ (L : Int) (F : Nat), 0 < L → zi_R L → (∀ L' F', os_ L F (fun l => cz_ n (fun k => nl_ d e f R ((j + k) * a) ((j + k) * b) ((j + k) * c) l)) L' F' → post (fc, fr, fk, fs, fh, zi_v L', nI F', aR, aW, mE h, vE so, aQ, aD, aE)) → wX_searchShortest_123 post (nI R) (zi_v a) (zi_v to) (n + 1) (zi_v j) fc fr fk fs fh (zi_v L) (nI F) aR aW (mE h) (vE so) aQ aD aE := by
  have e0 : vE so 0 = nI s := by show zi_v (so 0) = nI s; rw [hso, zi_n]
  intro n
  induction n with
  | zero =>
    intro j hj hnn _ L F hL _ hp
    refine br_t ((zi_lt (h_zj (Nat.le_succ_of_le hto)) (h_zj hj)).mpr (by omega)) (hp L F (os_0 hL))
  | succ n ih =>
    intro j hj hnn hC L F hL hLR hp
    obtain ⟨j1, j2, j3⟩ := h_j hto hj hnn
    have p0 : (0 : Int32) ≤ vE so 0 := by rw [e0]; exact nI_pos' (Nat.lt_trans hs3 (by decide))
    refine br_f (fun q => ?_) (br_t p0 ?_)
    · have := (zi_lt (h_zj (Nat.le_succ_of_le hto)) (h_zj hj)).mp q; omega
    · refine br_t p0 ⟨by rw [e0]; exact zn_in (r := s) (c := 1) (by clear hB hn hs; omega) (by decide), ?_⟩
      refine br_t p0 ⟨by rw [e0]; exact zn_in (r := s) (c := 2) (by clear hB hn hs; omega) (by decide), ?_⟩
      unfold wX_searchShortest_212
      rw [e0, mE_ix1 h (by clear hB hn hs; omega), mE_ix2 h (by clear hB hn hs; omega), h1, h2, zi_mul, zi_mul, zi_mul]
      obtain ⟨g1, g2, g3, g4⟩ := hC j (Int.le_refl _) j3
      refine xp_line hn hB hs hR g1 g2 g3 g4 hL hLR (fun L1 F1 k1 => ?_)
      refine nm_r (zi_add j 1) (ih (j + 1) j1 j2 (fun i a b => hC i (Int.le_trans (Int.le_add_of_nonneg_right (by decide)) a) b) L1 F1 k1.1 (h_zl hLR k1.1 k1.2.1) (fun L' F' k2 => hp L' F' ?_))
      refine os_c (os_add k1 k2) (fun l _ _ => ?_)
      rw [cz_fr]
      have e1 : j + ((0 : Nat) : Int) = j := by omega
      rw [e1]
      congr 1
      refine cz_c (fun i _ => ?_)
      have e2 : j + 1 + (i : Int) = j + ((i + 1 : Nat) : Int) := by omega
      rw [e2]
/-- the search within a radius -/
theorem xp_101 {a b c d e f L : Int} {F R : Nat} {z0 : Int32} (hn : hn_ a b c d e f) (hB : hB_ a b c d e f) (hs : xs_ fs aS aO a b c d e f) (hR : R ≤ 300) (hK : kb_ a b c d e f R) (hz0 : a ≠ 0 → z0 = zi_v a) (hL : 0 < L) (hLR : zi_R L) (hp : ∀ L' F', os_ L F (nt_ a b c d e f R) L' F' → post (fc, fr, fk, fs, fh, zi_v L', nI F', aR, aW, aS, aO, aQ, aD, aE)) : wX_searchShortest_101 post (nI R) z0 fc fr fk fs fh (zi_v L) (nI F) aR aW aS aO aQ aD aE := by
  have hs' := hs
  obtain ⟨t, so, h, e1, e2, e3, hsa, ht, _⟩ := hs'
  subst e3; subst e2
  rcases sa_so hsa ht (k := 0) (by omega) with ⟨q1, q2⟩ | ⟨q1, s, s3, q2, q3, q4, q5⟩
  · have za : a = 0 := q1
    obtain ⟨zb, zc⟩ := hn.2.2.2.1 za
    have e0 : vE so 0 = -1 := by show zi_v (so 0) = -1; rw [q2]; decide
    have n0 : ¬ (0 : Int32) ≤ vE so 0 := by rw [e0]; decide
    refine br_f n0 (nm_r (e' := zi_v 0) (by decide) ⟨2, ?_⟩)
    refine br_f (by decide) (br_f n0 (br_f n0 (br_f n0 ?_)))
    unfold wX_searchShortest_212
    have l0 := lc_of hn hB hR hK (i := 0) (by decide) (by simp)
    rw [Int.zero_mul, Int.zero_mul] at l0
    refine xp_line (x := 0) (y := 0) (z := 0) hn hB hs hR (by decide) l0.1 l0.2.1 l0.2.2 hL hLR (fun L1 F1 k1 => ?_)
    refine nm_r (e' := zi_v 1) (by decide) (br_t (by decide) (hp L1 F1 (os_c k1 (fun l _ _ => ?_))))
    unfold nt_; rw [if_pos za]
  · have pa : 0 < a := q1
    have za : a ≠ 0 := by omega
    have e4 : h s 1 = b := q4
    have e5 : h s 2 = c := q5
    have e0 : vE so 0 = nI s := by show zi_v (so 0) = nI s; rw [q2, zi_n]
    have b1 := hB.1
    have aR : zi_R a := zi_Rabs (Nat.lt_of_le_of_lt b1 (by decide))
    have hq : zi_v (R : Int) / zi_v a = zi_v ((R : Int) / a) := by
      rw [zi_div (zi_Rn (Nat.lt_of_le_of_lt hR (by decide))) aR, Int.tdiv_eq_ediv_of_nonneg (by omega)]
    rw [hz0 za]
    refine br_t (by rw [e0]; exact nI_pos' (Nat.lt_trans s3 (by decide))) ⟨fun q => za ((zi_eq aR zi_R0).mp q), ?_⟩
    refine nm_r (e' := zi_v (((R : Int) - 0) / a)) (by rw [← zi_n R, hq, Int.sub_zero]) ?_
    refine nm_r (e' := zi_v (-(((R : Int) + 0) / a))) (by rw [zi_neg, Int.sub_zero, Int.add_zero]) ?_
    obtain ⟨k1, _⟩ := pr_X (p := a) (s := 0) (R := R) pa (fun _ => 0)
    have r1 := h_rp (y := 0) hR (by decide)
    refine ⟨_, xp_123 hn hB hs hR s3 q2 e4 e5 (h_dv r1.2).1 _ _ (h_dv r1.1).2 (h_n k1) (fun i i1 i2 => ?_) L F hL hLR (fun L' F' k2 => hp L' F' (os_c k2 (fun l _ _ => ?_)))⟩
    · have hh := pr_in pa i1 i2
      rw [Int.zero_add] at hh
      have hh' := h_in hh hR
      exact ⟨hh'.1, lc_of hn hB hR hK (Nat.le_trans (ab_i za hh'.2.2) hR) hh'.2.2⟩
    · have := (pr_X (p := a) (s := 0) (R := R) pa (fun X => nl_ d e f R X (X / a * b) (X / a * c) l)).2
      unfold nt_; rw [if_neg za, ← this]
      refine cz_c (fun k _ => ?_)
      rw [Int.zero_add, Int.mul_ediv_cancel _ za]
theorem xp_root {post : Int32 → Prop} {v : Int} (hv : 0 ≤ v) (hvR : zi_R v) (hp : ∀ r : Nat, r ≤ 300 → ((r * r : Nat) : Int) ≤ v → (v < ((r + 1) * (r + 1) : Nat) ∨ r = 300) → post (nI r)) : wpX_rootOf post (fc, fr, fk, fs, fh, fl, fb, aR, aW, aS, aO, aQ, aD, aE) (zi_v v) := by
  have main : ∀ k r : Nat, r + k = 300 → ((r * r : Nat) : Int) ≤ v → wX_rootOf_4 post (zi_v v) fc fr fk fs fh fl fb aR aW aS aO aQ aD aE (k + 1) (nI r) (nI r) := by
    intro k
    induction k with
    | zero =>
      intro r hr h
      have : r = 300 := by omega
      subst this
      exact br_t (by decide) (hp 300 (by omega) h (Or.inr rfl))
    | succ k ih =>
      intro r hr h
      have hb : (r + 1) * (r + 1) ≤ 300 * 300 := Nat.mul_le_mul (by omega) (by omega)
      refine br_f (nI_ge (a := r) (b := 300) (by omega) (by omega)) ?_
      rw [nI_1, zn_mul, ← zi_n ((r + 1) * (r + 1))]
      refine zb_lt hvR (zi_Rn (by omega)) (fun q => hp r (by omega) h (Or.inl q)) (fun q => ?_)
      exact nm_e (nm_r rfl (ih (r + 1) (by omega) q))
  exact ⟨_, main 300 0 (by omega) (by simpa using hv)⟩
end
end
section
/-! the class: shorter rows -/
def dp_ (g : Nat → Nat → Int) (r s : Nat) : Int := g r 0 * g s 0 + g r 1 * g s 1 + g r 2 * g s 2
theorem dp_ln (g : Nat → Nat → Int) (r : Nat) : dp_ g r r = ln_ (g r 0) (g r 1) (g r 2) := rfl
theorem dp_b {g : Nat → Nat → Int} {r s : Nat} {B : Int} (hr : dp_ g r r ≤ B) (hs : dp_ g s s ≤ B) : (dp_ g r s).natAbs ≤ B.natAbs := by
  have m : ∀ x y : Int, 2 * (x * y) ≤ x * x + y * y ∧ -(x * x + y * y) ≤ 2 * (x * y) := by
    intro x y
    have h1 := sq_n (x - y)
    have h2 := sq_n (x + y)
    have e1 : (x - y) * (x - y) = x * x + y * y - 2 * (x * y) := by grind
    have e2 : (x + y) * (x + y) = x * x + y * y + 2 * (x * y) := by grind
    omega
  have m0 := m (g r 0) (g s 0)
  have m1 := m (g r 1) (g s 1)
  have m2 := m (g r 2) (g s 2)
  unfold dp_ at *
  omega
theorem dp_0 (g : Nat → Nat → Int) (r : Nat) : 0 ≤ dp_ g r r := by
  unfold dp_
  have := sq_n (g r 0)
  have := sq_n (g r 1)
  have := sq_n (g r 2)
  omega
/-- nearest whole number of a / b -/
theorem nr_in {a b : Int} (hb : 0 < b) : -b ≤ 2 * a - 2 * b * (2 * a + b).fdiv (2 * b) ∧ 2 * a - 2 * b * (2 * a + b).fdiv (2 * b) < b := by
  have h1 := fm_pos (a := 2 * a + b) (b := 2 * b) (by omega)
  have h2 := fm_lt (a := 2 * a + b) (b := 2 * b) (by omega)
  rw [Int.mul_comm ((2 * a + b).fdiv (2 * b)) (2 * b)] at h1 h2
  generalize 2 * b * (2 * a + b).fdiv (2 * b) = u at *
  omega
/-- a row less q times another -/
theorem dp_sub (g : Nat → Nat → Int) {r s : Nat} (q : Int) (h : s ≠ r) : dp_ (sb_ g r q s 3) r r = dp_ g r r - 2 * (q * dp_ g r s) + q * q * dp_ g s s := by
  unfold dp_ sb_
  rw [if_pos (by omega), if_pos (by omega), if_pos (by omega)]
  grind
theorem dp_id (o b a q : Int) : o * (b - 2 * (q * a) + q * q * o) = (o * b - a * a) + (a - q * o) * (a - q * o) := by grind
/-- the shortened row's length -/
theorem dp_4 {o b a q : Int} (ho : 0 < o) (h1 : -o ≤ 2 * a - 2 * o * q) (h2 : 2 * a - 2 * o * q < o) : 4 * (o * (b - 2 * (q * a) + q * q * o)) ≤ o * o + 4 * (o * b - a * a) := by
  rw [dp_id]
  have e : 2 * (a - q * o) = 2 * a - 2 * o * q := by grind
  have k : (2 * (a - q * o)) * (2 * (a - q * o)) ≤ o * o := by
    rw [e]
    generalize 2 * a - 2 * o * q = w at *
    have n1 : w.natAbs ≤ o.natAbs := by omega
    have n2 : w.natAbs * w.natAbs ≤ o.natAbs * o.natAbs := Nat.mul_le_mul n1 n1
    rw [sq_abs w, sq_abs o]
    exact Int.ofNat_le.mpr n2
  have k2 : (2 * (a - q * o)) * (2 * (a - q * o)) = 4 * ((a - q * o) * (a - q * o)) := by grind
  omega
theorem dp_le {o b a q : Int} (ho : 0 < o) (h1 : -o ≤ 2 * a - 2 * o * q) (h2 : 2 * a - 2 * o * q < o) : 4 * (b - 2 * (q * a) + q * q * o) ≤ 4 * b + o := by
  have k := dp_4 (b := b) ho h1 h2
  have sq := sq_n a
  have k2 : o * (4 * (b - 2 * (q * a) + q * q * o)) ≤ o * (4 * b + o) := by
    have e1 : o * (4 * (b - 2 * (q * a) + q * q * o)) = 4 * (o * (b - 2 * (q * a) + q * q * o)) := by grind
    have e2 : o * (4 * b + o) = o * o + 4 * (o * b) := by grind
    omega
  exact Int.le_of_mul_le_mul_left k2 ho
/-- what a pair's turn gives -/
def rr2_ (g : Nat → Nat → Int) (r s : Nat) (g' : Nat → Nat → Int) : Prop := ∃ q : Int, g' = sb_ g r q s 3 ∧ dp_ g' r r ≤ dp_ g r r ∧ (0 < dp_ g s s → 4 * (dp_ g s s * dp_ g' r r) ≤ dp_ g s s * dp_ g s s + 4 * (dp_ g s s * dp_ g r r - dp_ g r s * dp_ g r s))
section
variable {fc fr fk fs fh fl fb : Int32} {aR aW aS aO aQ aD aE : Nat → Int32} {g : Nat → Nat → Int}
theorem xr_dot {post : Int32 → Prop} {r s : Nat} (hr : r < 3) (hs : s < 3) (hp : post (zi_v (dp_ g r s))) : wpX_dot post (fc, fr, fk, fs, fh, fl, fb, aR, aW, aS, aO, aQ, aD, mE g) (nI r) (nI s) := by
  have st : ∀ (n k : Nat) (x : Int), k < 3 → wX_dot_5 post (nI r) (nI s) fc fr fk fs fh fl fb aR aW aS aO aQ aD (mE g) n (zi_v (x + g r k * g s k)) (nI (k + 1)) → wX_dot_5 post (nI r) (nI s) fc fr fk fs fh fl fb aR aW aS aO aQ aD (mE g) (n + 1) (zi_v x) (nI k) := by
    intro n k x hk h
    refine br_f (nI_ge (a := k) (b := 3) (by omega) (by omega)) ⟨zn_in (by omega) (by omega), zn_in (by omega) (by omega), ?_⟩
    rw [mE_ix g hk (by omega), mE_ix g hk (by omega), zi_mul, zi_add]
    exact nm_e (nm_r (nI_1 k) h)
  refine ⟨4, st 3 0 0 (by omega) (st 2 1 _ (by omega) (st 1 2 _ (by omega) (br_t (by decide) ?_)))⟩
  have : 0 + g r 0 * g s 0 + g r 1 * g s 1 + g r 2 * g s 2 = dp_ g r s := by unfold dp_; omega
  rw [this]; exact hp
theorem xr_125 {post : Int32 → SX → Prop} {r s : Nat} {q : Int} (hr : r < 3) (hs : s < 3) (hp : post 0 (fc, fr, fk, fs, fh, fl, fb, aR, aW, aS, aO, aQ, aD, mE (sb_ g r (-q) s 3))) : ∀ d k : Nat, k + d = 3 → wX_reducePair_125 post (nI r) (nI s) (zi_v q) fc fr fk fs fh fl fb (d + 1) (nI k) aR aW aS aO aQ aD (mE (sb_ g r (-q) s k)) := by
  intro d
  induction d with
  | zero =>
    intro k hk
    have : k = 3 := by omega
    subst this
    exact br_t (by decide) hp
  | succ d ih =>
    intro k hk
    refine br_f (nI_ge (a := k) (b := 3) (by omega) (by omega)) ⟨zn_in (by omega) (by omega), zn_in (by omega) (by omega), zn_in (by omega) (by omega), ?_⟩
    rw [mE_ix _ (show k < 3 by omega) (by omega), mE_ix _ (show k < 3 by omega) (by omega), sb_at, sb_at, zi_mul, zi_add]
    refine nm_r (mE_updx _ (by omega) (by omega) _) (nm_r (nI_1 k) ?_)
    have e : g r k + q * g s k = g r k - -q * g s k := by rw [Int.neg_mul]; omega
    rw [e, sb_s]
    exact ih (k + 1) (by omega)
theorem xr_58 {post : Int32 → SX → Prop} {r s : Nat} {q : Int} {x6 : Int32} (hr : r < 3) (hs : s < 3) (hp : wpX_dot (fun r_65 => (r_65 < x6 → post 1 (fc, fr, fk, fs, fh, fl, fb, aR, aW, aS, aO, aQ, aD, mE (sb_ g r q s 3))) ∧ (¬ r_65 < x6 → ∃ n125 : Nat, wX_reducePair_125 post (nI r) (nI s) (zi_v q) fc fr fk fs fh fl fb n125 0 aR aW aS aO aQ aD (mE (sb_ g r q s 3)))) (fc, fr, fk, fs, fh, fl, fb, aR, aW, aS, aO, aQ, aD, mE (sb_ g r q s 3)) (nI r) (nI r)) : ∀ d k : Nat, k + d = 3 → wX_reducePair_58 post (nI r) (nI s) (zi_v q) x6 fc fr fk fs fh fl fb (d + 1) (nI k) aR aW aS aO aQ aD (mE (sb_ g r q s k)) := by
  intro d
  induction d with
  | zero =>
    intro k hk
    have : k = 3 := by omega
    subst this
    exact br_t (by decide) hp
  | succ d ih =>
    intro k hk
    refine br_f (nI_ge (a := k) (b := 3) (by omega) (by omega)) ⟨zn_in (by omega) (by omega), zn_in (by omega) (by omega), zn_in (by omega) (by omega), ?_⟩
    rw [mE_ix _ (show k < 3 by omega) (by omega), mE_ix _ (show k < 3 by omega) (by omega), sb_at, sb_at, zi_mul, zi_sub]
    refine nm_r (mE_updx _ (by omega) (by omega) _) (nm_r (nI_1 k) ?_)
    rw [sb_s]
    exact ih (k + 1) (by omega)
theorem sb_z (g : Nat → Nat → Int) (r s : Nat) : sb_ g r 0 s 3 = g := by
  funext i j; unfold sb_
  by_cases h : i = r ∧ j < 3
  · rw [if_pos h, h.1]; omega
  · rw [if_neg h]
theorem sb_b (g : Nat → Nat → Int) {r s : Nat} (q : Int) (h : s ≠ r) : sb_ (sb_ g r q s 3) r (-q) s 3 = g := by
  funext i j
  by_cases k : i = r ∧ j < 3
  · obtain ⟨k1, k2⟩ := k
    subst k1
    have e1 : sb_ (sb_ g i q s 3) i (-q) s 3 i j = sb_ g i q s 3 i j - -q * sb_ g i q s 3 s j := by
      show (if i = i ∧ j < 3 then _ else _) = _
      rw [if_pos ⟨rfl, k2⟩]
    have e2 : sb_ g i q s 3 i j = g i j - q * g s j := by
      show (if i = i ∧ j < 3 then _ else _) = _
      rw [if_pos ⟨rfl, k2⟩]
    have e3 : sb_ g i q s 3 s j = g s j := by
      show (if s = i ∧ j < 3 then _ else _) = _
      rw [if_neg (fun z => h z.1)]
    rw [e1, e2, e3, Int.neg_mul]; omega
  · have e1 : ∀ (w : Nat → Nat → Int) (p : Int), sb_ w r p s 3 i j = w i j := by
      intro w p
      show (if i = r ∧ j < 3 then _ else _) = _
      rw [if_neg k]
    rw [e1, e1]
/-- one pair -/
theorem xr_pair {post : Int32 → SX → Prop} {r s t : Nat} (hr : r < 3) (hs : s < 3) (ht : t ≤ 3) (hB : ∀ i, i < 3 → dp_ g i i ≤ 100000000) (h0 : (r = s ∨ t ≤ r ∨ t ≤ s) → post 0 (fc, fr, fk, nI t, fh, fl, fb, aR, aW, aS, aO, aQ, aD, mE g)) (h1 : r ≠ s → r < t → s < t → ∀ x g', (x = 0 ∨ x = 1) → rr2_ g r s g' → post x (fc, fr, fk, nI t, fh, fl, fb, aR, aW, aS, aO, aQ, aD, mE g')) : wpX_reducePair post (fc, fr, fk, nI t, fh, fl, fb, aR, aW, aS, aO, aQ, aD, mE g) (nI r) (nI s) := by
  refine zn_eq (by omega) (by omega) (fun q => h0 (Or.inl q)) (fun q1 => zn_le (by omega) (by omega) (fun q => h0 (Or.inr (Or.inl q))) (fun q2 => zn_lt (by omega) (by omega) (fun q3 => ?_) (fun q => h0 (Or.inr (Or.inr q)))))
  have bR : ∀ i j, i < 3 → j < 3 → (dp_ g i j).natAbs ≤ 100000000 := fun i j a b => dp_b (hB i a) (hB j b)
  have b1 := bR r s hr hs
  have b2 := bR s s hs hs
  have b3 := bR r r hr hr
  refine xr_dot hr hs ?_
  refine xr_dot hs hs ?_
  unfold wpX_nearest
  have e2 : (2 : Int32) = zi_v 2 := by decide
  rw [e2, zi_mul, zi_mul, zi_add]
  refine xf_div (zi_Rabs (by omega)) (zi_Rabs (by omega)) ?_
  refine xr_dot hr hr ?_
  have go := h1 q1 q2 q3
  have own := dp_0 g s
  generalize hq : (2 * dp_ g r s + dp_ g s s).fdiv (2 * dp_ g s s) = q
  have d1 := dp_sub g (r := r) (s := s) q (fun z => q1 z.symm)
  -- the length afterwards
  have facts : 4 * dp_ (sb_ g r q s 3) r r ≤ 4 * dp_ g r r + dp_ g s s ∧ (0 < dp_ g s s → 4 * (dp_ g s s * dp_ (sb_ g r q s 3) r r) ≤ dp_ g s s * dp_ g s s + 4 * (dp_ g s s * dp_ g r r - dp_ g r s * dp_ g r s)) := by
    by_cases po : 0 < dp_ g s s
    · have n := nr_in (a := dp_ g r s) po
      rw [hq] at n
      rw [d1]
      exact ⟨dp_le po n.1 n.2, fun _ => dp_4 po n.1 n.2⟩
    · have z : dp_ g s s = 0 := by omega
      have qz : q = 0 := by rw [← hq, z]; simp
      rw [qz, sb_z]
      exact ⟨by omega, fun k => absurd k po⟩
  have after0 := dp_0 (sb_ g r q s 3) r
  have m58 := xr_58 (post := post) (g := g) (r := r) (s := s) (q := q) (x6 := zi_v (dp_ g r r)) (fc := fc) (fr := fr) (fk := fk) (fs := nI t) (fh := fh) (fl := fl) (fb := fb) (aR := aR) (aW := aW) (aS := aS) (aO := aO) (aQ := aQ) (aD := aD) hr hs ?_ 3 0 (by omega)
  · rw [sb_0] at m58
    exact ⟨_, m58⟩
  · have f1 := facts.1
    refine xr_dot hr hr ?_
    refine zb_lt (zi_Rabs (by omega)) (zi_Rabs (by omega)) (fun k => go 1 _ (Or.inr rfl) ⟨q, rfl, by omega, facts.2⟩) (fun k => ?_)
    have m125 := xr_125 (post := post) (g := sb_ g r q s 3) (r := r) (s := s) (q := q) (fc := fc) (fr := fr) (fk := fk) (fs := nI t) (fh := fh) (fl := fl) (fb := fb) (aR := aR) (aW := aW) (aS := aS) (aO := aO) (aQ := aQ) (aD := aD) hr hs ?_ 3 0 (by omega)
    · rw [sb_0] at m125
      exact ⟨_, m125⟩
    · rw [sb_b g q (fun z => q1 z.symm)]
      refine go 0 g (Or.inl rfl) ⟨0, (sb_z g r s).symm, Int.le_refl _, fun po => ?_⟩
      have f2 := facts.2 po
      have : dp_ g s s * dp_ g r r ≤ dp_ g s s * dp_ (sb_ g r q s 3) r r := Int.mul_le_mul_of_nonneg_left k (by omega)
      omega
end
end
section
/-! the class: rounds of pairs -/
theorem lq_sb {g : Nat → Nat → Int} {r s : Nat} (q : Int) (hr : r < 3) (hs : s < 3) (hrs : s ≠ r) (x y z : Int) : lq_ (sb_ g r q s 3) x y z ↔ lq_ g x y z := by
  have k := sp_mul (Q := fun i => i < 3) (v := g) (v' := fun i j => if i = r then g r j - q * g s j else g i j) (f := s) hs (fun j => by rw [if_neg hrs]) (fun i hi => by
    by_cases z : i = r
    · exact ⟨q, fun j => by rw [if_pos z, z]⟩
    · exact ⟨0, fun j => by rw [if_neg z]; omega⟩) x y z
  refine Iff.trans (sp_c (Q := fun i => i < 3) (Q' := fun i => i < 3) (fun _ => Iff.rfl) (fun i hi j hj => ?_) x y z) k
  unfold sb_
  by_cases z : i = r
  · rw [if_pos ⟨z, hj⟩, if_pos z]
  · rw [if_neg (fun k => z k.1), if_neg z]
theorem dp_o {g : Nat → Nat → Int} {r s i : Nat} (q : Int) (h : i ≠ r) : dp_ (sb_ g r q s 3) i i = dp_ g i i := by
  unfold dp_ sb_
  rw [if_neg (fun k => h k.1), if_neg (fun k => h k.1), if_neg (fun k => h k.1)]
theorem dp_c {g h : Nat → Nat → Int} (e : ∀ i j, i < 3 → j < 3 → g i j = h i j) {r s : Nat} (hr : r < 3) (hs : s < 3) : dp_ g r s = dp_ h r s := by
  unfold dp_
  rw [e r 0 hr (by omega), e r 1 hr (by omega), e r 2 hr (by omega), e s 0 hs (by omega), e s 1 hs (by omega), e s 2 hs (by omega)]
/-- kept by all pairs -/
def ib_ (G : Int → Int → Int → Prop) (h g : Nat → Nat → Int) : Prop := (∀ x y z, lq_ g x y z ↔ G x y z) ∧ ∀ i, i < 3 → dp_ g i i ≤ dp_ h i i
/-- gained by the first -/
def ic_ (t : Nat) (h g : Nat → Nat → Int) : Prop := 2 ≤ t → 0 < dp_ h 1 1 → 4 * (dp_ h 1 1 * dp_ g 0 0) ≤ dp_ h 1 1 * dp_ h 1 1 + 4 * (dp_ h 1 1 * dp_ h 0 0 - dp_ h 0 1 * dp_ h 0 1)
theorem ib_s {G : Int → Int → Int → Prop} {h g g' : Nat → Nat → Int} {r s : Nat} (hr : r < 3) (hs : s < 3) (hrs : r ≠ s) (hi : ib_ G h g) (hg : rr2_ g r s g') : ib_ G h g' ∧ dp_ g' 0 0 ≤ dp_ g 0 0 := by
  obtain ⟨q, rfl, h1, h2⟩ := hg
  have le : ∀ i, dp_ (sb_ g r q s 3) i i ≤ dp_ g i i := by
    intro i
    by_cases z : i = r
    · subst z; exact h1
    · rw [dp_o q z]; exact Int.le_refl _
  exact ⟨⟨fun x y z => (lq_sb q hr hs (fun k => hrs k.symm) x y z).trans (hi.1 x y z), fun i i3 => Int.le_trans (le i) (hi.2 i i3)⟩, le 0⟩
theorem ic_s {t : Nat} {h g g' : Nat → Nat → Int} (hc : ic_ t h g) (hle : dp_ g' 0 0 ≤ dp_ g 0 0) : ic_ t h g' := by
  intro h1 h2
  have k := hc h1 h2
  have := Int.mul_le_mul_of_nonneg_left hle (Int.le_of_lt h2)
  omega
section
variable {fc fr fk fs fh fl fb : Int32} {aR aW aS aO aQ aD aE : Nat → Int32} {post : SX → Prop} {t : Nat}
theorem xr_45 {J30 : Int32 → Int32 → Int32 → Int32 → Int32 → Int32 → Int32 → Int32 → Int32 → (Nat → Int32) → (Nat → Int32) → (Nat → Int32) → (Nat → Int32) → (Nat → Int32) → (Nat → Int32) → (Nat → Int32) → Prop} {n : Nat} (J : Nat → (Nat → Nat → Int) → Prop) (ht : t ≤ 3) (hB : ∀ k g, J k g → ∀ i, i < 3 → dp_ g i i ≤ 100000000) (hskip : ∀ k g, k < 9 → (k / 3 = k % 3 ∨ t ≤ k / 3 ∨ t ≤ k % 3) → J k g → J (k + 1) g) (hstep : ∀ k g g', k < 9 → k / 3 ≠ k % 3 → k / 3 < t → k % 3 < t → J k g → rr2_ g (k / 3) (k % 3) g' → J (k + 1) g') (hp : ∀ x g', (x = 0 ∨ x = 1) → J 9 g' → J30 x (nI (n + 1)) fc fr fk (nI t) fh fl fb aR aW aS aO aQ aD (mE g')) : ∀ d k : Nat, ∀ (x : Int32) (g : Nat → Nat → Int), k + d = 9 → (x = 0 ∨ x = 1) → J k g → wX_reduce_45 post J30 (nI n) (d + 1) x (nI k) fc fr fk (nI t) fh fl fb aR aW aS aO aQ aD (mE g) := by
  intro d
  induction d with
  | zero =>
    intro k x g hk hx hg
    have : k = 9 := by omega
    subst this
    exact br_t (by decide) (nm_r (nI_1 n) (hp x g hx hg))
  | succ d ih =>
    intro k x g hk hx hg
    have e1 : nI k / 3 = nI (k / 3) := zn_div (a := k) (b := 3) (by omega) (by omega)
    have e2 : nI k - nI k / 3 * 3 = nI (k % 3) := zn_rem (a := k) (b := 3) (by omega) (by omega)
    refine br_f (nI_ge (a := k) (b := 9) (by omega) (by omega)) ⟨by decide, by decide, ?_⟩
    rw [e2, e1]
    have nx : ∀ (y : Int32) (g' : Nat → Nat → Int), (y = 0 ∨ y = 1) → J (k + 1) g' → (x = 0 → (y = 0 → ∀ x3 : Int32, x3 = nI k + 1 → wX_reduce_45 post J30 (nI n) (d + 1) 0 x3 fc fr fk (nI t) fh fl fb aR aW aS aO aQ aD (mE g')) ∧ (¬ y = 0 → ∀ x3 : Int32, x3 = nI k + 1 → wX_reduce_45 post J30 (nI n) (d + 1) 1 x3 fc fr fk (nI t) fh fl fb aR aW aS aO aQ aD (mE g'))) ∧ (¬ x = 0 → ∀ x3 : Int32, x3 = nI k + 1 → wX_reduce_45 post J30 (nI n) (d + 1) 1 x3 fc fr fk (nI t) fh fl fb aR aW aS aO aQ aD (mE g')) := by
      intro y g' _ hg'
      refine br_c (fun _ => br_c (fun _ => nm_r (nI_1 k) (ih (k + 1) 0 g' (by omega) (Or.inl rfl) hg')) (fun _ => nm_r (nI_1 k) (ih (k + 1) 1 g' (by omega) (Or.inr rfl) hg'))) (fun _ => nm_r (nI_1 k) (ih (k + 1) 1 g' (by omega) (Or.inr rfl) hg'))
    exact xr_pair (by omega) (by omega) ht (hB k g hg) (fun q => nx 0 g (Or.inl rfl) (hskip k g (by omega) q hg)) (fun q1 q2 q3 y g' hy hr => nx y g' hy (hstep k g g' (by omega) q1 q2 q3 hg hr))
theorem xr_30 (Q : (Nat → Nat → Int) → Prop) (ht : t ≤ 3) (hB : ∀ g, Q g → ∀ i, i < 3 → dp_ g i i ≤ 100000000) (hstep : ∀ r s g g', r < 3 → s < 3 → r ≠ s → Q g → rr2_ g r s g' → Q g') (hp : ∀ g, Q g → post (fc, fr, fk, nI t, fh, fl, fb, aR, aW, aS, aO, aQ, aD, mE g)) : ∀ m k : Nat, ∀ (x : Int32) (g : Nat → Nat → Int), k + m = 200 → Q g → wX_reduce_30 post (m + 1) x (nI k) fc fr fk (nI t) fh fl fb aR aW aS aO aQ aD (mE g) := by
  intro m
  induction m with
  | zero =>
    intro k x g hk hg
    have : k = 200 := by omega
    subst this
    exact br_t (by decide) (hp g hg)
  | succ m ih =>
    intro k x g hk hg
    refine br_f (nI_ge (a := k) (b := 200) (by omega) (by omega)) (br_c (fun _ => hp g hg) (fun _ => ?_))
    exact ⟨_, xr_45 (J := fun _ g => Q g) ht (fun _ g hg => hB g hg) (fun _ _ _ _ hg => hg) (fun k g g' hk q1 _ _ hg hr => hstep _ _ g g' (by omega) (by omega) q1 hg hr) (fun x g' _ hg' => ih (k + 1) x g' (by omega) hg') 9 0 0 g (by omega) (Or.inl rfl) hg⟩
theorem xr_2 (hp : ∃ n, wX_reduce_30 post n 1 0 fc fr fk fs fh fl fb aR aW aS aO aQ aD (cs9_ aS aE 9)) : ∀ d k : Nat, k + d = 9 → wX_reduce_2 post fc fr fk fs fh fl fb (d + 1) (nI k) aR aW aS aO aQ aD (cs9_ aS aE k) := by
  intro d
  induction d with
  | zero =>
    intro k hk
    have : k = 9 := by omega
    subst this
    exact br_t (by decide) hp
  | succ d ih =>
    intro k hk
    have ec : (nI k).toNatClampNeg = k := nI_clamp (by omega)
    refine br_f (nI_ge (a := k) (b := 9) (by omega) (by omega)) ⟨vp_in_nI (by omega) (by omega), vp_in_nI (by omega) (by omega), ?_⟩
    rw [ec]
    exact nm_r (cs9_s aS aE k) (nm_r (nI_1 k) (ih (k + 1) (by omega)))
/-- all of reduce -/
theorem xr_reduce {h : Nat → Nat → Int} {G : Int → Int → Int → Prop} (ht : t ≤ 3) (hG : ∀ x y z, lq_ h x y z ↔ G x y z) (hB : ∀ i, i < 3 → dp_ h i i ≤ 100000000) (hp : ∀ g, ib_ G h g → ic_ t h g → post (fc, fr, fk, nI t, fh, fl, fb, aR, aW, mE h, aO, aQ, aD, mE g)) : wpX_reduce post (fc, fr, fk, nI t, fh, fl, fb, aR, aW, mE h, aO, aQ, aD, aE) := by
  obtain ⟨g0, e0, h0⟩ := cs9_e h aE
  have i0 : ib_ G h g0 := by
    refine ⟨fun x y z => ?_, fun i hi => by rw [dp_c h0 hi hi]; exact Int.le_refl _⟩
    rw [← hG]
    exact sp_c (Q := fun i => i < 3) (Q' := fun i => i < 3) (fun _ => Iff.rfl) (fun i hi j hj => h0 i j hi hj) x y z
  have bd : ∀ g, ib_ G h g → ∀ i, i < 3 → dp_ g i i ≤ 100000000 := fun g hg i hi => Int.le_trans (hg.2 i hi) (hB i hi)
  have m30 : ∃ n, wX_reduce_30 post n 1 0 fc fr fk (nI t) fh fl fb aR aW (mE h) aO aQ aD (mE g0) := by
    refine ⟨201, br_f (by decide) (br_f (by decide) ?_)⟩
    refine ⟨_, xr_45 (n := 0) (J := fun k g => ib_ G h g ∧ (k ≤ 1 → ∀ i j, i < 3 → j < 3 → g i j = h i j) ∧ (2 ≤ k → ic_ t h g)) ht (fun k g hg => bd g hg.1) (fun k g hk hs hg => ?_) (fun k g g' hk q1 q2 q3 hg hr => ?_) (fun x g' _ hg' => ?_) 9 0 0 g0 (by omega) (Or.inl rfl) ⟨i0, fun _ => h0, fun k => absurd k (by omega)⟩⟩
    · refine ⟨hg.1, fun k1 => hg.2.1 (by omega), fun k2 => ?_⟩
      by_cases z : 2 ≤ k
      · exact hg.2.2 z
      · have : k = 1 := by omega
        subst this
        intro t2 _
        omega
    · have s := ib_s (by omega) (by omega) q1 hg.1 hr
      refine ⟨s.1, fun k1 => ?_, fun k2 => ?_⟩
      · have : k = 0 := by omega
        subst this
        omega
      · by_cases z : 2 ≤ k
        · exact ic_s (hg.2.2 z) s.2
        · have : k = 1 := by omega
          subst this
          have eh := hg.2.1 (by omega)
          obtain ⟨q, rfl, _, r3⟩ := hr
          intro t2 pos
          have e11 : dp_ g 1 1 = dp_ h 1 1 := dp_c eh (by omega) (by omega)
          have e00 : dp_ g 0 0 = dp_ h 0 0 := dp_c eh (by omega) (by omega)
          have e01 : dp_ g 0 1 = dp_ h 0 1 := dp_c eh (by omega) (by omega)
          have r3' : 0 < dp_ g 1 1 → 4 * (dp_ g 1 1 * dp_ (sb_ g 0 q 1 3) 0 0) ≤ dp_ g 1 1 * dp_ g 1 1 + 4 * (dp_ g 1 1 * dp_ g 0 0 - dp_ g 0 1 * dp_ g 0 1) := r3
          rw [e11, e00, e01] at r3'
          exact r3' pos
    · refine xr_30 (Q := fun g => ib_ G h g ∧ ic_ t h g) ht (fun g hg => bd g hg.1) (fun r s g g'' h1 h2 h3 hg hr => ?_) (fun g hg => hp g hg.1 hg.2) 199 1 x g' (by omega) ⟨hg'.1, hg'.2.2 (by omega)⟩
      have s' := ib_s h1 h2 h3 hg.1 hr
      exact ⟨s'.1, ic_s hg.2 s'.2⟩
  rw [← e0] at m30
  have m2 := xr_2 (post := post) (fc := fc) (fr := fr) (fk := fk) (fs := nI t) (fh := fh) (fl := fl) (fb := fb) (aR := aR) (aW := aW) (aS := mE h) (aO := aO) (aQ := aQ) (aD := aD) (aE := aE) m30 9 0 (by omega)
  have ez : cs9_ (mE h) aE 0 = aE := by funext i; unfold cs9_; rw [if_neg (by omega)]
  rw [ez] at m2
  exact ⟨_, m2⟩
end
end
section
/-! the class: the radius, the search in all -/
theorem sa_row {t : Nat} {so : Nat → Int} {h : Nat → Nat → Int} {a b c d e f : Int} (hs : sa_ t so h a b c d e f) : (0 < a → 0 < t ∧ h 0 0 = a ∧ h 0 1 = b ∧ h 0 2 = c) ∧ (0 < d → ∃ s, s < t ∧ h s 0 = 0 ∧ h s 1 = d ∧ h s 2 = e ∧ (0 < a → s = 1)) ∧ (0 < f → ∃ s, s < t ∧ h s 0 = 0 ∧ h s 1 = 0 ∧ h s 2 = f) ∧ t = (if a = 0 then 0 else 1) + (if d = 0 then 0 else 1) + (if f = 0 then 0 else 1) := by
  obtain ⟨t1, t2, g0, g1, g2⟩ := hs
  have c0 : (a = 0 ∧ t1 = 0) ∨ (0 < a ∧ t1 = 1) := by
    rcases g0 with ⟨p, q, _⟩ | ⟨p, q, _⟩
    · exact Or.inl ⟨p, q⟩
    · exact Or.inr ⟨p, q⟩
  have c1 : (d = 0 ∧ t2 = t1) ∨ (0 < d ∧ t2 = t1 + 1) := by
    rcases g1 with ⟨p, q, _⟩ | ⟨p, q, _⟩
    · exact Or.inl ⟨p, q⟩
    · exact Or.inr ⟨p, q⟩
  have c2 : (f = 0 ∧ t = t2) ∨ (0 < f ∧ t = t2 + 1) := by
    rcases g2 with ⟨p, q, _⟩ | ⟨p, q, _⟩
    · exact Or.inl ⟨p, q⟩
    · exact Or.inr ⟨p, q⟩
  refine ⟨fun pa => ?_, fun pd => ?_, fun pf => ?_, ?_⟩
  · rcases g0 with ⟨p, _⟩ | ⟨_, q, _, k0, k1, k2⟩
    · omega
    · exact ⟨by omega, k0, k1, k2⟩
  · rcases g1 with ⟨p, _⟩ | ⟨_, q, _, k0, k1, k2⟩
    · omega
    · exact ⟨t1, by omega, k0, k1, k2, by omega⟩
  · rcases g2 with ⟨p, _⟩ | ⟨_, q, _, k0, k1, k2⟩
    · omega
    · exact ⟨t2, by omega, k0, k1, k2⟩
  · have ea : (if a = 0 then 0 else 1 : Nat) = t1 := by
      rcases c0 with ⟨p, q⟩ | ⟨p, q⟩
      · rw [if_pos p, q]
      · rw [if_neg (by omega), q]
    have ed : t1 + (if d = 0 then 0 else 1 : Nat) = t2 := by
      rcases c1 with ⟨p, q⟩ | ⟨p, q⟩
      · rw [if_pos p, q]; rfl
      · rw [if_neg (by omega), q]
    have ef : t2 + (if f = 0 then 0 else 1 : Nat) = t := by
      rcases c2 with ⟨p, q⟩ | ⟨p, q⟩
      · rw [if_pos p, q]; rfl
      · rw [if_neg (by omega), q]
    rw [ea, ed, ef]
theorem R_le {R B : Nat} (h : R * R < (B + 1) * (B + 1)) : R ≤ B := by
  apply Classical.byContradiction
  intro z
  have : (B + 1) * (B + 1) ≤ R * R := Nat.mul_le_mul (by omega) (by omega)
  omega
theorem sq_le {x : Int} {B : Nat} (h : x.natAbs ≤ B) : x * x ≤ (B * B : Nat) := by
  rw [sq_abs]
  exact Int.ofNat_le.mpr (Nat.mul_le_mul h h)
/-- the radius of a grid of two rows with stairs in the first two columns -/
theorem r_140 {own G0 D : Int} {R : Nat} (h1 : (R * R : Nat) ≤ own) (h2 : (R * R : Nat) ≤ G0) (ho : own ≤ 52488) (hD : D ≤ 78732) (h : 4 * (own * G0) ≤ own * own + 4 * D) (hR : R ≤ 300) : R ≤ 140 := by
  apply Classical.byContradiction
  intro z
  have k1 : 141 * 141 ≤ R * R := Nat.mul_le_mul (by omega) (by omega)
  have k2 : (19881 : Int) ≤ own := by omega
  have k3 : (19881 : Int) ≤ G0 := by omega
  have k4 : own * 19881 ≤ own * G0 := Int.mul_le_mul_of_nonneg_left k3 (by omega)
  have k5 : own * own ≤ own * 52488 := Int.mul_le_mul_of_nonneg_left ho (by omega)
  omega
theorem kb_of {Q : Nat → Prop} {W : Nat → Nat → Int} {t R : Nat} {so : Nat → Int} {h g : Nat → Nat → Int} {a b c d e f b0 : Int} (hn : hn_ a b c d e f) (hW : sm_ Q W) (hL : ∀ x y z, sp_L Q W x y z ↔ hl_ a b c d e f x y z) (hs : sa_ t so h a b c d e f) (ht : t ≤ 3) (hib : ib_ (hl_ a b c d e f) h g) (hic : ic_ t h g) (hR2 : (R * R : Nat) ≤ b0) (hb : ∀ r, r < t → b0 ≤ dp_ g r r) (hR : R ≤ 300) : kb_ a b c d e f R := by
  obtain ⟨ra, rd, rf, tt⟩ := sa_row hs
  obtain ⟨na, nd, nf, n0, n1, n2, n3⟩ := id hn
  have RR : ∀ s, s < t → (R * R : Nat) ≤ dp_ h s s := fun s s1 => Int.le_trans hR2 (Int.le_trans (hb s s1) (hib.2 s (by omega)))
  -- one row
  have one : a * d = 0 → a * f = 0 → d * f = 0 → (a ≠ 0 ∨ d ≠ 0) → R ≤ 15 ∧ b.natAbs ≤ 9 ∧ c.natAbs ≤ 9 ∧ e.natAbs ≤ 9 := by
    intro h1 h2 h3 hne
    obtain ⟨l1, l2, l3, l4, l5, l6⟩ := hb_1 hn h1 h2 h3 hW hL
    refine ⟨?_, l2, l3, l5⟩
    apply R_le
    have s1 := sq_le l1
    have s2 := sq_le l2
    have s3 := sq_le l3
    have s4 := sq_le l4
    have s5 := sq_le l5
    by_cases za : a = 0
    · obtain ⟨s, s1', k0, k1, k2, _⟩ := rd (by omega)
      have k := RR s s1'
      unfold dp_ at k
      rw [k0, k1, k2] at k
      omega
    · obtain ⟨s1', k0, k1, k2⟩ := ra (by omega)
      have k := RR 0 s1'
      unfold dp_ at k
      rw [k0, k1, k2] at k
      omega
  rintro x y z ⟨i, j, k, rfl, rfl, rfl⟩ hx hy
  refine ⟨?_, fun zf => ?_⟩
  · by_cases zd : d = 0
    · rw [zd, Int.mul_zero, Int.add_zero]
      by_cases za : a = 0
      · rw [(n0 za).1]; simp
      · have hi := ab_i za hx
        by_cases zf : f = 0
        · obtain ⟨o1, o2, _, _⟩ := one (by rw [zd]; simp) (by rw [zf]; simp) (by rw [zf]; simp) (Or.inl za)
          have := ab_m (Nat.le_trans hi o1) o2
          omega
        · have h0 : a * d * f = 0 := by rw [zd]; simp
          have hbf := (hb_2 hn h0 hW hL).2.2.2.2.1
          obtain ⟨s, s1, k0, k1, k2⟩ := rf (by omega)
          have kk := RR s s1
          unfold dp_ at kk
          rw [k0, k1, k2] at kk
          have : R ≤ f.natAbs := by
            apply Classical.byContradiction
            intro zz
            have q := Nat.mul_le_mul (show f.natAbs + 1 ≤ R by omega) (show f.natAbs + 1 ≤ R by omega)
            have q2 := sq_abs f
            have q3 : (f.natAbs + 1) * (f.natAbs + 1) = f.natAbs * f.natAbs + 2 * f.natAbs + 1 := by grind
            omega
          have m : (i * b).natAbs ≤ f.natAbs * b.natAbs := ab_m (Nat.le_trans hi this) (Nat.le_refl _)
          rw [Int.natAbs_mul, Nat.mul_comm] at hbf
          omega
    · exact Nat.le_trans (hy zd) hR
  · subst zf
    rw [Int.mul_zero, Int.add_zero]
    by_cases zd : d = 0
    · rw [n1 zd, Int.mul_zero, Int.add_zero]
      by_cases za : a = 0
      · rw [(n0 za).2]; simp
      · obtain ⟨o1, _, o3, _⟩ := one (by rw [zd]; simp) (by simp) (by simp) (Or.inl za)
        have := ab_m (Nat.le_trans (ab_i za hx) o1) o3
        omega
    · have hyd := hy zd
      by_cases za : a = 0
      · obtain ⟨zb, zc⟩ := n0 za
        rw [zb, Int.mul_zero, Int.zero_add] at hyd
        rw [zc, Int.mul_zero, Int.zero_add]
        obtain ⟨o1, _, _, o4⟩ := one (by rw [za]; simp) (by simp) (by simp) (Or.inr zd)
        have := ab_m (Nat.le_trans (ab_i zd hyd) o1) o4
        omega
      · have h0 : a * d * 0 = 0 := by simp
        obtain ⟨u1, u2, u3, _⟩ := hb_2 hn h0 hW hL
        obtain ⟨v1, v2, v3, v4, v5, v6⟩ := hb_r2 hn h0 hW hL
        obtain ⟨ta, a0, a1, a2⟩ := ra (by omega)
        obtain ⟨s, s1, d0, d1, d2, s2⟩ := rd (by omega)
        have s2 := s2 (by omega)
        subst s2
        have R140 : R ≤ 140 := by
          have own : dp_ h 1 1 = d * d + e * e := by unfold dp_; rw [d0, d1, d2]; omega
          have x1 := sq_le v4
          have x2 := sq_le v5
          have pos : 0 < dp_ h 1 1 := by
            rw [own]
            have p1 := sq_abs d
            have p2 : 1 * 1 ≤ d.natAbs * d.natAbs := Nat.mul_le_mul (by omega) (by omega)
            have p3 := sq_n e
            omega
          have hD : dp_ h 1 1 * dp_ h 0 0 - dp_ h 0 1 * dp_ h 0 1 ≤ 78732 := by
            have e1 : dp_ h 1 1 * dp_ h 0 0 - dp_ h 0 1 * dp_ h 0 1 = (a * d) * (a * d) + (a * e) * (a * e) + (b * e - c * d) * (b * e - c * d) := by
              unfold dp_; rw [d0, d1, d2, a0, a1, a2]; grind
            rw [e1]
            have y1 := sq_le u1
            have y2 := sq_le u2
            have y3 := sq_le u3
            omega
          exact r_140 (Int.le_trans hR2 (Int.le_trans (hb 1 s1) (hib.2 1 (by omega)))) (Int.le_trans hR2 (hb 0 ta)) (by rw [own]; omega) hD (hic (by omega) pos) hR
        have pl : (a * d) * (i * c + j * e) = (i * b + j * d) * (a * e) - (i * a) * (b * e - c * d) := by grind
        have m1 := ab_m (Nat.le_trans hyd R140) u2
        have m2 := ab_m (Nat.le_trans hx R140) u3
        have m3 : ((a * d) * (i * c + j * e)).natAbs ≤ 45360 := by
          rw [pl]
          generalize (i * b + j * d) * (a * e) = p at *
          generalize (i * a) * (b * e - c * d) = r at *
          omega
        exact ab_mul (B := 45360) (by intro q; exact (Int.mul_eq_zero.mp q).elim za zd) m3
/-- the shorter rows aren't empty -/
theorem pos_r {t : Nat} {so : Nat → Int} {h g : Nat → Nat → Int} {a b c d e f : Int} (hn : hn_ a b c d e f) (hs : sa_ t so h a b c d e f) (ht : t ≤ 3) (hz : ∀ i j, t ≤ i → i < 3 → j < 3 → h i j = 0) (hib : ib_ (hl_ a b c d e f) h g) : ∀ r, r < t → 0 < dp_ g r r := by
  have z3 : ∀ i, dp_ g i i ≤ 0 → g i 0 = 0 ∧ g i 1 = 0 ∧ g i 2 = 0 := by
    intro i hi
    unfold dp_ at hi
    have m : ∀ x : Int, x * x ≤ 0 → x = 0 := by
      intro x hx
      have := sq_n x
      rcases Int.mul_eq_zero.mp (show x * x = 0 by omega) with q | q <;> exact q
    have := sq_n (g i 0)
    have := sq_n (g i 1)
    have := sq_n (g i 2)
    exact ⟨m _ (by omega), m _ (by omega), m _ (by omega)⟩
  have zr : ∀ i, t ≤ i → i < 3 → g i 0 = 0 ∧ g i 1 = 0 ∧ g i 2 = 0 := by
    intro i a1 a2
    apply z3
    have := hib.2 i a2
    have e0 : dp_ h i i = 0 := by unfold dp_; rw [hz i 0 a1 a2 (by omega), hz i 1 a1 a2 (by omega), hz i 2 a1 a2 (by omega)]; simp
    omega
  obtain ⟨_, _, _, tt⟩ := sa_row hs
  intro r hr
  apply Classical.byContradiction
  intro q
  obtain ⟨r0, r1, r2⟩ := z3 r (by omega)
  have : t = 1 ∨ t = 2 ∨ t = 3 := by omega
  rcases this with h1 | h2 | h3
  · have all : ∀ i, i < 3 → g i 0 = 0 ∧ g i 1 = 0 ∧ g i 2 = 0 := by
      intro i hi
      by_cases zz : i = r
      · subst zz; exact ⟨r0, r1, r2⟩
      · exact zr i (by omega) hi
    have dd : d1_ (lq_ g) 0 := by
      unfold lq_; rw [sp_d1]
      intro i hi
      obtain ⟨k0, k1, k2⟩ := all i hi
      rw [k0, k1, k2]; simp
    obtain ⟨k1, k2, k3, k4, k5, k6⟩ := hl_d1.mp ((d1_c hib.1).mp dd)
    rw [if_pos (Int.zero_dvd.mp k1), if_pos (Int.zero_dvd.mp k4), if_pos (Int.zero_dvd.mp k6)] at tt
    omega
  · have all : ∀ i, i < 3 → i ≠ 1 - r → g i 0 = 0 ∧ g i 1 = 0 ∧ g i 2 = 0 := by
      intro i hi hne
      by_cases zz : i = r
      · subst zz; exact ⟨r0, r1, r2⟩
      · exact zr i (by omega) hi
    have dd : d2_ (lq_ g) 0 := by
      unfold lq_; rw [sp_d2]
      intro i j hi hj
      unfold m1_ m2_ m3_
      by_cases y1 : i = 1 - r
      · by_cases y2 : j = 1 - r
        · rw [y1, y2]
          refine ⟨⟨0, ?_⟩, ⟨0, ?_⟩, ⟨0, ?_⟩⟩
          · rw [Int.mul_comm]; omega
          · rw [Int.mul_comm]; omega
          · rw [Int.mul_comm]; omega
        · obtain ⟨k0, k1, k2⟩ := all j hj y2
          rw [k0, k1, k2]; simp
      · obtain ⟨k0, k1, k2⟩ := all i hi y1
        rw [k0, k1, k2]; simp
    obtain ⟨k1, k2, k3, k4, k5, k6⟩ := hl_d2.mp ((d2_c hib.1).mp dd)
    have k1 := Int.zero_dvd.mp k1
    have k4 := Int.zero_dvd.mp k4
    have k6 := Int.zero_dvd.mp k6
    by_cases za : a = 0
    · by_cases zd : d = 0
      · rw [if_pos za, if_pos zd] at tt; split at tt <;> omega
      · have zf := (Int.mul_eq_zero.mp k6).resolve_left zd
        rw [if_pos za, if_neg zd, if_pos zf] at tt; omega
    · have zd := (Int.mul_eq_zero.mp k1).resolve_left za
      have zf := (Int.mul_eq_zero.mp k4).resolve_left za
      rw [if_neg za, if_pos zd, if_pos zf] at tt; omega
  · have dd : d3_ (lq_ g) 0 := by
      rw [lq_d3]
      have : r = 0 ∨ r = 1 ∨ r = 2 := by omega
      unfold dz_ dt_
      rcases this with rfl | rfl | rfl <;> rw [r0, r1, r2] <;> exact ⟨0, by grind⟩
    have k := Int.zero_dvd.mp (hl_d3.mp ((d3_c hib.1).mp dd))
    rcases Int.mul_eq_zero.mp k with k | k
    · rcases Int.mul_eq_zero.mp k with k | k
      · rw [if_pos k] at tt; split at tt <;> split at tt <;> omega
      · rw [if_pos k] at tt; split at tt <;> split at tt <;> omega
    · rw [if_pos k] at tt; split at tt <;> split at tt <;> omega
end
section
section
variable {fc fr fk fs fh fl fb : Int32} {aR aW aS aO aQ aD aE : Nat → Int32} {post : SX → Prop}
theorem xv_20 {g : Nat → Nat → Int} {t : Nat} (ht : t ≤ 3) (hB : ∀ i, i < 3 → dp_ g i i ≤ 100000000) (hp : ∀ b0 : Int, (∃ r, r < t ∧ b0 = dp_ g r r) → (∀ r, r < t → b0 ≤ dp_ g r r) → wpX_rootOf (fun r_47 => (0 ≤ aO 0 → vp_in (3 * aO 0) 9 ∧ wX_searchShortest_101 post r_47 (aS (3 * aO 0).toNatClampNeg) fc fr fk (nI t) fh (zi_v b0) 0 aR aW aS aO aQ aD (mE g)) ∧ (¬ 0 ≤ aO 0 → wX_searchShortest_101 post r_47 1 fc fr fk (nI t) fh (zi_v b0) 0 aR aW aS aO aQ aD (mE g))) (fc, fr, fk, nI t, fh, zi_v b0, 0, aR, aW, aS, aO, aQ, aD, mE g) (zi_v b0)) : ∀ m k : Nat, ∀ b0 : Int, k + m = t → (∃ r, r < k ∧ b0 = dp_ g r r) → (∀ r, r < k → b0 ≤ dp_ g r r) → wX_searchShortest_20 post fc fr fk (nI t) fh fb aR aW aS aO aQ aD (mE g) (m + 1) (nI k) (zi_v b0) := by
  have bR : ∀ i, i < 3 → zi_R (dp_ g i i) := fun i hi => by
    have := hB i hi
    have := dp_0 g i
    exact ⟨by omega, by omega⟩
  intro m
  induction m with
  | zero =>
    intro k b0 hk h1 h2
    have : k = t := by omega
    subst this
    exact br_t (nI_le (by omega) (by omega)) (hp b0 h1 h2)
  | succ m ih =>
    intro k b0 hk h1 h2
    refine br_f (nI_ge (by omega) (by omega)) ?_
    refine xr_dot (by omega) (by omega) ?_
    obtain ⟨r, r1, r2⟩ := h1
    have hb0 : zi_R b0 := by rw [r2]; exact bR r (by omega)
    refine zb_le hb0 (bR k (by omega)) (fun q => nm_r (nI_1 k) (ih (k + 1) b0 (by omega) ⟨r, by omega, r2⟩ (fun r' hr' => ?_))) (fun q => nm_r (nI_1 k) (ih (k + 1) _ (by omega) ⟨k, by omega, rfl⟩ (fun r' hr' => ?_)))
    · by_cases z : r' = k
      · subst z; exact q
      · exact h2 r' (by omega)
    · by_cases z : r' = k
      · subst z; exact Int.le_refl _
      · have := h2 r' (by omega); omega
theorem xv_search {N : Nat} {W : Nat → Nat → Int} {a b c d e f : Int} (hW : sm_ (fun i => i < N) W) (hn : hn_ a b c d e f) (hL : ∀ x y z, sp_L (fun i => i < N) W x y z ↔ hl_ a b c d e f x y z) (hs : xs_ fs aS aO a b c d e f) (ht0 : fs ≠ 0)
    (hp : ∀ (bX b0 : Int) (cX R : Nat) aE', os_ b0 0 (nt_ a b c d e f R) bX cX → (∃ x y z, hl_ a b c d e f x y z ∧ ln_ x y z = b0) → (b0 < ((R + 1) * (R + 1) : Nat) ∨ R = 300) → post (nI N, 1, fk, fs, fh, zi_v bX, nI cX, mE W, aW, aS, aO, aQ, aD, aE')) : wpX_searchShortest post (nI N, 1, fk, fs, fh, fl, fb, mE W, aW, aS, aO, aQ, aD, aE) := by
  have hB := hB_of hn hW hL
  have hs' := hs
  obtain ⟨t, so, h, e1, e2, e3, hsa, ht, hz⟩ := hs'
  obtain ⟨hh, hlq⟩ := hs_of hn hW hL hsa ht hz
  have t0 : 0 < t := by
    rcases Nat.eq_zero_or_pos t with z | z
    · subst z; exact absurd e1 ht0
    · exact z
  subst e1; subst e3; subst e2
  have hb0 : ∀ i, i < 3 → dp_ h i i ≤ 100000000 := by
    intro i hi
    have s0 := sq_le (hh.1 i 0 hi (by omega))
    have s1 := sq_le (hh.1 i 1 hi (by omega))
    have s2 := sq_le (hh.1 i 2 hi (by omega))
    unfold dp_
    omega
  unfold wpX_searchShortest
  refine br_f (by decide) ?_
  refine xr_reduce ht hlq hb0 (fun g hib hic => ?_)
  have pos := pos_r hn hsa ht hz hib
  have hBg : ∀ i, i < 3 → dp_ g i i ≤ 100000000 := fun i hi => Int.le_trans (hib.2 i hi) (hb0 i hi)
  refine xr_dot (r := 0) (s := 0) (by omega) (by omega) ?_
  refine ⟨_, xv_20 ht hBg (fun b0 hr hmin => ?_) (t - 1) 1 (dp_ g 0 0) (by omega) ⟨0, by omega, rfl⟩ (fun r' hr' => ?_)⟩
  · obtain ⟨r, r1, r2⟩ := hr
    have p0 : 0 < b0 := by rw [r2]; exact pos r r1
    have hbR : zi_R b0 := by
      have := hBg r (by omega)
      exact ⟨by omega, by omega⟩
    have hbP : ∃ x y z, hl_ a b c d e f x y z ∧ ln_ x y z = b0 := by
      refine ⟨g r 0, g r 1, g r 2, (hib.1 _ _ _).mp (sp_row (Q := fun i => i < 3) (w := g) (show r < 3 by omega)), ?_⟩
      rw [r2]; rfl
    refine xp_root (by omega) hbR (fun R hR1 hR2 hR3 => ?_)
    have hK := kb_of hn hW hL hsa ht hib hic hR2 hmin hR1
    have fin : ∀ z0 : Int32, (a ≠ 0 → z0 = zi_v a) → wX_searchShortest_101 post (nI R) z0 (nI N) 1 fk (nI t) fh (zi_v b0) 0 (mE W) aW (mE h) (vE so) aQ aD (mE g) := fun z0 hz0 => xp_101 (F := 0) hn hB hs hR1 hK hz0 p0 hbR (fun L' F' ho => hp L' b0 F' R (mE g) ho hbP hR3)
    rcases sa_so hsa ht (k := 0) (by omega) with ⟨q1, q2⟩ | ⟨q1, s, s3, q2, q3, _, _⟩
    · have za : a = 0 := q1
      refine br_f (by show ¬ 0 ≤ zi_v (so 0); rw [q2]; decide) (fin 1 (fun z => absurd za z))
    · have e0 : vE so 0 = nI s := by show zi_v (so 0) = nI s; rw [q2, zi_n]
      have e4 : h s 0 = a := q3
      rw [e0]
      refine br_t (nI_pos' (by omega)) ⟨zn_in0 (by omega) (by omega), ?_⟩
      rw [mE_ix0 h (by omega), e4]
      exact fin _ (fun _ => rfl)
  · have : r' = 0 := by omega
    subst this; exact Int.le_refl _
end
end
section
/-! the reference: its search's walk -/
def ep_ (p : Int) : Int32 := if p = 0 then -1000000 else zi_v p
theorem nn_R : zi_R (-1000000) := ⟨by decide, by decide⟩
section
variable {gc gf gl : Int32} {aC : Nat → Int32} {post : Int32 → Prop}
theorem yi_on {v s p : Int} (hv : v.natAbs ≤ 500000000) (hs : s.natAbs ≤ 500000000) (hp : 0 ≤ p) (hpb : p.natAbs ≤ 2916) (h1 : p ∣ v - s → post 1) (h0 : ¬ p ∣ v - s → post 0) : wpY_isOn post (gc, gf, gl, aC) (zi_v v) (zi_v s) (ep_ p) := by
  have go : ∀ gap : Int, gap.natAbs ≤ 1000000000 → (p ∣ gap ↔ p ∣ v - s) → wY_isOn_14 post (ep_ p) (zi_v gap) gc gf gl aC := by
    intro gap hg e
    have gR : zi_R gap := zi_Rabs (by omega)
    unfold ep_
    by_cases z : p = 0
    · rw [if_pos z]
      refine br_t rfl (zc_eq gap 0 rfl rfl gR zi_R0 (fun q => h1 (e.mp ?_)) (fun q => h0 (fun k => q ?_)))
      · rw [q]; exact ⟨0, by simp⟩
      · have k := e.mpr k
        rw [z] at k; exact Int.zero_dvd.mp k
    · rw [if_neg z]
      have pR : zi_R p := zi_Rabs (by omega)
      refine br_f (fun q => ?_) ⟨fun q => z ((zi_eq pR zi_R0).mp q), ?_⟩
      · have q' : zi_v p = zi_v (-1000000) := q
        have := (zi_eq pR nn_R).mp q'
        omega
      · rw [zi_rem gR pR]
        exact zc_eq _ 0 rfl rfl (zi_Rtm gR) zi_R0 (fun q => h1 (e.mp (Int.dvd_of_tmod_eq_zero q))) (fun q => h0 (fun k => q (Int.tmod_eq_zero_of_dvd (e.mpr k))))
  refine zb_le (zi_Rabs (by omega)) (zi_Rabs (by omega)) (fun q => ?_) (fun q => ?_)
  · rw [zi_sub]; exact go _ (by omega) Iff.rfl
  · rw [zi_sub]
    refine go _ (by omega) ?_
    have : s - v = -(v - s) := by omega
    rw [this, Int.dvd_neg]
end
section
variable {gc : Int32} {aC : Nat → Int32} {post : SY → Prop}
theorem yn_4 {x y s f : Int} (hx : x.natAbs ≤ 16) (hy : y.natAbs ≤ 16) (hs : s.natAbs ≤ 500000000) (hf : 0 ≤ f) (hfb : f.natAbs ≤ 2916) : ∀ (n : Nat) (z : Int), -16 ≤ z → 17 - z = n → ∀ (L : Int) (F : Nat), 0 < L → zi_R L → (∀ L' F', os_ L F (fun l => cz_ n (fun k => cb_ (f ∣ z + k - s ∧ ln_ x y (z + k) = l))) L' F' → post (gc, nI F', zi_v L', aC)) → wY_noteLine_4 post (zi_v x) (zi_v y) (zi_v s) (ep_ f) gc aC (n + 1) (zi_v z) (nI F) (zi_v L) := by
  intro n
  induction n with
  | zero =>
    intro z hz hn L F hL hLR hp
    refine br_t ?_ (hp L F (os_0 hL))
    have : z = 17 := by omega
    subst this; decide
  | succ n ih =>
    intro z hz hn L F hL hLR hp
    have e : zi_v x * zi_v x + zi_v y * zi_v y + zi_v z * zi_v z = zi_v (ln_ x y z) := by rw [zi_mul, zi_mul, zi_mul, zi_add, zi_add]; rfl
    have mR : zi_R (ln_ x y z) := ln_R (by omega) (by omega) (by omega)
    have nx : ∀ L1 F1, os_ L F (fun l => cb_ (f ∣ z - s ∧ ln_ x y z = l)) L1 F1 → wY_noteLine_4 post (zi_v x) (zi_v y) (zi_v s) (ep_ f) gc aC (n + 1) (zi_v (z + 1)) (nI F1) (zi_v L1) := by
      intro L1 F1 h1
      refine ih (z + 1) (by omega) (by omega) L1 F1 h1.1 (h_zl hLR h1.1 h1.2.1) (fun L' F' h2 => hp L' F' (os_c (os_add h1 h2) (fun l _ _ => ?_)))
      rw [cz_fr]
      have e1 : z + ((0 : Nat) : Int) = z := by omega
      rw [e1]
      congr 1
      refine cz_c (fun i _ => ?_)
      have e2 : z + 1 + (i : Int) = z + ((i + 1 : Nat) : Int) := by omega
      rw [e2]
    generalize ln_ x y z = m at *
    have none : (∀ l, 0 < l → l ≤ L → ¬ (f ∣ z - s ∧ m = l)) → os_ L F (fun l => cb_ (f ∣ z - s ∧ m = l)) L F := by
      intro h
      refine ⟨hL, Int.le_refl _, fun l l0 ll => cb_f (h l l0 (by omega)), Or.inl ⟨rfl, ?_⟩⟩
      show F = F + cb_ (f ∣ z - s ∧ m = L)
      rw [cb_f (h L hL (Int.le_refl _)), Nat.add_zero]
    refine br_f (fun q => ?_) (nm_r e ?_)
    · have q' : zi_v 16 < zi_v z := q
      have := (zi_lt ⟨by decide, by decide⟩ (zi_Rabs (by omega))).mp q'
      omega
    refine zc_le m 0 rfl rfl mR zi_R0 (fun q => nm_r (zi_add z 1) (nx L F (none (fun l l0 _ k => by have := k.2; omega)))) (fun q => ?_)
    refine zb_lt hLR mR (fun q' => nm_r (zi_add z 1) (nx L F (none (fun l _ ll k => by have := k.2; omega)))) (fun q' => ?_)
    refine yi_on (by omega) hs hf hfb (fun on => br_f (by decide) ?_) (fun on => br_t rfl (nm_r (zi_add z 1) (nx L F (none (fun l _ _ k => on k.1)))))
    refine zb_le hLR mR (fun q3 => nm_r (nI_1 F) (nm_r (zi_add z 1) (nx m (F + 1) ?_))) (fun q3 => nm_r (zi_add z 1) (nx m 1 ?_))
    · have em : m = L := by omega
      refine ⟨by omega, by omega, fun l l0 ll => cb_f (fun k => by have := k.2; omega), Or.inl ⟨em, ?_⟩⟩
      show F + 1 = F + cb_ (f ∣ z - s ∧ m = m)
      rw [cb_t ⟨on, rfl⟩]
    · refine ⟨by omega, by omega, fun l l0 ll => cb_f (fun k => by have := k.2; omega), Or.inr ⟨q3, ?_, ?_⟩⟩
      · show 0 < cb_ (f ∣ z - s ∧ m = m)
        rw [cb_t ⟨on, rfl⟩]; decide
      · show 1 = cb_ (f ∣ z - s ∧ m = m)
        rw [cb_t ⟨on, rfl⟩]
theorem yn_line {x y s f L : Int} {F : Nat} (hx : x.natAbs ≤ 16) (hy : y.natAbs ≤ 16) (hs : s.natAbs ≤ 500000000) (hf : 0 ≤ f) (hfb : f.natAbs ≤ 2916) (hL : 0 < L) (hLR : zi_R L) (hp : ∀ L' F', os_ L F (fun l => sZ_ 16 (fun Z => cb_ (f ∣ Z - s ∧ ln_ x y Z = l))) L' F' → post (gc, nI F', zi_v L', aC)) : wpY_noteLine post (gc, nI F, zi_v L, aC) (zi_v x) (zi_v y) (zi_v s) (ep_ f) :=
  ⟨_, yn_4 hx hy hs hf hfb 33 (-16) (by omega) (by omega) L F hL hLR hp⟩
/-- the loop over places -/
theorem yn_184 {a b c d e f : Int} (hn : hn_ a b c d e f) (hB : hB_ a b c d e f) : ∀ (n k : Nat), k + n = 1089 → ∀ (L : Int) (F : Nat), 0 < L → zi_R L → (∀ L' F', os_ L F (fun l => cz_ n (fun i => sZ_ 16 (fun Z => cb_ (hl_ a b c d e f ((((k + i) / 33 : Nat) : Int) - 16) ((((k + i) % 33 : Nat) : Int) - 16) Z ∧ ln_ ((((k + i) / 33 : Nat) : Int) - 16) ((((k + i) % 33 : Nat) : Int) - 16) Z = l)))) L' F' → post (gc, nI F', zi_v L', aC)) → wY_findShortest_184 post (ep_ a) (ep_ d) (ep_ f) (zi_v b) (zi_v c) (zi_v e) (n + 1) (nI k) gc (nI F) (zi_v L) aC := by
  obtain ⟨b1, b2, b3, b4, b5, b6⟩ := hB
  intro n
  induction n with
  | zero =>
    intro k hk L F hL hLR hp
    have : k = 1089 := by omega
    subst this
    exact br_t (by decide) (hp L F (os_0 hL))
  | succ n ih =>
    intro k hk L F hL hLR hp
    have e33 : (33 : Int32) = nI 33 := rfl
    have e16 : (16 : Int32) = zi_v 16 := by decide
    have ex : nI k / 33 - 16 = zi_v (((k / 33 : Nat) : Int) - 16) := by rw [e33, zn_div (by omega) (by omega), e16, ← zi_n, zi_sub]
    have ey : nI k - nI k / 33 * 33 - 16 = zi_v (((k % 33 : Nat) : Int) - 16) := by rw [e33, zn_rem (by omega) (by omega), e16, ← zi_n, zi_sub]
    refine br_f (nI_ge (a := k) (b := 1089) (by omega) (by omega)) ⟨by decide, nm_r ex ⟨by decide, nm_r ey ?_⟩⟩
    have hx : (((k / 33 : Nat) : Int) - 16).natAbs ≤ 16 := by omega
    have hy : (((k % 33 : Nat) : Int) - 16).natAbs ≤ 16 := by omega
    have nx : ∀ L1 F1, os_ L F (fun l => sZ_ 16 (fun Z => cb_ (hl_ a b c d e f (((k / 33 : Nat) : Int) - 16) (((k % 33 : Nat) : Int) - 16) Z ∧ ln_ (((k / 33 : Nat) : Int) - 16) (((k % 33 : Nat) : Int) - 16) Z = l))) L1 F1 → wY_findShortest_184 post (ep_ a) (ep_ d) (ep_ f) (zi_v b) (zi_v c) (zi_v e) (n + 1) (nI (k + 1)) gc (nI F1) (zi_v L1) aC := by
      intro L1 F1 h1
      refine ih (k + 1) (by omega) L1 F1 h1.1 (h_zl hLR h1.1 h1.2.1) (fun L' F' h2 => hp L' F' (os_c (os_add h1 h2) (fun l _ _ => ?_)))
      rw [cz_fr]
      congr 1
      refine cz_c (fun i _ => ?_)
      have e2 : k + 1 + i = k + (i + 1) := by omega
      rw [e2]
    generalize hX : (((k / 33 : Nat) : Int) - 16) = X at *
    generalize hY : (((k % 33 : Nat) : Int) - 16) = Y at *
    have zero : (∀ Z, ¬ hl_ a b c d e f X Y Z) → os_ L F (fun l => sZ_ 16 (fun Z => cb_ (hl_ a b c d e f X Y Z ∧ ln_ X Y Z = l))) L F := by
      intro h
      have zz : ∀ l, sZ_ 16 (fun Z => cb_ (hl_ a b c d e f X Y Z ∧ ln_ X Y Z = l)) = 0 := fun l => cz_z (fun i _ => cb_f (fun k => h _ k.1))
      refine ⟨hL, Int.le_refl _, fun l _ _ => zz l, Or.inl ⟨rfl, ?_⟩⟩
      show F = F + sZ_ 16 (fun Z => cb_ (hl_ a b c d e f X Y Z ∧ ln_ X Y Z = L))
      rw [zz, Nat.add_zero]
    have q1b : (X / a).natAbs ≤ 16 := Nat.le_trans (Int.natAbs_ediv_le_natAbs X a) hx
    have ib := ab_m q1b b4
    have ic := ab_m q1b b5
    have q2b : ((Y - X / a * b) / d).natAbs ≤ 46656 := by
      refine Nat.le_trans (Int.natAbs_ediv_le_natAbs _ d) ?_
      generalize X / a * b = u at *
      omega
    have je := ab_m q2b b6
    have hsb : (X / a * c + (Y - X / a * b) / d * e).natAbs ≤ 500000000 := by
      generalize X / a * c = u at *
      generalize (Y - X / a * b) / d * e = v at *
      omega
    have s274 : a ∣ X → d ∣ Y - X / a * b → wY_findShortest_274 post (wY_findShortest_184 post (ep_ a) (ep_ d) (ep_ f) (zi_v b) (zi_v c) (zi_v e) (n + 1)) (ep_ a) (ep_ d) (ep_ f) (zi_v b) (zi_v c) (zi_v e) (nI k) (zi_v X) (zi_v Y) (zi_v (X / a)) (zi_v ((Y - X / a * b) / d)) gc (nI F) (zi_v L) aC := by
      intro h1 h2
      unfold wY_findShortest_274
      rw [zi_mul, zi_mul, zi_add]
      refine yn_line hx hy hsb hn.2.2.1 b3 hL hLR (fun L1 F1 h => nm_r (nI_1 k) (nx L1 F1 (os_c h (fun l _ _ => sZ_c (fun Z _ _ => cb_c ?_)))))
      rw [hl_dec hn]
      have e1 : Z - X / a * c - (Y - X / a * b) / d * e = Z - (X / a * c + (Y - X / a * b) / d * e) := by omega
      rw [e1]
      exact ⟨fun k => ⟨⟨h1, h2, k.1⟩, k.2⟩, fun k => ⟨k.1.2.2, k.2⟩⟩
    have s237 : a ∣ X → wY_findShortest_237 post (wY_findShortest_184 post (ep_ a) (ep_ d) (ep_ f) (zi_v b) (zi_v c) (zi_v e) (n + 1)) (ep_ a) (ep_ d) (ep_ f) (zi_v b) (zi_v c) (zi_v e) (nI k) (zi_v X) (zi_v Y) (zi_v (X / a)) gc (nI F) (zi_v L) aC := by
      intro h1
      unfold wY_findShortest_237
      rw [zi_mul]
      refine yi_on (by omega) (by omega) hn.2.1 b2 (fun h2 => br_f (by decide) ?_) (fun h2 => br_t rfl (nm_r (nI_1 k) (nx L F (zero (fun Z k => h2 ((hl_dec hn _ _ _).mp k).2.1)))))
      by_cases zd : d = 0
      · have e2 : ep_ d = -1000000 := by unfold ep_; rw [if_pos zd]
        have := s274 h1 h2
        have z2 : (Y - X / a * b) / d = 0 := by rw [zd]; simp
        rw [z2] at this
        exact br_t e2 this
      · have e2 : ep_ d = zi_v d := by unfold ep_; rw [if_neg zd]
        have dR : zi_R d := zi_Rabs (by omega)
        refine br_f (fun q => ?_) ⟨fun q => ?_, ?_⟩
        · rw [e2] at q
          have q' : zi_v d = zi_v (-1000000) := q
          have := (zi_eq dR nn_R).mp q'
          have := hn.2.1
          omega
        · rw [e2] at q
          exact zd ((zi_eq dR zi_R0).mp q)
        · have := s274 h1 h2
          have uR : zi_R (Y - X / a * b) := by
            generalize X / a * b = u at *
            exact zi_Rabs (by omega)
          have e3 : (zi_v Y - zi_v (X / a * b)) / ep_ d = zi_v ((Y - X / a * b) / d) := by
            rw [e2, zi_sub, zi_div uR dR, Int.tdiv_eq_ediv_of_dvd h2]
          rw [e3]; exact this
    have e0' : (0 : Int32) = zi_v 0 := by decide
    rw [e0']
    refine yi_on (s := 0) (by omega) (by decide) hn.1 b1 (fun h1 => br_f (by decide) ?_) (fun h1 => br_t (by decide) (nm_r (nI_1 k) (nx L F (zero (fun Z k => h1 (by rw [Int.sub_zero]; exact ((hl_dec hn _ _ _).mp k).1))))))
    rw [Int.sub_zero] at h1
    have := s237 h1
    by_cases za : a = 0
    · have e2 : ep_ a = -1000000 := by unfold ep_; rw [if_pos za]
      have z2 : X / a = 0 := by rw [za]; simp
      rw [z2] at this
      exact br_t e2 this
    · have e2 : ep_ a = zi_v a := by unfold ep_; rw [if_neg za]
      have aR : zi_R a := zi_Rabs (by omega)
      refine br_f (fun q => ?_) ⟨fun q => ?_, ?_⟩
      · rw [e2] at q
        have q' : zi_v a = zi_v (-1000000) := q
        have := (zi_eq aR nn_R).mp q'
        have := hn.1
        omega
      · rw [e2] at q
        exact za ((zi_eq aR zi_R0).mp q)
      · have e3 : zi_v X / ep_ a = zi_v (X / a) := by
          rw [e2, zi_div (zi_Rabs (by omega)) aR, Int.tdiv_eq_ediv_of_dvd h1]
        rw [e3]; exact this
end
end
section
theorem tb_16 (P : Int → Int → Int → Prop) (l : Int) : cz_ 1089 (fun i => sZ_ 16 (fun Z => cb_ (P ((((0 + i) / 33 : Nat) : Int) - 16) ((((0 + i) % 33 : Nat) : Int) - 16) Z ∧ ln_ ((((0 + i) / 33 : Nat) : Int) - 16) ((((0 + i) % 33 : Nat) : Int) - 16) Z = l))) = tb_ 16 P l := by
  have h := cz_mul (fun q z => sZ_ 16 (fun Z => cb_ (P ((q : Int) - 16) ((z : Int) - 16) Z ∧ ln_ ((q : Int) - 16) ((z : Int) - 16) Z = l))) (n := 33) (by omega) 33
  have e : cz_ 1089 (fun i => sZ_ 16 (fun Z => cb_ (P ((((0 + i) / 33 : Nat) : Int) - 16) ((((0 + i) % 33 : Nat) : Int) - 16) Z ∧ ln_ ((((0 + i) / 33 : Nat) : Int) - 16) ((((0 + i) % 33 : Nat) : Int) - 16) Z = l))) = cz_ (33 * 33) (fun k => (fun (q z : Nat) => sZ_ 16 (fun Z => cb_ (P ((q : Int) - 16) ((z : Int) - 16) Z ∧ ln_ ((q : Int) - 16) ((z : Int) - 16) Z = l))) (k / 33) (k % 33)) := by
    refine cz_c (fun i _ => ?_)
    rw [Nat.zero_add]
  rw [e, h]
  unfold tb_
  refine cz_c (fun i _ => ?_)
  refine cz_c (fun j _ => ?_)
  have e1 : (i : Int) - 16 = -((16 : Nat) : Int) + i := by omega
  have e2 : (j : Int) - 16 = -((16 : Nat) : Int) + j := by omega
  rw [e1, e2]
def lw1_ : Option Int → Int32
  | none => -1000000
  | some m => zi_v m
section
variable {N : Nat} {R C : Nat → Nat → Int} {a b c d e f : Int}
theorem ys_ep {gf gl : Int32} {post : Int32 → SY → Prop} {k : Nat} (hw : rw_ N R C) (hk : k < 3) (hn : hn_ a b c d e f) (hL : ∀ x y z, sp_L (fun i => i < N) R x y z ↔ hl_ a b c d e f x y z) (h : ∀ C', rw_ N R C' → post (ep_ (pv_ a d f k)) (nI N, gf, gl, mE C')) : wpY_step post (nI N, gf, gl, mE C) (nI k) := by
  refine ys_step hw hk hn hL (fun z C' hw' => ?_) (fun z C' hw' => ?_)
  · have := h C' hw'
    unfold ep_ at this; rw [if_pos z] at this; exact this
  · have := h C' hw'
    unfold ep_ at this; rw [if_neg z] at this; exact this
theorem ep_n {p : Int} (hp : 0 ≤ p) (hb : p.natAbs ≤ 2916) : ep_ p = -1000000 ↔ p = 0 := by
  unfold ep_
  by_cases z : p = 0
  · rw [if_pos z]; exact ⟨fun _ => z, fun _ => rfl⟩
  · rw [if_neg z]
    refine ⟨fun q => ?_, fun q => absurd q z⟩
    have q' : zi_v p = zi_v (-1000000) := q
    have := (zi_eq (zi_Rabs (by omega)) nn_R).mp q'
    omega
theorem yf_143 {post : SY → Prop} {m : Int} (hm : 0 < m) (hmR : zi_R m) (hw : rw_ N R C) (hn : hn_ a b c d e f) (hL : ∀ x y z, sp_L (fun i => i < N) R x y z ↔ hl_ a b c d e f x y z) (hp : ∀ bY cY C', rw_ N R C' → os_ m 0 (tb_ 16 (hl_ a b c d e f)) bY cY → post (nI N, nI cY, zi_v bY, mE C')) : wY_findShortest_143 post (ep_ a) (ep_ d) (ep_ f) (zi_v b) (nI N) 0 (zi_v m) (mE C) := by
  have hB := hB_of hn (rw_sm hw) hL
  obtain ⟨b1, b2, b3, b4, b5, b6⟩ := id hB
  have s184 : ∀ C', rw_ N R C' → ∃ n, wY_findShortest_184 post (ep_ a) (ep_ d) (ep_ f) (zi_v b) (zi_v c) (zi_v e) n 0 (nI N) 0 (zi_v m) (mE C') := by
    intro C' hw'
    refine ⟨_, yn_184 hn hB 1089 0 (by omega) m 0 hm hmR (fun L' F' h => hp L' F' C' hw' (os_c h (fun l _ _ => tb_16 _ l)))⟩
  have s161 : ∀ C', rw_ N R C' → wY_findShortest_161 post (ep_ a) (ep_ d) (ep_ f) (zi_v b) (zi_v c) (nI N) 0 (zi_v m) (mE C') := by
    intro C' hw'
    by_cases zd : d = 0
    · have ze := hn.2.2.2.2.1 zd
      have := s184 C' hw'
      rw [ze] at this
      exact br_t ((ep_n hn.2.1 b2).mpr zd) this
    · refine br_f (fun q => zd ((ep_n hn.2.1 b2).mp q)) ?_
      refine yc_corner (i := 1) (k := 2) (by omega) (by omega) hw' hn hL (fun z => absurd z zd) (fun _ C'' hw'' => s184 C'' hw'')
  by_cases za : a = 0
  · have := s161 C hw
    rw [(hn.2.2.2.1 za).2] at this
    exact br_t ((ep_n hn.1 b1).mpr za) this
  · refine br_f (fun q => za ((ep_n hn.1 b1).mp q)) ?_
    exact yc_corner (i := 0) (k := 2) (by omega) (by omega) hw hn hL (fun z => absurd z za) (fun _ C'' hw'' => s161 C'' hw'')
/-- the least of the rows, then the search -/
theorem yf_8 {post : SY → Prop} {gf : Int32} (hw : rw_ N R C) (hn : hn_ a b c d e f) (hL : ∀ x y z, sp_L (fun i => i < N) R x y z ↔ hl_ a b c d e f x y z) (h0 : (∀ r, r < N → dp_ R r r = 0) → post (nI N, 0, -1000000, mE C)) (hp : ∀ m bY cY C', (∃ r, r < N ∧ m = dp_ R r r) → 0 < m → rw_ N R C' → os_ m 0 (tb_ 16 (hl_ a b c d e f)) bY cY → post (nI N, nI cY, zi_v bY, mE C')) : ∀ n k : Nat, ∀ o : Option Int, k + n = N → (match o with | none => ∀ r, r < k → dp_ R r r = 0 | some m => 0 < m ∧ ∃ r, r < k ∧ m = dp_ R r r) → wY_findShortest_8 post (nI N) gf (mE C) (n + 1) (nI k) (lw1_ o) := by
  have hN := hw.1
  have hB := hB_of hn (rw_sm hw) hL
  obtain ⟨b1, b2, b3, b4, b5, b6⟩ := id hB
  have db : ∀ r, r < N → 0 ≤ dp_ R r r ∧ dp_ R r r ≤ 243 := by
    intro r hr
    refine ⟨dp_0 R r, ?_⟩
    have s0 := sq_le (rw_C hw hr (j := 0) (by omega)).2
    have s1 := sq_le (rw_C hw hr (j := 1) (by omega)).2
    have s2 := sq_le (rw_C hw hr (j := 2) (by omega)).2
    unfold dp_; omega
  intro n
  induction n with
  | zero =>
    intro k o hk ho
    have : k = N := by omega
    subst this
    refine br_t (nI_le (by omega) (by omega)) ?_
    cases o with
    | none => exact br_t rfl (h0 ho)
    | some m =>
      obtain ⟨m0, r, r1, r2⟩ := ho
      have mb := db r r1
      have mR : zi_R m := ⟨by omega, by omega⟩
      have end_ : ∀ C', rw_ k R C' → (ep_ a = -1000000 → wY_findShortest_143 post (ep_ a) (ep_ d) (ep_ f) 0 (nI k) 0 (zi_v m) (mE C')) ∧ (¬ ep_ a = -1000000 → wpY_corner (fun r_19 u => match u with | (x1, x2, x3, x4) => wY_findShortest_143 post (ep_ a) (ep_ d) (ep_ f) r_19 x1 x2 x3 x4) (nI k, 0, zi_v m, mE C') 0 1) := by
        intro C' hw'
        have fin : ∀ C'', rw_ k R C'' → wY_findShortest_143 post (ep_ a) (ep_ d) (ep_ f) (zi_v b) (nI k) 0 (zi_v m) (mE C'') := fun C'' hw'' => yf_143 m0 mR hw'' hn hL (fun bY cY C3 hw3 ho => hp m bY cY C3 ⟨r, r1, r2⟩ m0 hw3 ho)
        refine ⟨fun q => ?_, fun q => ?_⟩
        · have za := (ep_n hn.1 b1).mp q
          have := fin C' hw'
          rw [(hn.2.2.2.1 za).1] at this
          exact this
        · refine yc_corner (i := 0) (k := 1) (by omega) (by omega) hw' hn hL (fun z => absurd ((ep_n hn.1 b1).mpr z) q) (fun _ C'' hw'' => fin C'' hw'')
      refine br_f (fun q => ?_) ?_
      · have q' : zi_v m = zi_v (-1000000) := q
        have := (zi_eq mR nn_R).mp q'
        omega
      · refine ys_ep (k := 0) hw (by omega) hn hL (fun C1 hw1 => ?_)
        refine ys_ep (k := 1) hw1 (by omega) hn hL (fun C2 hw2 => ?_)
        refine ys_ep (k := 2) hw2 (by omega) hn hL (fun C3 hw3 => ?_)
        exact end_ C3 hw3
  | succ n ih =>
    intro k o hk ho
    have kb := db k (by omega)
    have kR : zi_R (dp_ R k k) := ⟨by omega, by omega⟩
    refine br_f (nI_ge (by omega) (by omega)) ?_
    have st : ∀ (q j : Nat) (x : Int), j < 3 → wY_findShortest_20 post (wY_findShortest_8 post (nI N) gf (mE C) (n + 1)) (nI k) (nI N) gf (lw1_ o) (mE C) q (zi_v (x + R k j * R k j)) (nI (j + 1)) → wY_findShortest_20 post (wY_findShortest_8 post (nI N) gf (mE C) (n + 1)) (nI k) (nI N) gf (lw1_ o) (mE C) (q + 1) (zi_v x) (nI j) := by
      intro q j x hj h
      refine br_f (nI_ge (a := j) (b := 3) (by omega) (by omega)) ⟨zn_in (by omega) (by omega), zn_in (by omega) (by omega), ?_⟩
      rw [mE_ix C hj (by omega), (rw_C hw (i := k) (by omega) hj).1, zi_mul, zi_add]
      exact nm_e (nm_r (nI_1 j) h)
    refine ⟨4, st 3 0 0 (by omega) (st 2 1 _ (by omega) (st 1 2 _ (by omega) (br_t (by decide) ?_)))⟩
    have ed : 0 + R k 0 * R k 0 + R k 1 * R k 1 + R k 2 * R k 2 = dp_ R k k := by unfold dp_; omega
    rw [ed]
    refine zc_le _ 0 rfl rfl kR zi_R0 (fun q => nm_r (nI_1 k) (ih (k + 1) o (by omega) ?_)) (fun q => ?_)
    · cases o with
      | none =>
        intro r hr
        by_cases z : r = k
        · subst z; omega
        · exact ho r (by omega)
      | some m =>
        obtain ⟨m0, r, r1, r2⟩ := ho
        exact ⟨m0, r, by omega, r2⟩
    · have newS : wY_findShortest_8 post (nI N) gf (mE C) (n + 1) (nI (k + 1)) (zi_v (dp_ R k k)) := ih (k + 1) (some (dp_ R k k)) (by omega) ⟨q, k, by omega, rfl⟩
      cases o with
      | none => exact br_t rfl (nm_r (nI_1 k) newS)
      | some m =>
        obtain ⟨m0, r, r1, r2⟩ := ho
        have mb := db r (by omega)
        have mR : zi_R m := ⟨by omega, by omega⟩
        refine br_f (fun q => ?_) (zb_le mR kR (fun _ => nm_r (nI_1 k) (ih (k + 1) (some m) (by omega) ⟨m0, r, by omega, r2⟩)) (fun _ => nm_r (nI_1 k) newS))
        have q' : zi_v m = zi_v (-1000000) := q
        have := (zi_eq mR nn_R).mp q'
        omega
theorem yf_find {post : SY → Prop} {gf gl : Int32} (hw : rw_ N R C) (hn : hn_ a b c d e f) (hL : ∀ x y z, sp_L (fun i => i < N) R x y z ↔ hl_ a b c d e f x y z) (h0 : (∀ r, r < N → dp_ R r r = 0) → post (nI N, 0, -1000000, mE C)) (hp : ∀ m bY cY C', (∃ r, r < N ∧ m = dp_ R r r) → 0 < m → rw_ N R C' → os_ m 0 (tb_ 16 (hl_ a b c d e f)) bY cY → post (nI N, nI cY, zi_v bY, mE C')) : wpY_findShortest post (nI N, gf, gl, mE C) :=
  ⟨_, yf_8 hw hn hL h0 hp N 0 none (by omega) (fun r hr => absurd hr (by omega))⟩
end
/-- no rows but empty ones: no stairs -/
theorem zr_t {N t : Nat} {R : Nat → Nat → Int} {so : Nat → Int} {h : Nat → Nat → Int} {a b c d e f : Int} (hn : hn_ a b c d e f) (hL : ∀ x y z, sp_L (fun i => i < N) R x y z ↔ hl_ a b c d e f x y z) (hs : sa_ t so h a b c d e f) : (∀ r, r < N → dp_ R r r = 0) ↔ t = 0 := by
  obtain ⟨_, _, _, tt⟩ := sa_row hs
  have m : ∀ x : Int, x * x ≤ 0 → x = 0 := by
    intro x hx
    have := sq_n x
    rcases Int.mul_eq_zero.mp (show x * x = 0 by omega) with q | q <;> exact q
  constructor
  · intro h0
    have dd : d1_ (sp_L (fun i => i < N) R) 0 := by
      rw [sp_d1]
      intro i hi
      have k := h0 i hi
      unfold dp_ at k
      have := sq_n (R i 0)
      have := sq_n (R i 1)
      have := sq_n (R i 2)
      rw [m (R i 0) (by omega), m (R i 1) (by omega), m (R i 2) (by omega)]; simp
    obtain ⟨k1, k2, k3, k4, k5, k6⟩ := hl_d1.mp ((d1_c hL).mp dd)
    rw [if_pos (Int.zero_dvd.mp k1), if_pos (Int.zero_dvd.mp k4), if_pos (Int.zero_dvd.mp k6)] at tt
    omega
  · intro t0 r hr
    have za : a = 0 := by apply Classical.byContradiction; intro z; rw [if_neg z] at tt; omega
    have zd : d = 0 := by apply Classical.byContradiction; intro z; rw [if_neg z] at tt; omega
    have zf : f = 0 := by apply Classical.byContradiction; intro z; rw [if_neg z] at tt; omega
    have zb := hn.2.2.2.1 za
    have ze := hn.2.2.2.2.1 zd
    obtain ⟨i, j, k, e1, e2, e3⟩ := (hL _ _ _).mp (sp_row (Q := fun i => i < N) (w := R) hr)
    rw [za, Int.mul_zero] at e1
    rw [zb.1, zd, Int.mul_zero, Int.mul_zero] at e2
    rw [zb.2, ze, zf, Int.mul_zero, Int.mul_zero, Int.mul_zero] at e3
    unfold dp_
    rw [e1, e2, e3]; simp
end
section
section
variable {fc fr fk fs fh fl fb : Int32} {aR aW aS aO aQ aD aE : Nat → Int32} {N : Nat} {R C : Nat → Nat → Int} {a b c d e f : Int}
theorem sh_no {post : SY → Prop} {gf gl : Int32} (hw : rw_ N R C) (hn : hn_ a b c d e f) (hL : ∀ x y z, sp_L (fun i => i < N) R x y z ↔ hl_ a b c d e f x y z) (hs : xs_ fs aS aO a b c d e f) (z : fs = 0) (h : post (nI N, 0, -1000000, mE C)) : wpY_findShortest post (nI N, gf, gl, mE C) := by
  obtain ⟨t, so, g, et, eo, es, hsa, ht, hz⟩ := id hs
  have t0 : t = 0 := by
    have : ∀ t, t ≤ 3 → nI t = 0 → t = 0 := by decide
    exact this t ht (et ▸ z)
  refine yf_find hw hn hL (fun _ => h) (fun m bY cY C' hm m0 _ _ => ?_)
  obtain ⟨r, hr, e⟩ := hm
  have := (zr_t hn hL hsa).mpr t0 r hr
  omega
theorem sh_go {post : SX → SY → Prop} {gf gl : Int32} (hw : rw_ N R C) (hn : hn_ a b c d e f) (hL : ∀ x y z, sp_L (fun i => i < N) R x y z ↔ hl_ a b c d e f x y z) (hs : xs_ fs aS aO a b c d e f) (z : fs ≠ 0) (hp : ∀ (B : Int) (n : Nat) aE' C', 0 < B → B ≤ 243 → rw_ N R C' → post (nI N, 1, fk, fs, fh, zi_v B, nI n, mE R, aW, aS, aO, aQ, aD, aE') (nI N, nI n, zi_v B, mE C')) : wpX_searchShortest (fun u' => wpY_findShortest (fun v' => post u' v') (nI N, gf, gl, mE C)) (nI N, 1, fk, fs, fh, fl, fb, mE R, aW, aS, aO, aQ, aD, aE) := by
  obtain ⟨t, so, g, et, eo, es, hsa, ht, hz⟩ := id hs
  refine xv_search (rw_sm hw) hn hL hs z (fun bX b0 cX Rad aE' hos hb hRad => ?_)
  refine yf_find hw hn hL (fun h0 => ?_) (fun m bY cY C' hm m0 hw' hosY => ?_)
  · have t0 := (zr_t hn hL hsa).mp h0
    rw [t0] at et
    exact absurd et z
  · obtain ⟨r, hr, em⟩ := hm
    have s0 := sq_le (rw_C hw hr (j := 0) (by omega)).2
    have s1 := sq_le (rw_C hw hr (j := 1) (by omega)).2
    have s2 := sq_le (rw_C hw hr (j := 2) (by omega)).2
    have m243 : m ≤ 243 := by rw [em]; unfold dp_; omega
    obtain ⟨q1, q2⟩ := sh_eq hos (fun l _ hl => nt_eq hn hl) hosY ⟨R r 0, R r 1, R r 2, (hL _ _ _).mp (sp_row (Q := fun i => i < N) (w := R) hr), em.symm⟩ m243 hb hRad
    subst q1
    subst q2
    have k1 := hosY.1
    have k2 := hosY.2.1
    exact hp _ _ aE' C' k1 (by omega) hw'
end
theorem i_vc_shortest {k : Nat} {u : SX} {v : SY} (I : i_Rel k u v) (hk : k + 4 ≤ 2048) : wpX_shortest (fun r u' => wpY_shortest (fun r' v' => r' = r ∧ i_Rel (k + 4) u' v') v) u := by
  refine i_el (P := fun u v => wpX_shortest (fun r u' => wpY_shortest (fun r' v' => r' = r ∧ i_Rel (k + 4) u' v') v) u) ?_ I
  intro N R C fr fk fs fh fl fb aW aS aO aQ aD aE gf gl hw hl
  unfold wpX_shortest
  refine xb_b hw.1 (rw_sm hw) hl.1 (fun fk' fs' aW' aS' aO' a b c d e f hn hL hs => ?_)
  have rel : ∀ fl fb aE C' gf gl, rw_ N R C' → i_Rel (k + 4) (nI N, 1, fk', fs', fh, fl, fb, mE R, aW', aS', aO', aQ, aD, aE) (nI N, gf, gl, mE C') := fun fl fb aE C' gf gl hw' => ⟨N, R, C', rfl, rfl, rfl, rfl, hw', Or.inr ⟨rfl, a, b, c, d, e, f, hn, hL, hs⟩, hl.2⟩
  unfold wpY_shortest
  refine ⟨fun z => sh_no hw hn hL hs z ⟨rfl, rel _ _ _ _ _ _ hw⟩, fun z => ?_⟩
  exact sh_go (post := fun u' v' => match u' with | (fc, fr, fk, fs, fh, fl, fb, aR, aW, aS, aO, aQ, aD, aE) => match v' with | (gc, gf', gl', aC) => gl' = fl ∧ i_Rel (k + 4) (fc, fr, fk, fs, fh, fl, fb, aR, aW, aS, aO, aQ, aD, aE) (gc, gf', gl', aC)) hw hn hL hs z (fun B n aE' C' _ _ hw' => ⟨rfl, rel _ _ _ _ _ _ hw'⟩)
theorem i_vc_shortestPoints {k : Nat} {u : SX} {v : SY} (I : i_Rel k u v) (hk : k + 4 ≤ 2048) : wpX_shortestPoints (fun r u' => wpY_shortestPoints (fun r' v' => r' = r ∧ i_Rel (k + 4) u' v') v) u := by
  refine i_el (P := fun u v => wpX_shortestPoints (fun r u' => wpY_shortestPoints (fun r' v' => r' = r ∧ i_Rel (k + 4) u' v') v) u) ?_ I
  intro N R C fr fk fs fh fl fb aW aS aO aQ aD aE gf gl hw hl
  unfold wpX_shortestPoints
  refine xb_b hw.1 (rw_sm hw) hl.1 (fun fk' fs' aW' aS' aO' a b c d e f hn hL hs => ?_)
  have rel : ∀ fl fb aE C' gf gl, rw_ N R C' → i_Rel (k + 4) (nI N, 1, fk', fs', fh, fl, fb, mE R, aW', aS', aO', aQ, aD, aE) (nI N, gf, gl, mE C') := fun fl fb aE C' gf gl hw' => ⟨N, R, C', rfl, rfl, rfl, rfl, hw', Or.inr ⟨rfl, a, b, c, d, e, f, hn, hL, hs⟩, hl.2⟩
  unfold wpY_shortestPoints
  refine ⟨fun z => sh_no hw hn hL hs z (br_t rfl ⟨rfl, rel _ _ _ _ _ _ hw⟩), fun z => ?_⟩
  refine sh_go (post := fun u' v' => match u' with | (fc, fr, fk, fs, fh, fl, fb, aR, aW, aS, aO, aQ, aD, aE) => match v' with | (gc, gf', gl', aC) => (gl' = -1000000 → ((-1000000 : Int32) = fb ∧ i_Rel (k + 4) (fc, fr, fk, fs, fh, fl, fb, aR, aW, aS, aO, aQ, aD, aE) (gc, gf', gl', aC))) ∧ (¬ gl' = -1000000 → (gf' = fb ∧ i_Rel (k + 4) (fc, fr, fk, fs, fh, fl, fb, aR, aW, aS, aO, aQ, aD, aE) (gc, gf', gl', aC)))) hw hn hL hs z (fun B n aE' C' b0 b1 hw' => br_f (fun q => ?_) ⟨rfl, rel _ _ _ _ _ _ hw'⟩)
  have q' : zi_v B = zi_v (-1000000) := q
  have := (zi_eq ⟨by omega, by omega⟩ nn_R).mp q'
  omega
end
