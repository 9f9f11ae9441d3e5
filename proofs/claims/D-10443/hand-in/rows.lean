section
/-! pure geometry: segments below the points of a chain -/
theorem hu_pop1 {a s q n w N : Int} (ha : 0 < a) (hs : 0 ≤ s) (hN : 0 ≤ N) (e : q * s ≤ w * a) (ht : a * n - q * N ≤ 0) : n * s ≤ w * N := by
  have h1 : (a * n) * s ≤ (q * N) * s := Int.mul_le_mul_of_nonneg_right (by omega) hs
  have h2 : (q * s) * N ≤ (w * a) * N := Int.mul_le_mul_of_nonneg_right e hN
  have h3 : a * (n * s) ≤ a * (w * N) := by
    have e1 : a * (n * s) = (a * n) * s := by grind
    have e2 : (q * N) * s = (q * s) * N := by grind
    have e3 : (w * a) * N = a * (w * N) := by grind
    omega
  exact Int.le_of_mul_le_mul_left h3 ha
theorem hu_pop2 {a b s q n w : Int} (ha : 0 < a) (hb : 0 < b) (hsb : s ≤ b) (e : (n - q) * s ≤ (w - q) * b) (ht : a * n - q * (a + b) ≤ 0) : n * (a + s) ≤ w * (a + b) := by
  have h1 : ((n - q) * s) * (a + b) ≤ ((w - q) * b) * (a + b) := Int.mul_le_mul_of_nonneg_right e (by omega)
  have h2 : (a * n) * (b - s) ≤ (q * (a + b)) * (b - s) := Int.mul_le_mul_of_nonneg_right (by omega) (by omega)
  have h3 : b * (n * (a + s)) ≤ b * (w * (a + b)) := by
    have e1 : b * (w * (a + b)) - b * (n * (a + s)) = (((w - q) * b) * (a + b) - ((n - q) * s) * (a + b)) + ((q * (a + b)) * (b - s) - (a * n) * (b - s)) := by grind
    omega
  exact Int.le_of_mul_le_mul_left h3 hb
/-- from (x0, y0) to (x1, y1): all points (t, v t) that are there lie on it or above -/
def hu_Seg (ne : Int → Prop) (v : Int → Int) (x0 y0 x1 y1 : Int) : Prop :=
  x0 < x1 ∧ ∀ t, x0 ≤ t → t ≤ x1 → ne t → (y1 - y0) * (t - x0) ≤ (v t - y0) * (x1 - x0)
theorem hu_segPop {ne : Int → Prop} {v : Int → Int} {px py qx qy nx ny : Int} (h1 : hu_Seg ne v px py qx qy) (h2 : hu_Seg ne v qx qy nx ny)
    (ht : (qx - px) * (ny - py) - (qy - py) * (nx - px) ≤ 0) : hu_Seg ne v px py nx ny := by
  have a := h1.1
  have b := h2.1
  refine ⟨by omega, fun t t0 t1 hn => ?_⟩
  by_cases c : t ≤ qx
  · exact hu_pop1 (a := qx - px) (by omega) (by omega) (by omega) (h1.2 t t0 c hn) ht
  · have e := h2.2 t (by omega) t1 hn
    have r := hu_pop2 (a := qx - px) (b := nx - qx) (s := t - qx) (q := qy - py) (n := ny - py) (w := v t - py) (by omega) (by omega) (by omega)
      (by rw [show ny - py - (qy - py) = ny - qy by omega, show v t - py - (qy - py) = v t - qy by omega]; exact e)
      (by rw [show qx - px + (nx - qx) = nx - px by omega]; exact ht)
    rw [show qx - px + (nx - qx) = nx - px by omega, show qx - px + (t - qx) = t - px by omega] at r
    exact r
theorem hu_segNew {ne : Int → Prop} {v : Int → Int} {x0 y0 x1 y1 : Int} (h : x0 < x1) (h0 : y0 = v x0) (h1 : y1 = v x1) (hn : ∀ t, x0 < t → t < x1 → ¬ ne t) : hu_Seg ne v x0 y0 x1 y1 := by
  refine ⟨h, fun t t0 t1 ht => ?_⟩
  by_cases a : t = x0
  · rw [a, h0, Int.sub_self, Int.sub_self, Int.mul_zero, Int.zero_mul]
    exact Int.le_refl _
  · by_cases b : t = x1
    · rw [b, ← h1]
      exact Int.le_refl _
    · exact absurd ht (hn t (by omega) (by omega))
theorem hu_segCong {ne ne' : Int → Prop} {v v' : Int → Int} {x0 y0 x1 y1 : Int} (h : hu_Seg ne v x0 y0 x1 y1) (hc : ∀ t, x0 ≤ t → t ≤ x1 → (ne' t → ne t) ∧ v' t = v t) : hu_Seg ne' v' x0 y0 x1 y1 := by
  refine ⟨h.1, fun t t0 t1 ht => ?_⟩
  rw [(hc t t0 t1).2]
  exact h.2 t t0 t1 ((hc t t0 t1).1 ht)
/-- a linear form with b ≤ 0 over a point above a segment -/
theorem hu_segLe {x0 y0 x1 y1 t m a b c : Int} (hx : x0 < x1) (t0 : x0 ≤ t) (t1 : t ≤ x1) (hm : (y1 - y0) * (t - x0) ≤ (m - y0) * (x1 - x0)) (hb : b ≤ 0)
    (c0 : a * x0 + b * y0 ≤ c) (c1 : a * x1 + b * y1 ≤ c) : a * t + b * m ≤ c := by
  have h0 := Int.mul_le_mul_of_nonneg_left c0 (show 0 ≤ x1 - t by omega)
  have h1 := Int.mul_le_mul_of_nonneg_left c1 (show 0 ≤ t - x0 by omega)
  have h2 := Int.mul_le_mul_of_nonneg_left hm (show 0 ≤ -b by omega)
  have id : (x1 - x0) * c - (x1 - x0) * (a * t + b * m) = ((x1 - t) * c - (x1 - t) * (a * x0 + b * y0)) + ((t - x0) * c - (t - x0) * (a * x1 + b * y1)) + ((-b) * ((m - y0) * (x1 - x0)) - (-b) * ((y1 - y0) * (t - x0))) := by grind
  have h3 : (x1 - x0) * (a * t + b * m) ≤ (x1 - x0) * c := by omega
  exact Int.le_of_mul_le_mul_left h3 (by omega)
theorem hu_ceil (d v : Int) (hd : 0 < d) : ∃ m, v ≤ d * m ∧ d * (m - 1) < v := by
  have h1 := Int.mul_ediv_add_emod (-v) d
  have h2 := Int.emod_nonneg (-v) (show d ≠ 0 by omega)
  have h3 := Int.emod_lt_of_pos (-v) hd
  refine ⟨-((-v) / d), ?_, ?_⟩
  · rw [Int.mul_neg]
    omega
  · rw [Int.mul_sub, Int.mul_neg, Int.mul_one]
    omega
theorem hu_ceil1 {d v m m' : Int} (hd : 0 < d) (h : v ≤ d * m) (h' : d * (m' - 1) < v) : m' ≤ m := by
  have := Int.lt_of_mul_lt_mul_left (show d * (m' - 1) < d * m by omega) (by omega)
  omega
theorem hu_lin {α β s1 s2 t : Int} (h1 : 0 ≤ α + β * s1) (h2 : 0 ≤ α + β * s2) (t1 : s1 ≤ t) (t2 : t ≤ s2) : 0 ≤ α + β * t := by
  rcases Int.le_total 0 β with h | h
  · have := Int.mul_le_mul_of_nonneg_left t1 h
    omega
  · have := Int.mul_le_mul_of_nonneg_left t2 (show 0 ≤ -β by omega)
    rw [Int.neg_mul, Int.neg_mul] at this
    omega
/-- lower edge and upper edge over a column that both reach and that holds a point: the lower lies below -/
theorem hu_F {x0 y0 dx dy u0 v0 du dv s l h : Int} (hdx : 0 < dx) (hdu : 0 < du) (hl : dy * (s - x0) ≤ (l - y0) * dx) (hh : (h - v0) * du ≤ dv * (s - u0)) (hlh : l ≤ h) :
    0 ≤ (dx * du * v0 - dx * dv * u0 - du * dx * y0 + du * dy * x0) + (dx * dv - du * dy) * s := by
  have h1 := Int.mul_le_mul_of_nonneg_left hl (show 0 ≤ du by omega)
  have h2 := Int.mul_le_mul_of_nonneg_left hh (show 0 ≤ dx by omega)
  have h3 : 0 ≤ (dx * du) * (h - l) := Int.mul_nonneg (Int.mul_nonneg (by omega) (by omega)) (by omega)
  have id : (dx * du * v0 - dx * dv * u0 - du * dx * y0 + du * dy * x0) + (dx * dv - du * dy) * s = (dx * (dv * (s - u0)) - dx * ((h - v0) * du)) + (du * ((l - y0) * dx) - du * (dy * (s - x0))) + (dx * du) * (h - l) := by grind
  omega
/-- the gap: the ceiling of the lower edge is at most one above the floor of the upper -/
theorem hu_gap {x0 y0 dx dy u0 v0 du dv t m h : Int} (hdx : 0 < dx) (hdu : 0 < du)
    (hF : 0 ≤ (dx * du * v0 - dx * dv * u0 - du * dx * y0 + du * dy * x0) + (dx * dv - du * dy) * t)
    (hm : dx * (m - y0 - 1) < dy * (t - x0)) (hh : dv * (t - u0) < du * (h - v0 + 1)) : m ≤ h + 1 := by
  have h1 := Int.mul_lt_mul_of_pos_left hm hdu
  have h2 := Int.mul_lt_mul_of_pos_left hh hdx
  have id : (dx * du) * (h + 1) - (dx * du) * (m - 1) = ((dx * du * v0 - dx * dv * u0 - du * dx * y0 + du * dy * x0) + (dx * dv - du * dy) * t) + (dx * (du * (h - v0 + 1)) - dx * (dv * (t - u0))) + (du * (dy * (t - x0)) - du * (dx * (m - y0 - 1))) := by grind
  have h3 : (dx * du) * (m - 1) < (dx * du) * (h + 1) := by omega
  have := Int.lt_of_mul_lt_mul_left h3 (Int.mul_nonneg (by omega) (by omega))
  omega
end
section
/-! sums over columns and over edges; the edge sum by two tables -/
def hu_R (f : Int → Int) (s : Int) : Nat → Int
  | 0 => 0
  | n + 1 => hu_R f s n + f (s + (n : Int))
def hu_S (f : Nat → Int) : Nat → Int
  | 0 => 0
  | n + 1 => hu_S f n + f n
def hu_N (f : Nat → Nat) : Nat → Nat
  | 0 => 0
  | n + 1 => hu_N f n + f n
theorem hu_tabC : ∀ d, d < 41 → ∀ r, r < 41 → 0 < d → 2 * hu_N (fun j => (r * j + (d - 1)) / d) d + r + Nat.gcd d r = d * r + d := by decide +kernel
theorem hu_tabF : ∀ d, d < 41 → ∀ r, r < 41 → 0 < d → 2 * hu_N (fun j => r * j / d) d + d + r = d * r + Nat.gcd d r := by decide +kernel
theorem hu_Rcong {f g : Int → Int} {s : Int} : ∀ n : Nat, (∀ t, s ≤ t → t < s + n → f t = g t) → hu_R f s n = hu_R g s n
  | 0, _ => rfl
  | n + 1, h => by
    have i := hu_Rcong (f := f) (g := g) (s := s) n (fun t a b => h t a (by omega))
    show hu_R f s n + f (s + (n : Int)) = hu_R g s n + g (s + (n : Int))
    rw [i, h (s + n) (by omega) (by omega)]
theorem hu_Radd (f : Int → Int) (s : Int) (m : Nat) : ∀ n : Nat, hu_R f s (m + n) = hu_R f s m + hu_R f (s + m) n
  | 0 => by
    show hu_R f s m = hu_R f s m + 0
    omega
  | n + 1 => by
    have i := hu_Radd f s m n
    show hu_R f s (m + n) + f (s + ((m + n : Nat) : Int)) = hu_R f s m + (hu_R f (s + m) n + f (s + m + (n : Int)))
    rw [i, show s + ((m + n : Nat) : Int) = s + m + (n : Int) by omega]
    omega
theorem hu_Rfront (f : Int → Int) (s : Int) (n : Nat) : hu_R f s (n + 1) = f s + hu_R f (s + 1) n := by
  have h := hu_Radd f s 1 n
  rw [show 1 + n = n + 1 by omega] at h
  rw [h]
  show (0 + f (s + ((0 : Nat) : Int))) + hu_R f (s + ((1 : Nat) : Int)) n = f s + hu_R f (s + 1) n
  rw [show s + ((0 : Nat) : Int) = s by omega, show s + ((1 : Nat) : Int) = s + 1 by omega]
  omega
theorem hu_Rrev (f : Int → Int) (e : Int) : ∀ n : Nat, hu_R (fun t => -f (-t)) (-e) n = -hu_R f (e - n + 1) n
  | 0 => rfl
  | n + 1 => by
    have i := hu_Rrev f e n
    have r := hu_Rfront f (e - ((n + 1 : Nat) : Int) + 1) n
    rw [r, show e - ((n + 1 : Nat) : Int) + 1 + 1 = e - n + 1 by omega]
    show hu_R (fun t => -f (-t)) (-e) n + -f (-(-e + (n : Int))) = _
    rw [i, show -(-e + (n : Int)) = e - ((n + 1 : Nat) : Int) + 1 by omega]
    omega
theorem hu_Rzero {f : Int → Int} {s : Int} : ∀ n : Nat, (∀ t, s ≤ t → t < s + n → f t = 0) → hu_R f s n = 0
  | 0, _ => rfl
  | n + 1, h => by
    have i := hu_Rzero (f := f) (s := s) n (fun t a b => h t a (by omega))
    show hu_R f s n + f (s + (n : Int)) = 0
    rw [i, h (s + n) (by omega) (by omega)]
    rfl
theorem hu_Rmono {f g : Int → Int} {s : Int} : ∀ n : Nat, (∀ t, s ≤ t → t < s + n → f t ≤ g t) → hu_R f s n ≤ hu_R g s n
  | 0, _ => Int.le_refl _
  | n + 1, h => by
    have i := hu_Rmono (f := f) (g := g) (s := s) n (fun t a b => h t a (by omega))
    have j := h (s + n) (by omega) (by omega)
    show hu_R f s n + f (s + (n : Int)) ≤ hu_R g s n + g (s + (n : Int))
    omega
theorem hu_Rlin (f g : Int → Int) (s : Int) : ∀ n : Nat, hu_R (fun t => f t - g t + 1) s n = hu_R f s n - hu_R g s n + n
  | 0 => rfl
  | n + 1 => by
    have i := hu_Rlin f g s n
    show hu_R (fun t => f t - g t + 1) s n + (f (s + (n : Int)) - g (s + (n : Int)) + 1) = (hu_R f s n + f (s + (n : Int))) - (hu_R g s n + g (s + (n : Int))) + ((n + 1 : Nat) : Int)
    rw [i]
    omega
theorem hu_RNp {f : Int → Int} {s y0 : Int} {g : Nat → Nat} : ∀ n : Nat, (∀ j : Nat, j < n → f (s + j) = y0 + (g j : Int)) → hu_R f s n = n * y0 + (hu_N g n : Int)
  | 0, _ => by
    show (0 : Int) = ((0 : Nat) : Int) * y0 + ((0 : Nat) : Int)
    simp
  | n + 1, h => by
    have i := hu_RNp (f := f) (s := s) (y0 := y0) (g := g) n (fun j hj => h j (by omega))
    show hu_R f s n + f (s + (n : Int)) = ((n + 1 : Nat) : Int) * y0 + ((hu_N g n + g n : Nat) : Int)
    rw [i, h n (by omega), show ((n + 1 : Nat) : Int) * y0 = n * y0 + y0 by rw [Int.natCast_add, Int.add_mul]; simp]
    omega
theorem hu_RNn {f : Int → Int} {s y0 : Int} {g : Nat → Nat} : ∀ n : Nat, (∀ j : Nat, j < n → f (s + j) = y0 - (g j : Int)) → hu_R f s n = n * y0 - (hu_N g n : Int)
  | 0, _ => by
    show (0 : Int) = ((0 : Nat) : Int) * y0 - ((0 : Nat) : Int)
    simp
  | n + 1, h => by
    have i := hu_RNn (f := f) (s := s) (y0 := y0) (g := g) n (fun j hj => h j (by omega))
    show hu_R f s n + f (s + (n : Int)) = ((n + 1 : Nat) : Int) * y0 - ((hu_N g n + g n : Nat) : Int)
    rw [i, h n (by omega), show ((n + 1 : Nat) : Int) * y0 = n * y0 + y0 by rw [Int.natCast_add, Int.add_mul]; simp]
    omega
theorem hu_edge {f : Int → Int} {x0 y0 dy : Int} {d : Nat} (h0 : 0 < d) (hd : d < 41) (h1 : -40 ≤ dy) (h2 : dy ≤ 40)
    (h : ∀ j : Nat, j < d → dy * (j : Int) ≤ (d : Int) * (f (x0 + j) - y0) ∧ (d : Int) * (f (x0 + j) - y0 - 1) < dy * (j : Int)) :
    2 * hu_R f x0 d + (Nat.gcd d dy.natAbs : Int) = 2 * ((d : Int) * y0) + (d : Int) * dy - dy + d := by
  have hd0 : (0 : Int) < (d : Int) := by omega
  rcases Int.le_total 0 dy with hp | hp
  · obtain ⟨r, hr⟩ : ∃ r : Nat, dy = (r : Int) := ⟨dy.toNat, by omega⟩
    subst hr
    have e : hu_R f x0 d = (d : Int) * y0 + (hu_N (fun j => (r * j + (d - 1)) / d) d : Nat) := by
      refine hu_RNp (g := fun j => (r * j + (d - 1)) / d) d (fun j hj => ?_)
      obtain ⟨a, b⟩ := h j hj
      have n1 := Nat.div_add_mod (r * j + (d - 1)) d
      have n2 := Nat.mod_lt (r * j + (d - 1)) h0
      show f (x0 + j) = y0 + (((r * j + (d - 1)) / d : Nat) : Int)
      generalize (r * j + (d - 1)) / d = q at n1 ⊢
      have n3 : r * j ≤ d * q := by omega
      have n4 : d * q < r * j + d := by omega
      have i3 : (r : Int) * (j : Int) ≤ (d : Int) * (q : Int) := by exact_mod_cast n3
      have i4 : (d : Int) * (q : Int) < (r : Int) * (j : Int) + (d : Int) := by exact_mod_cast n4
      have u1 := hu_ceil1 hd0 i3 b
      have u2 := hu_ceil1 (m' := (q : Int)) hd0 a (by rw [Int.mul_sub, Int.mul_one]; omega)
      omega
    have t := hu_tabC d hd r (by omega) h0
    rw [e, Int.natAbs_natCast]
    generalize hu_N (fun j => (r * j + (d - 1)) / d) d = M at t
    have t' : 2 * (M : Int) + (r : Int) + (Nat.gcd d r : Int) = (d : Int) * (r : Int) + (d : Int) := by exact_mod_cast t
    omega
  · obtain ⟨r, hr⟩ : ∃ r : Nat, dy = -(r : Int) := ⟨(-dy).toNat, by omega⟩
    subst hr
    have e : hu_R f x0 d = (d : Int) * y0 - (hu_N (fun j => r * j / d) d : Nat) := by
      refine hu_RNn (g := fun j => r * j / d) d (fun j hj => ?_)
      obtain ⟨a, b⟩ := h j hj
      rw [Int.neg_mul] at a b
      have n1 := Nat.div_add_mod (r * j) d
      have n2 := Nat.mod_lt (r * j) h0
      show f (x0 + j) = y0 - ((r * j / d : Nat) : Int)
      generalize r * j / d = q at n1 ⊢
      have n3 : d * q ≤ r * j := by omega
      have n4 : r * j < d * q + d := by omega
      have i3 : (d : Int) * (q : Int) ≤ (r : Int) * (j : Int) := by exact_mod_cast n3
      have i4 : (r : Int) * (j : Int) < (d : Int) * (q : Int) + (d : Int) := by exact_mod_cast n4
      have u1 := hu_ceil1 (m := -(q : Int)) hd0 (by rw [Int.mul_neg]; omega) b
      have u2 := hu_ceil1 (m' := -(q : Int)) hd0 a (by rw [Int.mul_sub, Int.mul_one, Int.mul_neg]; omega)
      omega
    have t := hu_tabF d hd r (by omega) h0
    rw [e, Int.natAbs_neg, Int.natAbs_natCast, Int.mul_neg]
    generalize hu_N (fun j => r * j / d) d = M at t
    have t' : 2 * (M : Int) + (d : Int) + (r : Int) = (d : Int) * (r : Int) + (Nat.gcd d r : Int) := by exact_mod_cast t
    omega
/-- what an edge adds to twice the area and to the border -/
def hu_w (px py qx qy : Int) : Int := px * qy - qx * py + (Nat.gcd (qx - px).natAbs (qy - py).natAbs : Int)
theorem hu_edgeW {f : Int → Int} {px py qx qy : Int} (h : px < qx) (h' : qx - px ≤ 40) (hy : -40 ≤ qy - py) (hy' : qy - py ≤ 40)
    (hf : ∀ t, px ≤ t → t < qx → (qy - py) * (t - px) ≤ (qx - px) * (f t - py) ∧ (qx - px) * (f t - py - 1) < (qy - py) * (t - px)) :
    hu_w px py qx qy = -2 * hu_R f px (qx - px).toNat + (py - qy) + (qx - px) + (qx * qy - px * py) := by
  obtain ⟨d, hd⟩ : ∃ d : Nat, qx - px = (d : Int) := ⟨(qx - px).toNat, by omega⟩
  have e := hu_edge (f := f) (x0 := px) (y0 := py) (dy := qy - py) (d := d) (by omega) (by omega) hy hy' (fun j hj => by
    have z := hf (px + j) (by omega) (by omega)
    rw [hd, show px + (j : Int) - px = j by omega] at z
    exact z)
  unfold hu_w
  rw [hd, Int.natAbs_natCast, Int.toNat_natCast]
  have id : px * qy - qx * py + ((d : Int) * py + (d : Int) * qy) = qx * qy - px * py := by
    have hq : qx = px + d := by omega
    rw [hq]
    grind
  have e2 : (d : Int) * (qy - py) = (d : Int) * qy - (d : Int) * py := Int.mul_sub _ _ _
  omega
theorem hu_chain (f : Int → Int) (X Y : Nat → Int) : ∀ n : Nat,
    (∀ i, i < n → X i < X (i + 1) ∧ X (i + 1) - X i ≤ 40 ∧ -40 ≤ Y (i + 1) - Y i ∧ Y (i + 1) - Y i ≤ 40 ∧
      ∀ t, X i ≤ t → t < X (i + 1) → (Y (i + 1) - Y i) * (t - X i) ≤ (X (i + 1) - X i) * (f t - Y i) ∧ (X (i + 1) - X i) * (f t - Y i - 1) < (Y (i + 1) - Y i) * (t - X i)) →
    X 0 ≤ X n ∧ hu_S (fun i => hu_w (X i) (Y i) (X (i + 1)) (Y (i + 1))) n = -2 * hu_R f (X 0) (X n - X 0).toNat + (Y 0 - Y n) + (X n - X 0) + (X n * Y n - X 0 * Y 0)
  | 0, _ => by
    refine ⟨Int.le_refl _, ?_⟩
    rw [Int.sub_self]
    show (0 : Int) = -2 * 0 + (Y 0 - Y 0) + 0 + (X 0 * Y 0 - X 0 * Y 0)
    omega
  | n + 1, h => by
    obtain ⟨i1, i2⟩ := hu_chain f X Y n (fun i hi => h i (by omega))
    obtain ⟨a1, a2, a3, a4, a5⟩ := h n (by omega)
    have w := hu_edgeW (f := f) a1 a2 a3 a4 a5
    refine ⟨by omega, ?_⟩
    show hu_S (fun i => hu_w (X i) (Y i) (X (i + 1)) (Y (i + 1))) n + hu_w (X n) (Y n) (X (n + 1)) (Y (n + 1)) = _
    have r := hu_Radd f (X 0) (X n - X 0).toNat (X (n + 1) - X n).toNat
    rw [show (X n - X 0).toNat + (X (n + 1) - X n).toNat = (X (n + 1) - X 0).toNat by omega, show X 0 + ((X n - X 0).toNat : Int) = X n by omega] at r
    rw [i2, w, r]
    omega
theorem hu_Sadd (f g : Nat → Int) : ∀ n : Nat, hu_S f n + hu_S g n = hu_S (fun i => f i + g i) n
  | 0 => rfl
  | n + 1 => by
    have i := hu_Sadd f g n
    show (hu_S f n + f n) + (hu_S g n + g n) = hu_S (fun i => f i + g i) n + (f n + g n)
    omega
theorem hu_Scong {f g : Nat → Int} : ∀ n : Nat, (∀ i, i < n → f i = g i) → hu_S f n = hu_S g n
  | 0, _ => rfl
  | n + 1, h => by
    have i := hu_Scong (f := f) (g := g) n (fun i hi => h i (by omega))
    show hu_S f n + f n = hu_S g n + g n
    rw [i, h n (by omega)]
theorem hu_Ssplit (f : Nat → Int) (m : Nat) : ∀ n : Nat, hu_S f (m + n) = hu_S f m + hu_S (fun i => f (m + i)) n
  | 0 => by
    show hu_S f m = hu_S f m + 0
    omega
  | n + 1 => by
    have i := hu_Ssplit f m n
    show hu_S f (m + n) + f (m + n) = hu_S f m + (hu_S (fun i => f (m + i)) n + f (m + n))
    omega
theorem hu_wV {x l h : Int} (hlh : l ≤ h) : hu_w x l x h = x * h - x * l + (h - l) ∧ hu_w x h x l = x * l - x * h + (h - l) := by
  unfold hu_w
  rw [Int.sub_self]
  constructor
  · rw [show ((0 : Int).natAbs) = 0 from rfl, Nat.gcd_zero_left]
    omega
  · rw [show ((0 : Int).natAbs) = 0 from rfl, Nat.gcd_zero_left]
    omega
theorem hu_wNeg (px py qx qy : Int) : hu_w (-px) (-py) (-qx) (-qy) = hu_w px py qx qy := by
  unfold hu_w
  rw [show -qx - -px = -(qx - px) by omega, show -qy - -py = -(qy - py) by omega, Int.natAbs_neg, Int.natAbs_neg, Int.neg_mul_neg, Int.neg_mul_neg]
end
section
/-! chains, the columns between them, the support, and the count of points -/
def hu_Ch (ne : Int → Prop) (v : Int → Int) (n : Nat) (X Y : Nat → Int) : Prop :=
  (∀ i, i ≤ n → ne (X i) ∧ Y i = v (X i)) ∧ ∀ i, i < n → hu_Seg ne v (X i) (Y i) (X (i + 1)) (Y (i + 1))
theorem hu_chMono {ne : Int → Prop} {v : Int → Int} {X Y : Nat → Int} : ∀ n : Nat, hu_Ch ne v n X Y → X 0 ≤ X n ∧ (0 < n → X 0 < X n)
  | 0, _ => ⟨Int.le_refl _, fun h => absurd h (by omega)⟩
  | n + 1, h => by
    have i := hu_chMono n ⟨fun i hi => h.1 i (by omega), fun i hi => h.2 i (by omega)⟩
    have s := (h.2 n (by omega)).1
    exact ⟨by omega, fun _ => by omega⟩
theorem hu_cover {ne : Int → Prop} {v : Int → Int} {X Y : Nat → Int} {t : Int} : ∀ n : Nat, hu_Ch ne v n X Y → X 0 ≤ t → t ≤ X n → t = X 0 ∨ ∃ i, i < n ∧ X i ≤ t ∧ t ≤ X (i + 1)
  | 0, _, h0, h1 => Or.inl (by omega)
  | n + 1, h, h0, h1 => by
    by_cases c : t ≤ X n
    · rcases hu_cover n ⟨fun i hi => h.1 i (by omega), fun i hi => h.2 i (by omega)⟩ h0 c with e | ⟨i, a, b⟩
      · exact Or.inl e
      · exact Or.inr ⟨i, by omega, b⟩
    · exact Or.inr ⟨n, by omega, by omega, h1⟩
theorem hu_cover2 {ne : Int → Prop} {v : Int → Int} {X Y : Nat → Int} {t : Int} {n : Nat} (h : hu_Ch ne v n X Y) (hx : X 0 < X n) (h0 : X 0 ≤ t) (h1 : t ≤ X n) : ∃ i, i < n ∧ X i ≤ t ∧ t ≤ X (i + 1) := by
  rcases hu_cover n h h0 h1 with e | e
  · have hn : 0 < n := by
      rcases Nat.eq_zero_or_pos n with z | z
      · rw [z] at hx
        omega
      · exact z
    have s := (h.2 0 hn).1
    exact ⟨0, hn, by omega, by rw [e]; exact Int.le_of_lt s⟩
  · exact e
/-- the columns hold the points of a convex set -/
def hu_Cv (ne : Int → Prop) (lo hi : Int → Int) : Prop :=
  (∀ t, ne t → lo t ≤ hi t) ∧ (∀ x0 x1 t, ne x0 → ne x1 → x0 ≤ t → t ≤ x1 → ne t ∨ hi t < lo t) ∧
  (∀ x0 y0 x1 y1 t k, x0 < x1 → x0 ≤ t → t ≤ x1 → ne x0 → ne x1 → lo x0 ≤ y0 → y0 ≤ hi x0 → lo x1 ≤ y1 → y1 ≤ hi x1 → (y1 - y0) * (t - x0) ≤ (k - y0) * (x1 - x0) → lo t ≤ k) ∧
  (∀ x0 y0 x1 y1 t k, x0 < x1 → x0 ≤ t → t ≤ x1 → ne x0 → ne x1 → lo x0 ≤ y0 → y0 ≤ hi x0 → lo x1 ≤ y1 → y1 ≤ hi x1 → (k - y0) * (x1 - x0) ≤ (y1 - y0) * (t - x0) → k ≤ hi t)
theorem hu_CvRot {ne : Int → Prop} {lo hi : Int → Int} (h : hu_Cv ne lo hi) : hu_Cv (fun t => ne (-t)) (fun t => -hi (-t)) (fun t => -lo (-t)) := by
  obtain ⟨h1, h2, h3, h4⟩ := h
  refine ⟨fun t a => ?_, fun x0 x1 t a b c d => ?_, fun x0 y0 x1 y1 t k a b c d e f g i j l => ?_, fun x0 y0 x1 y1 t k a b c d e f g i j l => ?_⟩
  · have := h1 (-t) a
    show -hi (-t) ≤ -lo (-t)
    omega
  · rcases h2 (-x1) (-x0) (-t) b a (by omega) (by omega) with z | z
    · exact Or.inl z
    · refine Or.inr ?_
      show -lo (-t) < -hi (-t)
      omega
  · (try dsimp only at f g i j ⊢)
    have id : (y1 - y0) * (x1 - t) = (y1 - y0) * (x1 - x0) - (y1 - y0) * (t - x0) := by grind
    have id2 : (y1 - k) * (x1 - x0) = (y1 - y0) * (x1 - x0) - (k - y0) * (x1 - x0) := by grind
    have := h4 (-x1) (-y1) (-x0) (-y0) (-t) (-k) (by omega) (by omega) (by omega) e d (by omega) (by omega) (by omega) (by omega)
      (by rw [show -k - -y1 = y1 - k by omega, show -x0 - -x1 = x1 - x0 by omega, show -y0 - -y1 = y1 - y0 by omega, show -t - -x1 = x1 - t by omega]; omega)
    omega
  · (try dsimp only at f g i j ⊢)
    have id : (y1 - y0) * (x1 - t) = (y1 - y0) * (x1 - x0) - (y1 - y0) * (t - x0) := by grind
    have id2 : (y1 - k) * (x1 - x0) = (y1 - y0) * (x1 - x0) - (k - y0) * (x1 - x0) := by grind
    have := h3 (-x1) (-y1) (-x0) (-y0) (-t) (-k) (by omega) (by omega) (by omega) e d (by omega) (by omega) (by omega) (by omega)
      (by rw [show -k - -y1 = y1 - k by omega, show -x0 - -x1 = x1 - x0 by omega, show -y0 - -y1 = y1 - y0 by omega, show -t - -x1 = x1 - t by omega]; omega)
    omega
/-- lower chain, upper chain (turned by half a turn): over an edge of the lower one the column begins at the ceiling -/
theorem hu_K1 {ne : Int → Prop} {lo hi : Int → Int} {n m : Nat} {X Y X' Y' : Nat → Int} (hc : hu_Cv ne lo hi) (h1 : hu_Ch ne lo n X Y) (h2 : hu_Ch (fun t => ne (-t)) (fun t => -hi (-t)) m X' Y')
    (e0 : X' 0 = -X n) (e1 : X' m = -X 0) {i : Nat} (hin : i < n) {t : Int} (t0 : X i ≤ t) (t1 : t ≤ X (i + 1)) :
    (Y (i + 1) - Y i) * (t - X i) ≤ (X (i + 1) - X i) * (lo t - Y i) ∧ (X (i + 1) - X i) * (lo t - Y i - 1) < (Y (i + 1) - Y i) * (t - X i) ∧ lo t ≤ hi t + 1 := by
  have mono : X 0 ≤ X i ∧ X (i + 1) ≤ X n := by
    have a := hu_chMono i ⟨fun j hj => h1.1 j (by omega), fun j hj => h1.2 j (by omega)⟩
    have b := hu_chMono (X := fun j => X (i + 1 + j)) (Y := fun j => Y (i + 1 + j)) (n - (i + 1)) ⟨fun j hj => h1.1 (i + 1 + j) (by omega), fun j hj => h1.2 (i + 1 + j) (by omega)⟩
    have c := b.1
    (try dsimp only at c)
    rw [show i + 1 + (n - (i + 1)) = n by omega, Nat.add_zero] at c
    exact ⟨a.1, c⟩
  have sg := h1.2 i hin
  have sl := sg.1
  obtain ⟨p0, p1⟩ := h1.1 i (by omega)
  obtain ⟨q0, q1⟩ := h1.1 (i + 1) (by omega)
  have c1 := hc.1
  have d0 := c1 _ p0
  have d1 := c1 _ q0
  obtain ⟨m', m1, m2⟩ := hu_ceil (X (i + 1) - X i) ((Y (i + 1) - Y i) * (t - X i)) (by omega)
  have lm : lo t ≤ m' + Y i := hc.2.2.1 (X i) (Y i) (X (i + 1)) (Y (i + 1)) t (m' + Y i) sl t0 t1 p0 q0 (by omega) (by omega) (by omega) (by omega)
    (by rw [show m' + Y i - Y i = m' by omega, Int.mul_comm m']; exact m1)
  have fin : ∀ z, z = lo t - Y i → z ≤ m' → (X (i + 1) - X i) * (z - 1) < (Y (i + 1) - Y i) * (t - X i) := by
    intro z _ hz
    have := Int.mul_le_mul_of_nonneg_left (show z - 1 ≤ m' - 1 by omega) (show 0 ≤ X (i + 1) - X i by omega)
    omega
  rcases hc.2.1 (X i) (X (i + 1)) t p0 q0 t0 t1 with nt | nt
  · have := c1 t nt
    exact ⟨by rw [Int.mul_comm (X (i + 1) - X i)]; exact sg.2 t t0 t1 nt, fin _ rfl (by omega), by omega⟩
  · obtain ⟨j, j0, j1, j2⟩ := hu_cover2 (t := -t) h2 (by omega) (by omega) (by omega)
    have sg' := h2.2 j j0
    have sl' := sg'.1
    obtain ⟨r0, r1⟩ := h2.1 j (by omega)
    obtain ⟨s0, s1⟩ := h2.1 (j + 1) (by omega)
    (try dsimp only at r0 r1 s0 s1)
    have d2 := c1 _ r0
    have d3 := c1 _ s0
    obtain ⟨k, k1, k2⟩ := hu_ceil (X' (j + 1) - X' j) ((Y' (j + 1) - Y' j) * (-t - X' j)) (by omega)
    have hk := (hu_CvRot hc).2.2.1 (X' j) (Y' j) (X' (j + 1)) (Y' (j + 1)) (-t) (k + Y' j) sl' j1 j2 r0 s0 (by (try dsimp only); omega) (by (try dsimp only); omega) (by (try dsimp only); omega) (by (try dsimp only); omega)
      (by rw [show k + Y' j - Y' j = k by omega, Int.mul_comm k]; exact k1)
    (try dsimp only at hk)
    rw [Int.neg_neg] at hk
    have F : ∀ s, X i ≤ s → s ≤ X (i + 1) → X' j ≤ -s → -s ≤ X' (j + 1) → ne s →
        0 ≤ ((X (i + 1) - X i) * (X' (j + 1) - X' j) * (-Y' j) - (X (i + 1) - X i) * (Y' (j + 1) - Y' j) * (-X' j) - (X' (j + 1) - X' j) * (X (i + 1) - X i) * Y i + (X' (j + 1) - X' j) * (Y (i + 1) - Y i) * X i) + ((X (i + 1) - X i) * (Y' (j + 1) - Y' j) - (X' (j + 1) - X' j) * (Y (i + 1) - Y i)) * s := by
      intro s s1 s2 s3 s4 s5
      refine hu_F (l := lo s) (h := hi s) (by omega) (by omega) (sg.2 s s1 s2 s5) ?_ (c1 s s5)
      have z := sg'.2 (-s) s3 s4 (by (try dsimp only); rw [Int.neg_neg]; exact s5)
      (try dsimp only at z)
      rw [Int.neg_neg] at z
      have i1 : (Y' (j + 1) - Y' j) * (-s - X' j) = -((Y' (j + 1) - Y' j) * (s - -X' j)) := by grind
      have i2 : (-hi s - Y' j) * (X' (j + 1) - X' j) = -((hi s - -Y' j) * (X' (j + 1) - X' j)) := by grind
      omega
    have FA : ∃ s, s ≤ t ∧ X i ≤ s ∧ s ≤ X (i + 1) ∧ X' j ≤ -s ∧ -s ≤ X' (j + 1) ∧ ne s := by
      by_cases w : X i ≤ -X' (j + 1)
      · exact ⟨-X' (j + 1), by omega, by omega, by omega, by omega, by omega, s0⟩
      · exact ⟨X i, by omega, by omega, by omega, by omega, by omega, p0⟩
    have FB : ∃ s, t ≤ s ∧ X i ≤ s ∧ s ≤ X (i + 1) ∧ X' j ≤ -s ∧ -s ≤ X' (j + 1) ∧ ne s := by
      by_cases w : -X' j ≤ X (i + 1)
      · exact ⟨-X' j, by omega, by omega, by omega, by omega, by omega, r0⟩
      · exact ⟨X (i + 1), by omega, by omega, by omega, by omega, by omega, q0⟩
    obtain ⟨sa, a0, a1, a2, a3, a4, a5⟩ := FA
    obtain ⟨sb, b0, b1, b2, b3, b4, b5⟩ := FB
    have Ft := hu_lin (F sa a1 a2 a3 a4 a5) (F sb b1 b2 b3 b4 b5) a0 b0
    have gp := hu_gap (m := m' + Y i) (h := -(k + Y' j)) (by omega) (by omega) Ft
      (by rw [show m' + Y i - Y i - 1 = m' - 1 by omega]; exact m2)
      (by
        rw [show -(k + Y' j) - -Y' j + 1 = -(k - 1) by omega, show t - -X' j = -(-t - X' j) by omega, Int.mul_neg, Int.mul_neg]
        omega)
    have eq : lo t = m' + Y i := by omega
    exact ⟨by rw [eq, show m' + Y i - Y i = m' by omega]; exact m1, fin _ rfl (by omega), by omega⟩
/-- the support: a form with q ≤ 0 over a point above the chain -/
theorem hu_sup {ne : Int → Prop} {v : Int → Int} {n : Nat} {X Y : Nat → Int} (h : hu_Ch ne v n X Y) {p q t y : Int} (hq : q ≤ 0) (h0 : X 0 ≤ t) (h1 : t ≤ X n) (ht : ne t) (hy : v t ≤ y) :
    ∃ i, i ≤ n ∧ p * t + q * y ≤ p * X i + q * Y i := by
  rcases hu_cover n h h0 h1 with e | ⟨i, i0, i1, i2⟩
  · refine ⟨0, by omega, ?_⟩
    have z := Int.mul_le_mul_of_nonneg_left hy (show 0 ≤ -q by omega)
    rw [Int.neg_mul, Int.neg_mul] at z
    rw [(h.1 0 (by omega)).2, ← e]
    omega
  · have s := h.2 i i0
    have s1 := s.1
    have s2 := s.2 t i1 i2 ht
    have s3 : (Y (i + 1) - Y i) * (t - X i) ≤ (y - Y i) * (X (i + 1) - X i) := by
      have z := Int.mul_le_mul_of_nonneg_right (show v t - Y i ≤ y - Y i by omega) (show 0 ≤ X (i + 1) - X i by omega)
      omega
    by_cases c : p * X i + q * Y i ≤ p * X (i + 1) + q * Y (i + 1)
    · exact ⟨i + 1, by omega, hu_segLe s1 i1 i2 s3 hq c (Int.le_refl _)⟩
    · exact ⟨i, by omega, hu_segLe s1 i1 i2 s3 hq (Int.le_refl _) (by omega)⟩
def hu_cnt (lo hi : Int → Int) (t : Int) : Int := if lo t ≤ hi t then hi t - lo t + 1 else 0
def hu_nx (k i : Nat) : Nat := if i + 1 < k then i + 1 else 0
def hu_cr (X Y : Nat → Int) (k i : Nat) : Int := X i * Y (hu_nx k i) - X (hu_nx k i) * Y i
def hu_gd (X Y : Nat → Int) (k i : Nat) : Int := (Nat.gcd (X (hu_nx k i) - X i).natAbs (Y (hu_nx k i) - Y i).natAbs : Int)
def hu_Hull (lo hi : Int → Int) (k : Nat) (X Y : Nat → Int) : Prop :=
  k ≤ 83 ∧ (∀ i, i < k → 0 ≤ X i ∧ X i ≤ 40 ∧ 0 ≤ Y i ∧ Y i ≤ 40 ∧ lo (X i) ≤ Y i ∧ Y i ≤ hi (X i)) ∧
  (∀ p q t y, 0 ≤ t → t ≤ 40 → lo t ≤ y → y ≤ hi t → ∃ i, i < k ∧ p * t + q * y ≤ p * X i + q * Y i) ∧
  (0 < k → hu_S (hu_cr X Y k) k + hu_S (hu_gd X Y k) k + 2 = 2 * hu_R (hu_cnt lo hi) 0 41)
def hu_ne (e : Int) (lo hi : Int → Int) (t : Int) : Prop := 0 ≤ t ∧ t < e ∧ lo t ≤ hi t
/-- the closed sum: the open one and the closing edge -/
theorem hu_closed (X Y : Nat → Int) (k : Nat) : hu_S (hu_cr X Y (k + 1)) (k + 1) + hu_S (hu_gd X Y (k + 1)) (k + 1) = hu_S (fun i => hu_w (X i) (Y i) (X (i + 1)) (Y (i + 1))) k + hu_w (X k) (Y k) (X 0) (Y 0) := by
  rw [hu_Sadd]
  show hu_S (fun i => hu_cr X Y (k + 1) i + hu_gd X Y (k + 1) i) k + (hu_cr X Y (k + 1) k + hu_gd X Y (k + 1) k) = _
  have a : hu_nx (k + 1) k = 0 := by
    unfold hu_nx
    rw [if_neg (by omega)]
  rw [hu_Scong (g := fun i => hu_w (X i) (Y i) (X (i + 1)) (Y (i + 1))) k (fun i hi => by
    have b : hu_nx (k + 1) i = i + 1 := by
      unfold hu_nx
      rw [if_pos (by omega)]
    unfold hu_cr hu_gd hu_w
    rw [b])]
  unfold hu_cr hu_gd hu_w
  rw [a]
/-- Pick, over the two chains -/
theorem hu_pick {lo hi : Int → Int} {b b' m : Nat} {X Y : Nat → Int} (hc : hu_Cv (hu_ne 41 lo hi) lo hi) (hr : ∀ t, hu_ne 41 lo hi t → 0 ≤ lo t ∧ hi t ≤ 40)
    (h1 : hu_Ch (hu_ne 41 lo hi) lo b X Y) (h2 : hu_Ch (fun t => hu_ne 41 lo hi (-t)) (fun t => -hi (-t)) m (fun i => -X (b' + i)) (fun i => -Y (b' + i)))
    (hb : b' = b ∨ b' = b + 1) (e0 : X b' = X b) (e1 : X (b' + m) = X 0) (f1 : ∀ t, hu_ne 41 lo hi t → X 0 ≤ t) (f2 : ∀ t, hu_ne 41 lo hi t → t ≤ X b) :
    hu_S (fun i => hu_w (X i) (Y i) (X (i + 1)) (Y (i + 1))) (b' + m) + hu_w (X (b' + m)) (Y (b' + m)) (X 0) (Y 0) + 2 = 2 * hu_R (hu_cnt lo hi) 0 41 := by
  have rg : ∀ i, i ≤ b → 0 ≤ X i ∧ X i ≤ 40 ∧ 0 ≤ Y i ∧ Y i ≤ 40 := by
    intro i hi'
    obtain ⟨a, c⟩ := h1.1 i hi'
    have := hr _ a
    obtain ⟨a1, a2, a3⟩ := a
    exact ⟨a1, by omega, by omega, by omega⟩
  have rg' : ∀ i, i ≤ m → 0 ≤ X (b' + i) ∧ X (b' + i) ≤ 40 ∧ 0 ≤ Y (b' + i) ∧ Y (b' + i) ≤ 40 ∧ Y (b' + i) = hi (X (b' + i)) ∧ lo (X (b' + i)) ≤ hi (X (b' + i)) := by
    intro i hi'
    obtain ⟨a, c⟩ := h2.1 i hi'
    (try dsimp only at a c)
    rw [Int.neg_neg] at a c
    have := hr _ a
    obtain ⟨a1, a2, a3⟩ := a
    exact ⟨a1, by omega, by omega, by omega, by omega, a3⟩
  have hL := rg b (by omega)
  have hF := rg 0 (by omega)
  have hL' := rg' 0 (by omega)
  have hF' := rg' m (by omega)
  rw [Nat.add_zero] at hL'
  have yb := (h1.1 b (by omega)).2
  have y0 := (h1.1 0 (by omega)).2
  have mono := (hu_chMono b h1).1
  -- the lower sum
  have SL := (hu_chain lo X Y b (fun i hi' => by
    have a := rg i (by omega)
    have c := rg (i + 1) (by omega)
    refine ⟨(h1.2 i hi').1, by omega, by omega, by omega, fun t t0 t1 => ?_⟩
    have k := hu_K1 hc h1 h2 (by (try dsimp only); rw [Nat.add_zero, e0]) (by (try dsimp only); rw [e1]) hi' t0 (by omega)
    exact ⟨k.1, k.2.1⟩)).2
  -- the upper sum
  have nn : (fun t => (fun t => -lo (-t)) (-t)) = (fun t => -lo t) := by
    funext t
    (try dsimp only)
    rw [Int.neg_neg]
  have SU := (hu_chain (fun t => -hi (-t)) (fun i => -X (b' + i)) (fun i => -Y (b' + i)) m (fun i hi' => by
    have a := rg' i (by omega)
    have c := rg' (i + 1) (by omega)
    refine ⟨(h2.2 i hi').1, by (try dsimp only); omega, by (try dsimp only); omega, by (try dsimp only); omega, fun t t0 t1 => ?_⟩
    have h1' : hu_Ch (fun t => (fun t => hu_ne 41 lo hi (-t)) (-t)) (fun t => -(fun t => -lo (-t)) (-t)) b X Y := by
      have x1 : (fun t => (fun t => hu_ne 41 lo hi (-t)) (-t)) = hu_ne 41 lo hi := by
        funext t
        (try dsimp only)
        rw [Int.neg_neg]
      have x2 : (fun t => -(fun t => -lo (-t)) (-t)) = lo := by
        funext t
        (try dsimp only)
        rw [Int.neg_neg, Int.neg_neg]
      rw [x1, x2]
      exact h1
    have k := hu_K1 (hu_CvRot hc) h2 h1' (by (try dsimp only); rw [e1, Int.neg_neg]) (by (try dsimp only); rw [Nat.add_zero, e0, Int.neg_neg]) hi' t0 (by (try dsimp only at t1 ⊢); omega)
    exact ⟨k.1, k.2.1⟩)).2
  (try dsimp only at SU)
  rw [hu_Scong (f := fun i => hu_w (-X (b' + i)) (-Y (b' + i)) (-X (b' + (i + 1))) (-Y (b' + (i + 1)))) (g := fun i => hu_w (X (b' + i)) (Y (b' + i)) (X (b' + i + 1)) (Y (b' + i + 1))) m (fun i _ => hu_wNeg _ _ _ _), Nat.add_zero, e0, e1] at SU
  -- the width
  obtain ⟨w, hw⟩ : ∃ w : Nat, X b - X 0 = (w : Int) := ⟨(X b - X 0).toNat, by omega⟩
  rw [show -X 0 - -X b = (w : Int) by omega, Int.toNat_natCast, hu_Rrev, show X b - (w : Int) + 1 = X 0 + 1 by omega] at SU
  rw [hw, Int.toNat_natCast] at SL
  -- the whole
  have split : hu_S (fun i => hu_w (X i) (Y i) (X (i + 1)) (Y (i + 1))) (b' + m) = hu_S (fun i => hu_w (X i) (Y i) (X (i + 1)) (Y (i + 1))) b + hu_w (X b) (lo (X b)) (X b) (hi (X b)) + hu_S (fun i => hu_w (X (b' + i)) (Y (b' + i)) (X (b' + i + 1)) (Y (b' + i + 1))) m := by
    rw [hu_Ssplit]
    rcases hb with z | z
    · have q : hu_w (X b) (lo (X b)) (X b) (hi (X b)) = 0 := by
        have e : hi (X b) = lo (X b) := by
          rw [z] at hL'
          omega
        rw [(hu_wV (x := X b) (l := lo (X b)) (h := hi (X b)) (by omega)).1, e]
        omega
      rw [q, z]
      omega
    · have e : Y b' = hi (X b) := by
        rw [e0] at hL'
        omega
      have q : hu_S (fun i => hu_w (X i) (Y i) (X (i + 1)) (Y (i + 1))) b' = hu_S (fun i => hu_w (X i) (Y i) (X (i + 1)) (Y (i + 1))) b + hu_w (X b) (lo (X b)) (X b) (hi (X b)) := by
        have : hu_S (fun i => hu_w (X i) (Y i) (X (i + 1)) (Y (i + 1))) (b + 1) = hu_S (fun i => hu_w (X i) (Y i) (X (i + 1)) (Y (i + 1))) b + hu_w (X b) (Y b) (X (b + 1)) (Y (b + 1)) := rfl
        rw [← z, e0, e, yb] at this
        exact this
      rw [q]
  -- the columns
  have wid : (w : Int) ≤ 40 := by omega
  obtain ⟨s, hs⟩ : ∃ s : Nat, X 0 = (s : Int) := ⟨(X 0).toNat, by omega⟩
  have gap : ∀ t, X 0 ≤ t → t ≤ X b → lo t ≤ hi t + 1 := by
    intro t t0 t1
    by_cases c : X 0 < X b
    · obtain ⟨i, i0, i1, i2⟩ := hu_cover2 h1 c t0 t1
      exact (hu_K1 hc h1 h2 (by (try dsimp only); rw [Nat.add_zero, e0]) (by (try dsimp only); rw [e1]) i0 i1 i2).2.2
    · have : t = X 0 := by omega
      rw [this]
      have := (h1.1 0 (by omega)).1.2.2
      omega
  have zero : ∀ t, 0 ≤ t → t < 41 → (t < X 0 ∨ X b < t) → hu_cnt lo hi t = 0 := by
    intro t t0 t1 h
    unfold hu_cnt
    rw [if_neg]
    intro z
    have n : hu_ne 41 lo hi t := ⟨t0, by omega, z⟩
    have a := f1 t n
    have c := f2 t n
    omega
  have C : hu_R (hu_cnt lo hi) 0 41 = hu_R (fun t => hi t - lo t + 1) (X 0) (w + 1) := by
    have r1 := hu_Radd (hu_cnt lo hi) 0 s (w + 1 + (40 - s - w))
    have r2 := hu_Radd (hu_cnt lo hi) (0 + (s : Int)) (w + 1) (40 - s - w)
    rw [show s + (w + 1 + (40 - s - w)) = 41 by omega] at r1
    rw [r1, r2, hu_Rzero s (fun t a c => zero t a (by omega) (by omega)), hu_Rzero (40 - s - w) (fun t a c => zero t (by omega) (by omega) (by omega)), show (0 : Int) + (s : Int) = X 0 by omega]
    rw [hu_Rcong (g := fun t => hi t - lo t + 1) (w + 1) (fun t a c => by
      have := gap t a (by omega)
      unfold hu_cnt
      by_cases z : lo t ≤ hi t
      · rw [if_pos z]
      · rw [if_neg z]
        omega)]
    omega
  rw [C, hu_Rlin, hu_Rfront hi, split, SL, SU]
  have fl : hu_R lo (X 0) (w + 1) = hu_R lo (X 0) w + lo (X b) := by
    show hu_R lo (X 0) w + lo (X 0 + (w : Int)) = _
    rw [show X 0 + (w : Int) = X b by omega]
  rw [fl]
  have v1 := (hu_wV (x := X b) (l := lo (X b)) (h := hi (X b)) (by rw [e0] at hL'; omega)).1
  have v2 := (hu_wV (x := X 0) (l := lo (X 0)) (h := hi (X 0)) (by rw [e1] at hF'; omega)).2
  have e5 : Y (b' + m) = hi (X 0) := by
    rw [e1] at hF'
    omega
  have e6 : Y b' = hi (X b) := by
    rw [e0] at hL'
    omega
  rw [e1, e5, y0, v1, v2, yb, e6]
  have i1 : -X 0 * -hi (X 0) = X 0 * hi (X 0) := Int.neg_mul_neg _ _
  have i2 : -X b * -hi (X b) = X b * hi (X b) := Int.neg_mul_neg _ _
  rw [i1, i2]
  omega
theorem hu_final {lo hi : Int → Int} {b b' m c : Nat} {X Y : Nat → Int} (hc : hu_Cv (hu_ne 41 lo hi) lo hi) (hr : ∀ t, hu_ne 41 lo hi t → 0 ≤ lo t ∧ hi t ≤ 40)
    (h1 : hu_Ch (hu_ne 41 lo hi) lo b X Y) (h2 : hu_Ch (fun t => hu_ne 41 lo hi (-t)) (fun t => -hi (-t)) m (fun i => -X (b' + i)) (fun i => -Y (b' + i)))
    (hb : b' = b ∨ b' = b + 1) (e0 : X b' = X b) (f1 : ∀ t, hu_ne 41 lo hi t → X 0 ≤ t) (f2 : ∀ t, hu_ne 41 lo hi t → t ≤ X b) (f3 : ∀ t, hu_ne 41 lo hi t → X (b' + m) ≤ t)
    (hcc : c = b' + m + 1) (h83 : c ≤ 83) :
    hu_Hull lo hi c X Y ∧ (2 ≤ c → X (c - 1) = X 0 → Y (c - 1) = Y 0 → hu_Hull lo hi (c - 1) X Y) := by
  have nodes : ∀ i, i < c → hu_ne 41 lo hi (X i) ∧ lo (X i) ≤ Y i ∧ Y i ≤ hi (X i) := by
    intro i hi'
    by_cases z : i ≤ b
    · obtain ⟨a, e⟩ := h1.1 i z
      have := a.2.2
      exact ⟨a, by omega, by omega⟩
    · obtain ⟨a, e⟩ := h2.1 (i - b') (by omega)
      (try dsimp only at a e)
      rw [Int.neg_neg, show b' + (i - b') = i by omega] at a e
      have := a.2.2
      exact ⟨a, by omega, by omega⟩
  have e1 : X (b' + m) = X 0 := by
    have a := f3 _ (nodes 0 (by omega)).1
    have d := f1 _ (nodes (b' + m) (by omega)).1
    omega
  have pk := hu_pick hc hr h1 h2 hb e0 e1 f1 f2
  have bnd : ∀ i, i < c → 0 ≤ X i ∧ X i ≤ 40 ∧ 0 ≤ Y i ∧ Y i ≤ 40 ∧ lo (X i) ≤ Y i ∧ Y i ≤ hi (X i) := by
    intro i hi'
    obtain ⟨a, d, e⟩ := nodes i hi'
    have := hr _ a
    obtain ⟨a1, a2, a3⟩ := a
    exact ⟨a1, by omega, by omega, by omega, d, e⟩
  have sup : ∀ p q t y, 0 ≤ t → t ≤ 40 → lo t ≤ y → y ≤ hi t → ∃ i, i < c ∧ p * t + q * y ≤ p * X i + q * Y i := by
    intro p q t y t0 t1 y0 y1
    have nt : hu_ne 41 lo hi t := ⟨t0, by omega, by omega⟩
    have g1 := f1 t nt
    have g2 := f2 t nt
    rcases Int.le_total q 0 with z | z
    · obtain ⟨i, i0, i1⟩ := hu_sup h1 (p := p) z g1 g2 nt y0
      exact ⟨i, by omega, i1⟩
    · obtain ⟨i, i0, i1⟩ := hu_sup h2 (p := -p) (q := -q) (t := -t) (y := -y) (by omega) (by (try dsimp only); rw [Nat.add_zero, e0]; omega) (by (try dsimp only); rw [e1]; omega) (by (try dsimp only); rw [Int.neg_neg]; exact nt) (by (try dsimp only); rw [Int.neg_neg]; omega)
      (try dsimp only at i1)
      rw [Int.neg_mul_neg, Int.neg_mul_neg, Int.neg_mul_neg, Int.neg_mul_neg] at i1
      exact ⟨b' + i, by omega, i1⟩
  refine ⟨⟨h83, bnd, sup, fun _ => ?_⟩, fun c2 ex ey => ⟨by omega, fun i hi' => bnd i (by omega), fun p q t y t0 t1 y0 y1 => ?_, fun _ => ?_⟩⟩
  · rw [hcc, hu_closed]
    exact pk
  · obtain ⟨i, i0, i1⟩ := sup p q t y t0 t1 y0 y1
    by_cases z : i = c - 1
    · rw [z, ex, ey] at i1
      exact ⟨0, by omega, i1⟩
    · exact ⟨i, by omega, i1⟩
  · obtain ⟨k, hk⟩ : ∃ k, b' + m = k + 1 := ⟨b' + m - 1, by omega⟩
    rw [show c - 1 = k + 1 by omega] at ex ey ⊢
    rw [hu_closed]
    rw [hk] at pk
    have z := (hu_wV (x := X 0) (l := Y 0) (h := Y 0) (Int.le_refl _)).1
    have s : hu_S (fun i => hu_w (X i) (Y i) (X (i + 1)) (Y (i + 1))) (k + 1) = hu_S (fun i => hu_w (X i) (Y i) (X (i + 1)) (Y (i + 1))) k + hu_w (X k) (Y k) (X (k + 1)) (Y (k + 1)) := rfl
    rw [s, ex, ey] at pk
    omega
/-- no column holds a point -/
theorem hu_empty {lo hi : Int → Int} {X Y : Nat → Int} (h : ∀ t, 0 ≤ t → t ≤ 40 → hi t < lo t) : hu_Hull lo hi 0 X Y := by
  refine ⟨by omega, fun i hi' => absurd hi' (by omega), fun p q t y t0 t1 y0 y1 => ?_, fun z => absurd z (by omega)⟩
  have := h t t0 t1
  omega
end
section
/-! a column under the conditions -/
def hu_Col (n : Nat) (A B C : Nat → Int) (t l h : Int) : Prop :=
  (∀ y, l ≤ y ↔ 0 ≤ y ∧ ∀ i, i < n → B i < 0 → A i * t + B i * y ≤ C i) ∧
  ((h < 0 ∧ ∃ i, i < n ∧ B i = 0 ∧ C i < A i * t) ∨
   ((∀ i, i < n → B i = 0 → A i * t ≤ C i) ∧ ∀ y, y ≤ h ↔ y ≤ 40 ∧ ∀ i, i < n → 0 < B i → A i * t + B i * y ≤ C i))
theorem hu_colIn {n : Nat} {A B C : Nat → Int} {t l h : Int} (hc : hu_Col n A B C t l h) (y : Int) : (l ≤ y ∧ y ≤ h) ↔ (0 ≤ y ∧ y ≤ 40 ∧ ∀ i, i < n → A i * t + B i * y ≤ C i) := by
  obtain ⟨c1, c2⟩ := hc
  constructor
  · rintro ⟨a, b⟩
    obtain ⟨a1, a2⟩ := (c1 y).mp a
    rcases c2 with ⟨c3, _⟩ | ⟨c3, c4⟩
    · omega
    · obtain ⟨b1, b2⟩ := (c4 y).mp b
      refine ⟨a1, b1, fun i hi => ?_⟩
      rcases Int.lt_trichotomy (B i) 0 with z | z | z
      · exact a2 i hi z
      · have := c3 i hi z
        rw [z, Int.zero_mul]
        omega
      · exact b2 i hi z
  · rintro ⟨a, b, c⟩
    refine ⟨(c1 y).mpr ⟨a, fun i hi _ => c i hi⟩, ?_⟩
    rcases c2 with ⟨_, i, i1, i2, i3⟩ | ⟨c3, c4⟩
    · have := c i i1
      rw [i2, Int.zero_mul] at this
      omega
    · exact (c4 y).mpr ⟨b, fun i hi _ => c i hi⟩
theorem hu_segGe {x0 y0 x1 y1 t m a b c : Int} (hx : x0 < x1) (t0 : x0 ≤ t) (t1 : t ≤ x1) (hm : (m - y0) * (x1 - x0) ≤ (y1 - y0) * (t - x0)) (hb : 0 ≤ b)
    (c0 : a * x0 + b * y0 ≤ c) (c1 : a * x1 + b * y1 ≤ c) : a * t + b * m ≤ c := by
  have id : (y1 - y0) * (x1 - t) = (y1 - y0) * (x1 - x0) - (y1 - y0) * (t - x0) := by grind
  have id2 : (y1 - m) * (x1 - x0) = (y1 - y0) * (x1 - x0) - (m - y0) * (x1 - x0) := by grind
  have r := hu_segLe (x0 := -x1) (y0 := -y1) (x1 := -x0) (y1 := -y0) (t := -t) (m := -m) (a := -a) (b := -b) (c := c) (by omega) (by omega) (by omega)
    (by rw [show -y0 - -y1 = y1 - y0 by omega, show -t - -x1 = x1 - t by omega, show -m - -y1 = y1 - m by omega, show -x0 - -x1 = x1 - x0 by omega]; omega) (by omega)
    (by rw [Int.neg_mul_neg, Int.neg_mul_neg]; exact c1) (by rw [Int.neg_mul_neg, Int.neg_mul_neg]; exact c0)
  rw [Int.neg_mul_neg, Int.neg_mul_neg] at r
  exact r
theorem hu_colCv {n : Nat} {A B C : Nat → Int} {lo hi : Int → Int} (h : ∀ t, 0 ≤ t → t < 41 → hu_Col n A B C t (lo t) (hi t)) : hu_Cv (hu_ne 41 lo hi) lo hi := by
  refine ⟨fun t a => a.2.2, fun x0 x1 t a b c d => ?_, fun x0 y0 x1 y1 t k a b c d e f g i j l => ?_, fun x0 y0 x1 y1 t k a b c d e f g i j l => ?_⟩
  · have a1 := a.1
    have b1 := b.2.1
    by_cases z : lo t ≤ hi t
    · exact Or.inl ⟨by omega, by omega, z⟩
    · exact Or.inr (by omega)
  · have d1 := d.1
    have e1 := e.2.1
    obtain ⟨p1, p2, p3⟩ := (hu_colIn (h x0 d.1 d.2.1) y0).mp ⟨f, g⟩
    obtain ⟨q1, q2, q3⟩ := (hu_colIn (h x1 e.1 e.2.1) y1).mp ⟨i, j⟩
    refine ((h t (by omega) (by omega)).1 k).mpr ⟨?_, fun s hs bs => hu_segLe a b c l (by omega) (p3 s hs) (q3 s hs)⟩
    have := hu_segLe (a := 0) (b := -1) (c := 0) a b c l (by omega) (by omega) (by omega)
    omega
  · have d1 := d.1
    have e1 := e.2.1
    obtain ⟨p1, p2, p3⟩ := (hu_colIn (h x0 d.1 d.2.1) y0).mp ⟨f, g⟩
    obtain ⟨q1, q2, q3⟩ := (hu_colIn (h x1 e.1 e.2.1) y1).mp ⟨i, j⟩
    rcases (h t (by omega) (by omega)).2 with ⟨_, s, s1, s2, s3⟩ | ⟨_, u⟩
    · exfalso
      have z0 := p3 s s1
      have z1 := q3 s s1
      rw [s2, Int.zero_mul] at z0 z1
      have := hu_lin (α := C s) (β := -A s) (s1 := x0) (s2 := x1) (t := t) (by rw [Int.neg_mul]; omega) (by rw [Int.neg_mul]; omega) b c
      rw [Int.neg_mul] at this
      omega
    · refine (u k).mpr ⟨?_, fun s hs bs => hu_segGe a b c l (by omega) (p3 s hs) (q3 s hs)⟩
      have := hu_segGe (a := 0) (b := 1) (c := 40) a b c l (by omega) (by omega) (by omega)
      omega
theorem hu_colRng {n : Nat} {A B C : Nat → Int} {lo hi : Int → Int} (h : ∀ t, 0 ≤ t → t < 41 → hu_Col n A B C t (lo t) (hi t)) : ∀ t, hu_ne 41 lo hi t → 0 ≤ lo t ∧ hi t ≤ 40 := by
  intro t a
  have z := a.2.2
  have b := (hu_colIn (h t a.1 a.2.1) (lo t)).mp ⟨Int.le_refl _, z⟩
  have c := (hu_colIn (h t a.1 a.2.1) (hi t)).mp ⟨z, Int.le_refl _⟩
  exact ⟨b.1, c.2.1⟩
theorem hu_lts {n : Nat} {P : Nat → Prop} : (∀ i, i < n + 1 → P i) ↔ (∀ i, i < n → P i) ∧ P n := by
  constructor
  · intro h
    exact ⟨fun i hi => h i (by omega), h n (by omega)⟩
  · rintro ⟨h, g⟩ i hi
    by_cases z : i = n
    · rw [z]
      exact g
    · exact h i (by omega)
theorem hu_col0 (A B C : Nat → Int) (t : Int) : hu_Col 0 A B C t 0 40 :=
  ⟨fun y => ⟨fun h => ⟨h, fun i hi => absurd hi (by omega)⟩, fun h => h.1⟩, Or.inr ⟨fun i hi => absurd hi (by omega), fun y => ⟨fun h => ⟨h, fun i hi => absurd hi (by omega)⟩, fun h => h.1⟩⟩⟩
/-- a condition with b > 0 -/
theorem hu_colP {n : Nat} {A B C : Nat → Int} {t l h h' top : Int} (hc : hu_Col n A B C t l h) (hb : 0 < B n) (ht : ∀ y, y ≤ top ↔ B n * y ≤ C n - A n * t) (hh : (h' = h ∧ h ≤ top) ∨ (h' = top ∧ top ≤ h)) : hu_Col (n + 1) A B C t l h' := by
  obtain ⟨c1, c2⟩ := hc
  refine ⟨fun y => ?_, ?_⟩
  · rw [c1 y, hu_lts]
    exact ⟨fun a => ⟨a.1, a.2, fun z => absurd z (by omega)⟩, fun a => ⟨a.1, a.2.1⟩⟩
  · rcases c2 with ⟨c3, i, i1, i2, i3⟩ | ⟨c3, c4⟩
    · exact Or.inl ⟨by omega, i, by omega, i2, i3⟩
    · refine Or.inr ⟨hu_lts.mpr ⟨c3, fun z => absurd z (by omega)⟩, fun y => ?_⟩
      rw [hu_lts]
      have k1 := c4 y
      have k2 := ht y
      constructor
      · intro a
        have b := k1.mp (by omega)
        have d := k2.mp (by omega)
        exact ⟨b.1, b.2, fun _ => by omega⟩
      · rintro ⟨a, b, d⟩
        have e := k1.mpr ⟨a, b⟩
        have f := k2.mpr (by have := d hb; omega)
        omega
/-- a condition with b < 0 -/
theorem hu_colN {n : Nat} {A B C : Nat → Int} {t l h l' bot : Int} (hc : hu_Col n A B C t l h) (hb : B n < 0) (ht : ∀ y, bot ≤ y ↔ A n * t + B n * y ≤ C n) (hh : (l' = l ∧ bot ≤ l) ∨ (l' = bot ∧ l ≤ bot)) : hu_Col (n + 1) A B C t l' h := by
  obtain ⟨c1, c2⟩ := hc
  refine ⟨fun y => ?_, ?_⟩
  · clear c2
    rw [hu_lts]
    have k1 := c1 y
    have k2 := ht y
    constructor
    · intro a
      have b := k1.mp (by omega)
      exact ⟨b.1, b.2, fun _ => k2.mp (by omega)⟩
    · rintro ⟨a, b, d⟩
      have e := k1.mpr ⟨a, b⟩
      have f := k2.mpr (d hb)
      omega
  · rcases c2 with ⟨c3, i, i1, i2, i3⟩ | ⟨c3, c4⟩
    · exact Or.inl ⟨c3, i, by omega, i2, i3⟩
    · refine Or.inr ⟨hu_lts.mpr ⟨c3, fun z => absurd z (by omega)⟩, fun y => ?_⟩
      rw [hu_lts, c4 y]
      exact ⟨fun a => ⟨a.1, a.2, fun z => absurd z (by omega)⟩, fun a => ⟨a.1, a.2.1⟩⟩
/-- a condition with b = 0 that holds -/
theorem hu_colZ {n : Nat} {A B C : Nat → Int} {t l h : Int} (hc : hu_Col n A B C t l h) (hb : B n = 0) (hz : A n * t ≤ C n) : hu_Col (n + 1) A B C t l h := by
  obtain ⟨c1, c2⟩ := hc
  refine ⟨fun y => ?_, ?_⟩
  · rw [hu_lts, c1 y]
    exact ⟨fun a => ⟨a.1, a.2, fun z => absurd z (by omega)⟩, fun a => ⟨a.1, a.2.1⟩⟩
  · rcases c2 with ⟨c3, i, i1, i2, i3⟩ | ⟨c3, c4⟩
    · exact Or.inl ⟨c3, i, by omega, i2, i3⟩
    · refine Or.inr ⟨hu_lts.mpr ⟨c3, fun _ => hz⟩, fun y => ?_⟩
      rw [hu_lts, c4 y]
      exact ⟨fun a => ⟨a.1, a.2, fun z => absurd z (by omega)⟩, fun a => ⟨a.1, a.2.1⟩⟩
/-- a condition with b = 0 that fails -/
theorem hu_colE {n : Nat} {A B C : Nat → Int} {t l h : Int} (hc : hu_Col n A B C t l h) (hb : B n = 0) (hz : C n < A n * t) : hu_Col (n + 1) A B C t l (-1) := by
  obtain ⟨c1, c2⟩ := hc
  refine ⟨fun y => ?_, Or.inl ⟨by omega, n, by omega, hb, hz⟩⟩
  rw [hu_lts, c1 y]
  exact ⟨fun a => ⟨a.1, a.2, fun z => absurd z (by omega)⟩, fun a => ⟨a.1, a.2.1⟩⟩
/-- one condition more: no more points -/
theorem hu_colMono {n : Nat} {A B C A' B' C' : Nat → Int} {t l h l' h' : Int} (hc : hu_Col n A B C t l h) (hc' : hu_Col (n + 1) A' B' C' t l' h') (ha : ∀ i, i < n → A' i = A i) (hb : ∀ i, i < n → B' i = B i) (hcc : ∀ i, i < n → C' i = C i)
    {y : Int} (h1 : l' ≤ y) (h2 : y ≤ h') : l ≤ y ∧ y ≤ h := by
  obtain ⟨a, b, c⟩ := (hu_colIn hc' y).mp ⟨h1, h2⟩
  refine (hu_colIn hc y).mpr ⟨a, b, fun i hi => ?_⟩
  rw [← ha i hi, ← hb i hi, ← hcc i hi]
  exact c i (by omega)
theorem hu_cntMono {lo hi lo' hi' : Int → Int} (h : ∀ t y, 0 ≤ t → t < 41 → lo' t ≤ y → y ≤ hi' t → lo t ≤ y ∧ y ≤ hi t) : hu_R (hu_cnt lo' hi') 0 41 ≤ hu_R (hu_cnt lo hi) 0 41 := by
  refine hu_Rmono 41 (fun t t0 t1 => ?_)
  unfold hu_cnt
  by_cases z : lo' t ≤ hi' t
  · have a := h t (lo' t) t0 (by omega) (Int.le_refl _) z
    have b := h t (hi' t) t0 (by omega) z (Int.le_refl _)
    rw [if_pos z, if_pos (by omega)]
    omega
  · rw [if_neg z]
    by_cases z' : lo t ≤ hi t
    · rw [if_pos z']
      omega
    · rw [if_neg z']
      exact Int.le_refl _
end
section
/-! ints of 32 bits, and the walk of a column -/
def hu_I (a : Nat → Int32) (j : Nat) : Int := (a j).toInt
def hu_J (a : Nat → Int32) (t : Int) : Int := (a t.toNat).toInt
theorem hu_le {a b : Int32} : a ≤ b ↔ a.toInt ≤ b.toInt := Int32.le_iff_toInt_le
theorem hu_lt {a b : Int32} : a < b ↔ a.toInt < b.toInt := Int32.lt_iff_toInt_lt
theorem hu_z : (0 : Int32).toInt = 0 := Int32.toInt_zero
theorem hu_mb {a b : Int} (m n : Nat) (h1 : -(m : Int) ≤ a) (h2 : a ≤ m) (h3 : -(n : Int) ≤ b) (h4 : b ≤ n) : -((m * n : Nat) : Int) ≤ a * b ∧ a * b ≤ ((m * n : Nat) : Int) := by
  have h := Int.natAbs_mul a b
  have k : a.natAbs * b.natAbs ≤ m * n := Nat.mul_le_mul (by omega) (by omega)
  generalize a * b = c at h ⊢
  generalize a.natAbs * b.natAbs = e at h k
  generalize m * n = g at k ⊢
  omega
theorem hu_mul {a b : Int32} (m n : Nat) (hmn : m * n < 2147483648) (h1 : -(m : Int) ≤ a.toInt) (h2 : a.toInt ≤ m) (h3 : -(n : Int) ≤ b.toInt) (h4 : b.toInt ≤ n) : (a * b).toInt = a.toInt * b.toInt := by
  have h := hu_mb m n h1 h2 h3 h4
  generalize m * n = g at h hmn
  exact Jvm.Kit.i32_mul (by omega) (by omega)
theorem hu_add {a b : Int32} (h1 : -2147483648 ≤ a.toInt + b.toInt) (h2 : a.toInt + b.toInt < 2147483648) : (a + b).toInt = a.toInt + b.toInt := Jvm.Kit.i32_add (by omega) (by omega)
theorem hu_sub {a b : Int32} (h1 : -2147483648 ≤ a.toInt - b.toInt) (h2 : a.toInt - b.toInt < 2147483648) : (a - b).toInt = a.toInt - b.toInt := Jvm.Kit.i32_sub (by omega) (by omega)
theorem hu_fl {d q n : Int} (hd : 0 < d) (h1 : d * q ≤ n) (h2 : n < d * (q + 1)) (y : Int) : y ≤ q ↔ d * y ≤ n := by
  constructor
  · intro h
    have := Int.mul_le_mul_of_nonneg_left h (show 0 ≤ d by omega)
    omega
  · intro h
    have := Int.lt_of_mul_lt_mul_left (show d * y < d * (q + 1) by omega) (by omega)
    omega
theorem hu_floorDiv {post : Int32 → Prop} {n d : Int32} (hd : 0 < d.toInt) (hn : -2000 ≤ n.toInt) (hn2 : n.toInt ≤ 2000) (hd9 : d.toInt ≤ 9)
    (hp : ∀ r : Int32, -2001 ≤ r.toInt → r.toInt ≤ 2000 → (∀ y : Int, y ≤ r.toInt ↔ d.toInt * y ≤ n.toInt) → post r) : wpX_floorDiv post () n d := by
  unfold wpX_floorDiv
  have h0 : (0 : Int32) < d := hu_lt.mpr (by rw [hu_z]; exact hd)
  have hne : ¬ d = 0 := by
    intro z
    rw [z, hu_z] at hd
    omega
  refine br_t h0 ⟨hne, fun q hq => ?_⟩
  have eq : q.toInt = n.toInt.tdiv d.toInt := by
    rw [hq]
    exact Jvm.Kit.i32_div (by omega)
  have m1 := Int.mul_tdiv_add_tmod n.toInt d.toInt
  have m2 := Int.tmod_lt_of_pos n.toInt hd
  have m3 := Int.lt_tmod_of_pos n.toInt hd
  have m4 := Int.natAbs_tdiv_le_natAbs n.toInt d.toInt
  rw [← eq] at m1 m4
  have pr : (q * d).toInt = d.toInt * q.toInt := by
    rw [Int.mul_comm]
    exact Jvm.Kit.i32_mul (by rw [Int.mul_comm]; omega) (by rw [Int.mul_comm]; omega)
  refine br_c (fun hle => ?_) (fun hgt => ?_)
  · rw [hu_le, pr] at hle
    exact hp q (by omega) (by omega) (hu_fl hd hle (by rw [Int.mul_add, Int.mul_one]; omega))
  · rw [hu_le, pr] at hgt
    have e1 : (q - 1).toInt = q.toInt - 1 := hu_sub (by rw [show (1 : Int32).toInt = 1 from rfl]; omega) (by rw [show (1 : Int32).toInt = 1 from rfl]; omega)
    refine hp (q - 1) (by omega) (by omega) ?_
    rw [e1]
    exact hu_fl hd (by rw [Int.mul_sub, Int.mul_one]; omega) (by rw [show q.toInt - 1 + 1 = q.toInt by omega]; omega)
def hu_K (n : Nat) (a1 a2 a3 : Nat → Int32) : Prop :=
  n ≤ 8 ∧ ∀ i, i < n → (-9 ≤ hu_I a1 i ∧ hu_I a1 i ≤ 9) ∧ (-9 ≤ hu_I a2 i ∧ hu_I a2 i ≤ 9) ∧ (-1000 ≤ hu_I a3 i ∧ hu_I a3 i ≤ 1000)
theorem hu_narrow {post : St1 → Prop} {fc fr fk : Int32} {a1 a2 a3 a4 a5 a6 a7 : Nat → Int32} {x i : Nat} (hx : x < 41) (hi : i < 8)
    (hb : (-9 ≤ hu_I a1 i ∧ hu_I a1 i ≤ 9) ∧ (-9 ≤ hu_I a2 i ∧ hu_I a2 i ≤ 9) ∧ (-1000 ≤ hu_I a3 i ∧ hu_I a3 i ≤ 1000))
    (hcol : hu_Col i (hu_I a1) (hu_I a2) (hu_I a3) (x : Int) (a4 x).toInt (a5 x).toInt)
    (hp : ∀ a4' a5' : Nat → Int32, (∀ j, j ≠ x → a4' j = a4 j) → (∀ j, j ≠ x → a5' j = a5 j) → hu_Col (i + 1) (hu_I a1) (hu_I a2) (hu_I a3) (x : Int) (a4' x).toInt (a5' x).toInt → post (fc, fr, fk, a1, a2, a3, a4', a5', a6, a7)) :
    wpX_narrow post (fc, fr, fk, a1, a2, a3, a4, a5, a6, a7) (nI x) (nI i) := by
  unfold wpX_narrow
  dsimp only
  rw [nI_clamp (show i < 2 ^ 31 by omega), nI_clamp (show x < 2 ^ 31 by omega)]
  refine ⟨pk_in i 8 hi, pk_in i 8 hi, fun rest hrest => ⟨pk_in i 8 hi, ?_⟩⟩
  obtain ⟨⟨A1, A2⟩, ⟨B1, B2⟩, ⟨C1, C2⟩⟩ := hb
  have ex : (nI x).toInt = (x : Int) := nI_toInt (by omega)
  have em : (a1 i * nI x).toInt = hu_I a1 i * (x : Int) := by
    rw [← ex]
    exact hu_mul 9 40 (by omega) A1 A2 (by omega) (by omega)
  have bm := hu_mb (a := hu_I a1 i) (b := (x : Int)) 9 40 (by omega) (by omega) (by omega) (by omega)
  have er : rest.toInt = hu_I a3 i - hu_I a1 i * (x : Int) := by
    have c : (a3 i).toInt = hu_I a3 i := rfl
    rw [hrest, hu_sub (by rw [em, c]; omega) (by rw [em, c]; omega), em, c]
  have e2 : (a2 i).toInt = hu_I a2 i := rfl
  refine br_c (fun b0 => ⟨pk_in i 8 hi, br_c (fun b1 => ?_) (fun b1 => ⟨pk_in i 8 hi, ?_⟩)⟩) (fun b0 => ⟨pk_in i 8 hi, ?_⟩)
  · rw [hu_le, hu_z, e2] at b0 b1
    have eb : hu_I a2 i = 0 := by omega
    refine br_c (fun hr => ?_) (fun hr => ⟨pk_in x 41 hx, nm_e ?_⟩)
    · rw [hu_le, hu_z, er] at hr
      exact hp a4 a5 (fun _ _ => rfl) (fun _ _ => rfl) (hu_colZ hcol eb (by omega))
    · rw [hu_le, hu_z, er] at hr
      refine hp a4 _ (fun _ _ => rfl) (fun j hj => pk_un hj) ?_
      rw [pk_us, show (-1 : Int32).toInt = -1 from rfl]
      exact hu_colE hcol eb (by omega)
  · rw [hu_le, hu_z, e2] at b1
    have en : (-(a2 i)).toInt = -hu_I a2 i := Jvm.Kit.i32_neg (by rw [e2]; omega)
    refine hu_floorDiv (by omega) (by omega) (by omega) (by omega) (fun r r1 r2 hr => ?_)
    intro z hz
    have ez : z.toInt = -r.toInt := by
      rw [hz]
      exact Jvm.Kit.i32_neg (by omega)
    have spec : ∀ y : Int, z.toInt ≤ y ↔ hu_I a1 i * (x : Int) + hu_I a2 i * y ≤ hu_I a3 i := by
      intro y
      have h := hr (-y)
      rw [en, Int.neg_mul_neg, er] at h
      omega
    refine ⟨pk_in x 41 hx, br_c (fun hle => ?_) (fun hgt => ⟨pk_in x 41 hx, nm_e ?_⟩)⟩
    · rw [hu_le] at hle
      exact hp a4 a5 (fun _ _ => rfl) (fun _ _ => rfl) (hu_colN hcol (by omega) spec (Or.inl ⟨rfl, hle⟩))
    · rw [hu_le] at hgt
      refine hp _ a5 (fun j hj => pk_un hj) (fun _ _ => rfl) ?_
      rw [pk_us]
      exact hu_colN hcol (by omega) spec (Or.inr ⟨rfl, by omega⟩)
  · rw [hu_le, hu_z, e2] at b0
    refine hu_floorDiv (by omega) (by omega) (by omega) (by omega) (fun r r1 r2 hr => ?_)
    have spec : ∀ y : Int, y ≤ r.toInt ↔ hu_I a2 i * y ≤ hu_I a3 i - hu_I a1 i * (x : Int) := by
      intro y
      have h := hr y
      rw [er] at h
      exact h
    refine ⟨pk_in x 41 hx, br_c (fun hle => ?_) (fun hgt => ⟨pk_in x 41 hx, nm_e ?_⟩)⟩
    · rw [hu_le] at hle
      exact hp a4 a5 (fun _ _ => rfl) (fun _ _ => rfl) (hu_colP hcol (by omega) spec (Or.inl ⟨rfl, hle⟩))
    · rw [hu_le] at hgt
      refine hp a4 _ (fun _ _ => rfl) (fun j hj => pk_un hj) ?_
      rw [pk_us]
      exact hu_colP hcol (by omega) spec (Or.inr ⟨rfl, by omega⟩)
theorem hu_fill {post : St1 → Prop} {fr fk : Int32} {a1 a2 a3 a4 a5 a6 a7 : Nat → Int32} {nn x : Nat} (hx : x < 41) (hK : hu_K nn a1 a2 a3)
    (hp : ∀ a4' a5' : Nat → Int32, (∀ j, j ≠ x → a4' j = a4 j) → (∀ j, j ≠ x → a5' j = a5 j) → hu_Col nn (hu_I a1) (hu_I a2) (hu_I a3) (x : Int) (a4' x).toInt (a5' x).toInt → post (nI nn, fr, fk, a1, a2, a3, a4', a5', a6, a7)) :
    wpX_fillColumn post (nI nn, fr, fk, a1, a2, a3, a4, a5, a6, a7) (nI x) := by
  obtain ⟨h8, hK⟩ := hK
  unfold wpX_fillColumn
  dsimp only
  rw [nI_clamp (show x < 2 ^ 31 by omega)]
  refine ⟨pk_in x 41 hx, nm_e ⟨pk_in x 41 hx, nm_e ?_⟩⟩
  refine pk_loop (σ := (Nat → Int32) × (Nat → Int32)) (fun n i s => wX_fillColumn_17 post (nI x) n (nI i) (nI nn) fr fk a1 a2 a3 s.1 s.2 a6 a7)
    (fun i s => (∀ j, j ≠ x → s.1 j = a4 j) ∧ (∀ j, j ≠ x → s.2 j = a5 j) ∧ hu_Col i (hu_I a1) (hu_I a2) (hu_I a3) (x : Int) (s.1 x).toInt (s.2 x).toInt)
    nn 0 (upd a4 x 0, upd a5 x 40) (by omega) ⟨fun j hj => pk_un hj, fun j hj => pk_un hj, ?_⟩ ?_ ?_
  · dsimp only
    rw [pk_us, pk_us]
    exact hu_col0 _ _ _ _
  · intro n s h
    exact pk_le nn nn (fun _ => hp s.1 s.2 h.1 h.2.1 h.2.2) (fun z => absurd z (by omega))
  · intro n i s hi h hw
    refine pk_le nn i (fun z => absurd z (by omega)) (fun _ => hu_narrow hx (by omega) (hK i hi) h.2.2 (fun a4' a5' g1 g2 g3 => ?_))
    exact nm_r (nI_1 i) (hw (a4', a5') ⟨fun j hj => (g1 j hj).trans (h.1 j hj), fun j hj => (g2 j hj).trans (h.2.1 j hj), g3⟩)
end
section
/-! addPoint and prepare -/
def hu_B (z : Int32) : Prop := 0 ≤ z.toInt ∧ z.toInt ≤ 40
def hu_tn (X Y : Nat → Int) (i j : Nat) (x y : Int) : Int := (X j - X i) * (y - Y i) - (Y j - Y i) * (x - X i)
theorem hu_turnI {xi yi xj yj x y : Int32} (h1 : hu_B xi) (h2 : hu_B yi) (h3 : hu_B xj) (h4 : hu_B yj) (h5 : hu_B x) (h6 : hu_B y) :
    ((xj - xi) * (y - yi) - (yj - yi) * (x - xi)).toInt = (xj.toInt - xi.toInt) * (y.toInt - yi.toInt) - (yj.toInt - yi.toInt) * (x.toInt - xi.toInt) := by
  obtain ⟨p1, q1⟩ := h1
  obtain ⟨p2, q2⟩ := h2
  obtain ⟨p3, q3⟩ := h3
  obtain ⟨p4, q4⟩ := h4
  obtain ⟨p5, q5⟩ := h5
  obtain ⟨p6, q6⟩ := h6
  have s1 : (xj - xi).toInt = xj.toInt - xi.toInt := hu_sub (by omega) (by omega)
  have s2 : (y - yi).toInt = y.toInt - yi.toInt := hu_sub (by omega) (by omega)
  have s3 : (yj - yi).toInt = yj.toInt - yi.toInt := hu_sub (by omega) (by omega)
  have s4 : (x - xi).toInt = x.toInt - xi.toInt := hu_sub (by omega) (by omega)
  have m1 : ((xj - xi) * (y - yi)).toInt = (xj - xi).toInt * (y - yi).toInt := hu_mul 40 40 (by omega) (by omega) (by omega) (by omega) (by omega)
  have m2 : ((yj - yi) * (x - xi)).toInt = (yj - yi).toInt * (x - xi).toInt := hu_mul 40 40 (by omega) (by omega) (by omega) (by omega) (by omega)
  have b1 := hu_mb (a := (xj - xi).toInt) (b := (y - yi).toInt) 40 40 (by omega) (by omega) (by omega) (by omega)
  have b2 := hu_mb (a := (yj - yi).toInt) (b := (x - xi).toInt) 40 40 (by omega) (by omega) (by omega) (by omega)
  rw [hu_sub (by rw [m1, m2]; omega) (by rw [m1, m2]; omega), m1, m2, s1, s2, s3, s4]
theorem hu_turn {post : Int32 → Prop} {fc fr fk : Int32} {a1 a2 a3 a4 a5 a6 a7 : Nat → Int32} {i j : Nat} {x y : Int32} (hi : i < 84) (hj : j < 84) (b1 : hu_B (a6 i) ∧ hu_B (a7 i)) (b2 : hu_B (a6 j) ∧ hu_B (a7 j)) (hx : hu_B x) (hy : hu_B y)
    (hp : ∀ r : Int32, r.toInt = hu_tn (hu_I a6) (hu_I a7) i j x.toInt y.toInt → post r) : wpX_turn post (fc, fr, fk, a1, a2, a3, a4, a5, a6, a7) (nI i) (nI j) x y := by
  unfold wpX_turn
  dsimp only
  rw [nI_clamp (show i < 2 ^ 31 by omega), nI_clamp (show j < 2 ^ 31 by omega)]
  exact ⟨pk_in j 84 hj, pk_in i 84 hi, pk_in i 84 hi, pk_in j 84 hj, pk_in i 84 hi, pk_in i 84 hi, hp _ (hu_turnI b1.1 b1.2 b2.1 b2.2 hx hy)⟩
theorem hu_addPoint {post : St1 → Prop} {fc fr : Int32} {a1 a2 a3 a4 a5 a6 a7 : Nat → Int32} {b c : Nat} {x y : Int32} (hc : c ≤ 83) (hx : hu_B x) (hy : hu_B y) (hb : ∀ i, i < c → hu_B (a6 i) ∧ hu_B (a7 i)) (I : Nat → Prop) (h0 : I c)
    (hI : ∀ d, I d → d ≤ c → b ≤ d)
    (hs : ∀ d, I d → d ≤ c → b + 2 ≤ d → hu_tn (hu_I a6) (hu_I a7) (d - 2) (d - 1) x.toInt y.toInt ≤ 0 → I (d - 1))
    (hp : ∀ d, I d → d ≤ c → post (fc, fr, nI (d + 1), a1, a2, a3, a4, a5, upd a6 d x, upd a7 d y)) :
    wpX_addPoint post (fc, fr, nI c, a1, a2, a3, a4, a5, a6, a7) (nI b) x y := by
  have ex : ∀ d, d ≤ c → I d → wX_addPoint_44 post x y fc fr (nI d) a1 a2 a3 a4 a5 a6 a7 := by
    intro d hd hId
    unfold wX_addPoint_44
    rw [nI_clamp (show d < 2 ^ 31 by omega)]
    exact ⟨pk_in d 84 (by omega), nm_e ⟨pk_in d 84 (by omega), nm_e (nm_r (nI_1 d) (hp d hId hd))⟩⟩
  have main : ∀ d, d ≤ c → I d → wX_addPoint_0 post (nI b) x y fc fr a1 a2 a3 a4 a5 a6 a7 (d + 1) (nI d) := by
    intro d
    induction d with
    | zero =>
      intro hd hId
      exact pk_lt (0 - b) 2 (fun _ => ex 0 hd hId) (fun h2 => absurd h2 (by omega)) (pk_sub (hI 0 hId hd))
    | succ d ih =>
      intro hd hId
      have hbd := hI _ hId hd
      refine pk_lt (d + 1 - b) 2 (fun _ => ex (d + 1) hd hId) (fun h2 => ?_) (pk_sub hbd)
      rw [show nI (d + 1) - 2 = nI (d + 1 - 2) from pk_sub (b := 2) (by omega), show nI (d + 1) - 1 = nI d from pk_sub (b := 1) (by omega)]
      refine hu_turn (by omega) (by omega) (hb _ (by omega)) (hb _ (by omega)) hx hy (fun r hr => br_c (fun _ => ex (d + 1) hd hId) (fun hle => nm_e ?_))
      rw [hu_lt, hu_z, hr] at hle
      exact ih (by omega) (hs (d + 1) hId hd (by omega) (by rw [show d + 1 - 1 = d by omega]; omega))
  unfold wpX_addPoint
  exact ⟨c + 1, main c (Nat.le_refl _) h0⟩
theorem hu_chLe {ne : Int → Prop} {v : Int → Int} {n : Nat} {X Y : Nat → Int} (h : hu_Ch ne v n X Y) {i j : Nat} (hij : i ≤ j) (hj : j ≤ n) : X i ≤ X j := by
  have b := (hu_chMono (X := fun k => X (i + k)) (Y := fun k => Y (i + k)) (j - i) ⟨fun k hk => h.1 (i + k) (by omega), fun k hk => h.2 (i + k) (by omega)⟩).1
  rw [show i + (j - i) = j by omega, Nat.add_zero] at b
  exact b
theorem hu_chPush {ne : Int → Prop} {v : Int → Int} {n j : Nat} {X Y X' Y' : Nat → Int} {x y : Int} (h : hu_Ch ne v n X Y) (hj : j ≤ n) (hs : hu_Seg ne v (X j) (Y j) x y) (hx : ne x) (hy : y = v x)
    (ex : ∀ i, i ≤ j → X' i = X i) (ey : ∀ i, i ≤ j → Y' i = Y i) (ex' : X' (j + 1) = x) (ey' : Y' (j + 1) = y) : hu_Ch ne v (j + 1) X' Y' := by
  refine ⟨fun i hi => ?_, fun i hi => ?_⟩
  · by_cases z : i = j + 1
    · rw [z, ex', ey']
      exact ⟨hx, hy⟩
    · rw [ex i (by omega), ey i (by omega)]
      exact h.1 i (by omega)
  · by_cases z : i = j
    · rw [z, ex j (by omega), ey j (by omega), ex', ey']
      exact hs
    · rw [ex i (by omega), ey i (by omega), ex (i + 1) (by omega), ey (i + 1) (by omega)]
      exact h.2 i (by omega)
theorem hu_chCong {ne ne' : Int → Prop} {v v' : Int → Int} {n : Nat} {X Y X' Y' : Nat → Int} (h : hu_Ch ne v n X Y) (hX : ∀ i, i ≤ n → X' i = X i) (hY : ∀ i, i ≤ n → Y' i = Y i)
    (h1 : ∀ t, ne t → ne' t ∧ v' t = v t) (h2 : ∀ t, t ≤ X n → ne' t → ne t) : hu_Ch ne' v' n X' Y' := by
  refine ⟨fun i hi => ?_, fun i hi => ?_⟩
  · obtain ⟨a, b⟩ := h.1 i hi
    rw [hX i hi, hY i hi]
    exact ⟨(h1 _ a).1, by rw [b, (h1 _ a).2]⟩
  · rw [hX i (by omega), hY i (by omega), hX (i + 1) (by omega), hY (i + 1) (by omega)]
    obtain ⟨a, b⟩ := h.2 i hi
    have le := hu_chLe h (show i + 1 ≤ n by omega) (Nat.le_refl n)
    refine ⟨a, fun t t0 t1 ht => ?_⟩
    have nt := h2 t (by omega) ht
    rw [(h1 t nt).2]
    exact b t t0 t1 nt
theorem hu_JU {a a' : Nat → Int32} {x : Nat} (g : ∀ j, j ≠ x → a' j = a j) {t : Int} (h0 : 0 ≤ t) (h1 : t < x) : hu_J a' t = hu_J a t := by
  unfold hu_J
  rw [g t.toNat (by omega)]
theorem hu_JX (a : Nat → Int32) (x : Nat) : hu_J a (x : Int) = (a x).toInt := by
  unfold hu_J
  rw [Int.toNat_natCast]
theorem hu_Iu {a : Nat → Int32} {k i : Nat} {x : Int32} (h : i ≠ k) : hu_I (upd a k x) i = hu_I a i := by
  unfold hu_I
  rw [pk_un h]
theorem hu_Is {a : Nat → Int32} {k : Nat} {x : Int32} : hu_I (upd a k x) k = x.toInt := by
  unfold hu_I
  rw [pk_us]
theorem hu_colRngE {e : Int} {n : Nat} {A B C : Nat → Int} {lo hi : Int → Int} (h : ∀ t, 0 ≤ t → t < e → hu_Col n A B C t (lo t) (hi t)) : ∀ t, hu_ne e lo hi t → 0 ≤ lo t ∧ hi t ≤ 40 := by
  intro t a
  have z := a.2.2
  have b := (hu_colIn (h t a.1 a.2.1) (lo t)).mp ⟨Int.le_refl _, z⟩
  have c := (hu_colIn (h t a.1 a.2.1) (hi t)).mp ⟨z, Int.le_refl _⟩
  exact ⟨b.1, c.2.1⟩
theorem hu_some {post : Int32 → Prop} {fc fr fk : Int32} {a1 a2 a3 a4 a5 a6 a7 : Nat → Int32} {x : Nat} (hx : x < 41) (h0 : (a5 x).toInt < (a4 x).toInt → post 0) (h1 : (a4 x).toInt ≤ (a5 x).toInt → post 1) :
    wpX_some post (fc, fr, fk, a1, a2, a3, a4, a5, a6, a7) (nI x) := by
  unfold wpX_some
  dsimp only
  rw [nI_clamp (show x < 2 ^ 31 by omega)]
  refine ⟨pk_in x 41 hx, pk_in x 41 hx, br_c (fun z => h0 (hu_lt.mp z)) (fun z => h1 ?_)⟩
  rw [hu_lt] at z
  omega
/-- the lower chain over the columns below x -/
def hu_LI (nn : Nat) (a1 a2 a3 : Nat → Int32) (x : Nat) (last : Int32) (c : Nat) (a4 a5 a6 a7 : Nat → Int32) : Prop :=
  (∀ t : Int, 0 ≤ t → t < (x : Int) → hu_Col nn (hu_I a1) (hu_I a2) (hu_I a3) t (hu_J a4 t) (hu_J a5 t)) ∧
  ((last = -1 ∧ c = 0 ∧ ∀ t : Int, ¬ hu_ne (x : Int) (hu_J a4) (hu_J a5) t) ∨
   ∃ b L : Nat, c = b + 1 ∧ last = nI L ∧ L < x ∧ hu_Ch (hu_ne (x : Int) (hu_J a4) (hu_J a5)) (hu_J a4) b (hu_I a6) (hu_I a7) ∧ hu_I a6 b = (L : Int) ∧
     (∀ i : Nat, i ≤ b → (i : Int) ≤ hu_I a6 i) ∧ ∀ t : Int, hu_ne (x : Int) (hu_J a4) (hu_J a5) t → hu_I a6 0 ≤ t ∧ t ≤ (L : Int))
theorem hu_colsUp {nn x : Nat} {a1 a2 a3 a4 a5 a4' a5' : Nat → Int32} (h : ∀ t : Int, 0 ≤ t → t < (x : Int) → hu_Col nn (hu_I a1) (hu_I a2) (hu_I a3) t (hu_J a4 t) (hu_J a5 t))
    (g1 : ∀ j, j ≠ x → a4' j = a4 j) (g2 : ∀ j, j ≠ x → a5' j = a5 j) (g3 : hu_Col nn (hu_I a1) (hu_I a2) (hu_I a3) (x : Int) (a4' x).toInt (a5' x).toInt) :
    ∀ t : Int, 0 ≤ t → t < ((x + 1 : Nat) : Int) → hu_Col nn (hu_I a1) (hu_I a2) (hu_I a3) t (hu_J a4' t) (hu_J a5' t) := by
  intro t t0 t1
  by_cases z : t = x
  · rw [z, hu_JX, hu_JX]
    exact g3
  · rw [hu_JU g1 t0 (by omega), hu_JU g2 t0 (by omega)]
    exact h t t0 (by omega)
theorem hu_neUp {x : Nat} {a4 a5 a4' a5' : Nat → Int32} (g1 : ∀ j, j ≠ x → a4' j = a4 j) (g2 : ∀ j, j ≠ x → a5' j = a5 j) {t : Int} (h : hu_ne (x : Int) (hu_J a4) (hu_J a5) t) :
    hu_ne ((x + 1 : Nat) : Int) (hu_J a4') (hu_J a5') t ∧ hu_J a4' t = hu_J a4 t := by
  obtain ⟨h0, h1, h2⟩ := h
  have e1 := hu_JU g1 h0 h1
  have e2 := hu_JU g2 h0 h1
  exact ⟨⟨h0, by omega, by rw [e1, e2]; exact h2⟩, e1⟩
theorem hu_neDn {x : Nat} {a4 a5 a4' a5' : Nat → Int32} (g1 : ∀ j, j ≠ x → a4' j = a4 j) (g2 : ∀ j, j ≠ x → a5' j = a5 j) {t : Int} (h : hu_ne ((x + 1 : Nat) : Int) (hu_J a4') (hu_J a5') t) (hx : t ≠ (x : Int)) :
    hu_ne (x : Int) (hu_J a4) (hu_J a5) t := by
  obtain ⟨h0, h1, h2⟩ := h
  have e1 := hu_JU g1 h0 (show t < (x : Int) by omega)
  have e2 := hu_JU g2 h0 (show t < (x : Int) by omega)
  exact ⟨h0, by omega, by rw [← e1, ← e2]; exact h2⟩
theorem hu_stepE {nn x c : Nat} {last : Int32} {a1 a2 a3 a4 a5 a6 a7 a4' a5' : Nat → Int32} (hL : hu_LI nn a1 a2 a3 x last c a4 a5 a6 a7)
    (g1 : ∀ j, j ≠ x → a4' j = a4 j) (g2 : ∀ j, j ≠ x → a5' j = a5 j) (g3 : hu_Col nn (hu_I a1) (hu_I a2) (hu_I a3) (x : Int) (a4' x).toInt (a5' x).toInt) (he : (a5' x).toInt < (a4' x).toInt) :
    hu_LI nn a1 a2 a3 (x + 1) last c a4' a5' a6 a7 := by
  have dn : ∀ t, hu_ne ((x + 1 : Nat) : Int) (hu_J a4') (hu_J a5') t → hu_ne (x : Int) (hu_J a4) (hu_J a5) t := by
    intro t ht
    refine hu_neDn g1 g2 ht (fun z => ?_)
    have := ht.2.2
    rw [z, hu_JX, hu_JX] at this
    omega
  obtain ⟨cols, h⟩ := hL
  refine ⟨hu_colsUp cols g1 g2 g3, ?_⟩
  rcases h with ⟨h1, h2, h3⟩ | ⟨b, L, h1, h2, h3, h4, h5, h6, h7⟩
  · exact Or.inl ⟨h1, h2, fun t ht => h3 t (dn t ht)⟩
  · exact Or.inr ⟨b, L, h1, h2, by omega, hu_chCong h4 (fun _ _ => rfl) (fun _ _ => rfl) (fun t ht => hu_neUp g1 g2 ht) (fun t _ ht => dn t ht), h5, h6, fun t ht => h7 t (dn t ht)⟩
theorem hu_lowAdd {post : St1 → Prop} {nn x c : Nat} {fr last : Int32} {a1 a2 a3 a4 a5 a6 a7 a4' a5' : Nat → Int32} (hx : x < 41) (hL : hu_LI nn a1 a2 a3 x last c a4 a5 a6 a7)
    (g1 : ∀ j, j ≠ x → a4' j = a4 j) (g2 : ∀ j, j ≠ x → a5' j = a5 j) (g3 : hu_Col nn (hu_I a1) (hu_I a2) (hu_I a3) (x : Int) (a4' x).toInt (a5' x).toInt) (hn : (a4' x).toInt ≤ (a5' x).toInt)
    (hp : ∀ (d : Nat) (a6' a7' : Nat → Int32), hu_LI nn a1 a2 a3 (x + 1) (nI x) d a4' a5' a6' a7' → post (nI nn, fr, nI d, a1, a2, a3, a4', a5', a6', a7')) :
    wpX_addPoint post (nI nn, fr, nI c, a1, a2, a3, a4', a5', a6, a7) (nI 0) (nI x) (a4' x) := by
  obtain ⟨cols, h⟩ := hL
  have cols' := hu_colsUp cols g1 g2 g3
  have rng := hu_colRngE cols'
  have ex : (nI x).toInt = (x : Int) := nI_toInt (by omega)
  have jx := hu_JX a4' x
  have jx5 := hu_JX a5' x
  have nx : hu_ne ((x + 1 : Nat) : Int) (hu_J a4') (hu_J a5') (x : Int) := ⟨by omega, by omega, by rw [jx, jx5]; exact hn⟩
  have rx := rng _ nx
  have bx : hu_B (nI x) := ⟨by omega, by omega⟩
  have by' : hu_B (a4' x) := ⟨by omega, by omega⟩
  rcases h with ⟨h1, h2, h3⟩ | ⟨b, L, h1, h2, h3, h4, h5, h6, h7⟩
  · subst h2
    refine hu_addPoint (by omega) bx by' (fun i hi => absurd hi (by omega)) (fun d => d = 0) rfl (fun d _ _ => by omega) (fun d hd _ h2 _ => absurd h2 (by omega)) (fun d hd _ => ?_)
    subst hd
    refine hp _ _ _ ⟨cols', Or.inr ⟨0, x, rfl, rfl, by omega, ⟨fun i hi => ?_, fun i hi => absurd hi (by omega)⟩, ?_, fun i hi => ?_, fun t ht => ?_⟩⟩
    · rw [show i = 0 by omega, hu_Is, hu_Is, ex]
      exact ⟨nx, by rw [jx]⟩
    · rw [hu_Is, ex]
    · rw [show i = 0 by omega, hu_Is, ex]
      omega
    · rw [hu_Is, ex]
      by_cases z : t = x
      · omega
      · exact absurd (hu_neDn g1 g2 ht z) (h3 t)
  · subst h1
    have up := fun t (ht : hu_ne (x : Int) (hu_J a4) (hu_J a5) t) => hu_neUp (a4' := a4') (a5' := a5') g1 g2 ht
    have ch : hu_Ch (hu_ne ((x + 1 : Nat) : Int) (hu_J a4') (hu_J a5')) (hu_J a4') b (hu_I a6) (hu_I a7) :=
      hu_chCong h4 (fun _ _ => rfl) (fun _ _ => rfl) up (fun t tb ht => hu_neDn g1 g2 ht (by omega))
    have nodes : ∀ i, i < b + 1 → hu_B (a6 i) ∧ hu_B (a7 i) := by
      intro i hi
      obtain ⟨p, q⟩ := ch.1 i (by omega)
      have r := rng _ p
      obtain ⟨p1, p2, p3⟩ := p
      have e6 : (a6 i).toInt = hu_I a6 i := rfl
      have e7 : (a7 i).toInt = hu_I a7 i := rfl
      exact ⟨⟨by omega, by omega⟩, ⟨by omega, by omega⟩⟩
    have hb := h6 b (Nat.le_refl b)
    refine hu_addPoint (by omega) bx by' nodes (fun d => ∃ j, d = j + 1 ∧ j ≤ b ∧ hu_Seg (hu_ne ((x + 1 : Nat) : Int) (hu_J a4') (hu_J a5')) (hu_J a4') (hu_I a6 j) (hu_I a7 j) (x : Int) (a4' x).toInt)
      ⟨b, rfl, Nat.le_refl b, hu_segNew (by omega) (ch.1 b (Nat.le_refl b)).2 jx.symm (fun t t0 t1 ht => ?_)⟩ (fun d _ _ => by omega) (fun d hd hdc h2 htn => ?_) (fun d hd hdc => ?_)
    · have := (h7 t (hu_neDn g1 g2 ht (by omega))).2
      omega
    · obtain ⟨j, j1, j2, j3⟩ := hd
      subst j1
      obtain ⟨k, hk⟩ : ∃ k, j = k + 1 := ⟨j - 1, by omega⟩
      subst hk
      refine ⟨k, by omega, by omega, hu_segPop (ch.2 k (by omega)) j3 ?_⟩
      rw [show k + 1 + 1 - 2 = k by omega, show k + 1 + 1 - 1 = k + 1 by omega, ex] at htn
      exact htn
    · obtain ⟨j, j1, j2, j3⟩ := hd
      subst j1
      have sl := j3.1
      refine hp _ _ _ ⟨cols', Or.inr ⟨j + 1, x, rfl, rfl, by omega, hu_chPush ch j2 j3 nx jx.symm (fun i hi => hu_Iu (by omega)) (fun i hi => hu_Iu (by omega)) (by rw [hu_Is, ex]) hu_Is, ?_, fun i hi => ?_, fun t ht => ?_⟩⟩
      · rw [hu_Is, ex]
      · by_cases z : i = j + 1
        · rw [z, hu_Is, ex]
          have := h6 j j2
          omega
        · rw [hu_Iu z]
          exact h6 i (by omega)
      · rw [hu_Iu (by omega)]
        by_cases z : t = x
        · have := hu_chLe ch (show 0 ≤ b by omega) (Nat.le_refl b)
          omega
        · have := h7 t (hu_neDn g1 g2 ht z)
          omega
end
section
/-! the upper chain, and prepare as a whole -/
def hu_P (nn : Nat) (a1 a2 a3 : Nat → Int32) (k : Nat) (a4 a5 a6 a7 : Nat → Int32) : Prop :=
  (∀ t : Int, 0 ≤ t → t < 41 → hu_Col nn (hu_I a1) (hu_I a2) (hu_I a3) t (hu_J a4 t) (hu_J a5 t)) ∧ hu_Hull (hu_J a4) (hu_J a5) k (hu_I a6) (hu_I a7)
def hu_UI (a4 a5 : Nat → Int32) (b L j c : Nat) (a6 a7 : Nat → Int32) : Prop :=
  hu_Ch (hu_ne 41 (hu_J a4) (hu_J a5)) (hu_J a4) b (hu_I a6) (hu_I a7) ∧ hu_I a6 b = (L : Int) ∧ (∀ t : Int, hu_ne 41 (hu_J a4) (hu_J a5) t → hu_I a6 0 ≤ t ∧ t ≤ (L : Int)) ∧
  ∃ b' m : Nat, (b' = b ∨ (b' = b + 1 ∧ hu_J a4 (L : Int) < hu_J a5 (L : Int))) ∧ c = b' + m + 1 ∧ hu_I a6 b' = (L : Int) ∧
    hu_Ch (fun t => hu_ne 41 (hu_J a4) (hu_J a5) (-t)) (fun t => -hu_J a5 (-t)) m (fun i => -hu_I a6 (b' + i)) (fun i => -hu_I a7 (b' + i)) ∧
    (∀ i : Nat, i ≤ m → (i : Int) ≤ (L : Int) - hu_I a6 (b' + i)) ∧ (j : Int) ≤ hu_I a6 (b' + m) ∧ ∀ t : Int, hu_ne 41 (hu_J a4) (hu_J a5) t → (j : Int) ≤ t → hu_I a6 (b' + m) ≤ t
theorem hu_chEq {ne : Int → Prop} {v : Int → Int} {n : Nat} {X Y X' Y' : Nat → Int} (h : hu_Ch ne v n X Y) (hX : ∀ i, i ≤ n → X' i = X i) (hY : ∀ i, i ≤ n → Y' i = Y i) : hu_Ch ne v n X' Y' :=
  hu_chCong h hX hY (fun _ ht => ⟨ht, rfl⟩) (fun _ _ ht => ht)
theorem hu_upAdd {post : St1 → Prop} {fc fr : Int32} {a1 a2 a3 a4 a5 a6 a7 : Nat → Int32} {b L j c : Nat} (hb : b ≤ 40) (hL : L ≤ 40)
    (rng : ∀ t, hu_ne 41 (hu_J a4) (hu_J a5) t → 0 ≤ hu_J a4 t ∧ hu_J a5 t ≤ 40) (hU : hu_UI a4 a5 b L (j + 1) c a6 a7) (hjL : j < L) (hn : (a4 j).toInt ≤ (a5 j).toInt)
    (hp : ∀ (d : Nat) (a6' a7' : Nat → Int32), hu_UI a4 a5 b L j d a6' a7' → post (fc, fr, nI d, a1, a2, a3, a4, a5, a6', a7')) :
    wpX_addPoint post (fc, fr, nI c, a1, a2, a3, a4, a5, a6, a7) (nI b) (nI j) (a5 j) := by
  obtain ⟨u1, u2, u3, b', m, v1, v2, v3, v4, v5, v6, v7⟩ := hU
  have ex : (nI j).toInt = (j : Int) := nI_toInt (by omega)
  have j4 := hu_JX a4 j
  have j5 := hu_JX a5 j
  have nx : hu_ne 41 (hu_J a4) (hu_J a5) (j : Int) := ⟨by omega, by omega, by rw [j4, j5]; exact hn⟩
  have rx := rng _ nx
  have hb' : b ≤ b' ∧ b' ≤ b + 1 := by omega
  have up : ∀ i, i ≤ m → hu_ne 41 (hu_J a4) (hu_J a5) (hu_I a6 (b' + i)) ∧ hu_I a7 (b' + i) = hu_J a5 (hu_I a6 (b' + i)) := by
    intro i hi
    obtain ⟨p, q⟩ := v4.1 i hi
    dsimp only at p q
    rw [Int.neg_neg] at p q
    exact ⟨p, by omega⟩
  have nodes : ∀ i, i < c → hu_B (a6 i) ∧ hu_B (a7 i) := by
    intro i hi
    have e6 : (a6 i).toInt = hu_I a6 i := rfl
    have e7 : (a7 i).toInt = hu_I a7 i := rfl
    by_cases z : i ≤ b
    · obtain ⟨p, q⟩ := u1.1 i z
      have r := rng _ p
      obtain ⟨p1, p2, p3⟩ := p
      exact ⟨⟨by omega, by omega⟩, ⟨by omega, by omega⟩⟩
    · obtain ⟨p, q⟩ := up (i - b') (by omega)
      rw [show b' + (i - b') = i by omega] at p q
      have r := rng _ p
      obtain ⟨p1, p2, p3⟩ := p
      exact ⟨⟨by omega, by omega⟩, ⟨by omega, by omega⟩⟩
  have hm := v5 m (Nat.le_refl m)
  have hm0 := (up m (Nat.le_refl m)).1.1
  have njj : hu_ne 41 (hu_J a4) (hu_J a5) (- -(j : Int)) := by
    rw [Int.neg_neg]
    exact nx
  have ejj : -(a5 j).toInt = -hu_J a5 (- -(j : Int)) := by
    rw [Int.neg_neg, j5]
  refine hu_addPoint (by omega) ⟨by omega, by omega⟩ ⟨by omega, by omega⟩ nodes
    (fun d => ∃ i, i ≤ m ∧ d = b' + i + 1 ∧ hu_Seg (fun t => hu_ne 41 (hu_J a4) (hu_J a5) (-t)) (fun t => -hu_J a5 (-t)) (-hu_I a6 (b' + i)) (-hu_I a7 (b' + i)) (-(j : Int)) (-(a5 j).toInt))
    ⟨m, Nat.le_refl m, v2, hu_segNew (by omega) (v4.1 m (Nat.le_refl m)).2 ejj (fun t t0 t1 ht => ?_)⟩ (fun d hd _ => ?_) (fun d hd hdc h2 htn => ?_) (fun d hd hdc => ?_)
  · have := v7 (-t) ht (by omega)
    omega
  · obtain ⟨i, i1, i2, _⟩ := hd
    omega
  · obtain ⟨i, i1, i2, i3⟩ := hd
    subst i2
    rw [ex] at htn
    unfold hu_tn at htn
    rcases Nat.eq_zero_or_pos i with z | z
    · exfalso
      subst z
      have hbb : b' = b + 1 := by omega
      rw [show b' + 0 + 1 - 2 = b by omega, show b' + 0 + 1 - 1 = b' by omega, v3, u2, Int.sub_self, Int.zero_mul] at htn
      have y1 : hu_I a7 b' = hu_J a5 (L : Int) := by
        have := (up 0 (by omega)).2
        rw [Nat.add_zero, v3] at this
        exact this
      have y0 : hu_I a7 b = hu_J a4 (L : Int) := by
        rw [(u1.1 b (Nat.le_refl b)).2, u2]
      rw [y1, y0] at htn
      have lt : hu_J a4 (L : Int) < hu_J a5 (L : Int) := by omega
      have pos := Int.mul_pos (show 0 < hu_J a5 (L : Int) - hu_J a4 (L : Int) by omega) (show 0 < (L : Int) - (j : Int) by omega)
      have id : (hu_J a5 (L : Int) - hu_J a4 (L : Int)) * ((j : Int) - (L : Int)) = -((hu_J a5 (L : Int) - hu_J a4 (L : Int)) * ((L : Int) - (j : Int))) := by grind
      omega
    · obtain ⟨k, hk⟩ : ∃ k, i = k + 1 := ⟨i - 1, by omega⟩
      subst hk
      refine ⟨k, by omega, by omega, hu_segPop (v4.2 k (by omega)) i3 ?_⟩
      rw [show b' + (k + 1) + 1 - 2 = b' + k by omega, show b' + (k + 1) + 1 - 1 = b' + (k + 1) by omega] at htn
      have id : (-hu_I a6 (b' + (k + 1)) - -hu_I a6 (b' + k)) * (-(a5 j).toInt - -hu_I a7 (b' + k)) - (-hu_I a7 (b' + (k + 1)) - -hu_I a7 (b' + k)) * (-(j : Int) - -hu_I a6 (b' + k)) =
          (hu_I a6 (b' + (k + 1)) - hu_I a6 (b' + k)) * ((a5 j).toInt - hu_I a7 (b' + k)) - (hu_I a7 (b' + (k + 1)) - hu_I a7 (b' + k)) * ((j : Int) - hu_I a6 (b' + k)) := by grind
      rw [id]
      exact htn
  · obtain ⟨i, i1, i2, i3⟩ := hd
    subst i2
    have sl := i3.1
    have low : ∀ s, s ≤ b → hu_I (upd a6 (b' + i + 1) (nI j)) s = hu_I a6 s := fun s hs => hu_Iu (by omega)
    refine hp _ _ _ ⟨hu_chEq u1 low (fun s hs => hu_Iu (by omega)), by rw [low b (Nat.le_refl b)]; exact u2, by rw [low 0 (by omega)]; exact u3, b', i + 1, v1, by omega, by rw [hu_Iu (by omega)]; exact v3,
      hu_chPush v4 i1 i3 njj ejj (fun s hs => ?_) (fun s hs => ?_) ?_ ?_, fun s hs => ?_, ?_, fun t _ ht => ?_⟩
    · show -hu_I (upd a6 (b' + i + 1) (nI j)) (b' + s) = -hu_I a6 (b' + s)
      rw [hu_Iu (by omega)]
    · show -hu_I (upd a7 (b' + i + 1) (a5 j)) (b' + s) = -hu_I a7 (b' + s)
      rw [hu_Iu (by omega)]
    · show -hu_I (upd a6 (b' + i + 1) (nI j)) (b' + i + 1) = -(j : Int)
      rw [hu_Is, ex]
    · show -hu_I (upd a7 (b' + i + 1) (a5 j)) (b' + i + 1) = -(a5 j).toInt
      rw [hu_Is]
    · by_cases z : s = i + 1
      · rw [z, show b' + (i + 1) = b' + i + 1 by omega, hu_Is, ex]
        have := v5 i i1
        omega
      · rw [hu_Iu (by omega)]
        exact v5 s (by omega)
    · rw [show b' + (i + 1) = b' + i + 1 by omega, hu_Is, ex]
      omega
    · rw [show b' + (i + 1) = b' + i + 1 by omega, hu_Is, ex]
      exact ht
/-- the end of prepare -/
theorem hu_end {post : St1 → Prop} {fc fr : Int32} {nn : Nat} {a1 a2 a3 a4 a5 a6 a7 : Nat → Int32} {b L c : Nat} (hb : b ≤ 40) (hL : L ≤ 40)
    (cols : ∀ t : Int, 0 ≤ t → t < 41 → hu_Col nn (hu_I a1) (hu_I a2) (hu_I a3) t (hu_J a4 t) (hu_J a5 t)) (hU : hu_UI a4 a5 b L 0 c a6 a7)
    (hp : ∀ k : Nat, hu_P nn a1 a2 a3 k a4 a5 a6 a7 → post (fc, fr, nI k, a1, a2, a3, a4, a5, a6, a7)) :
    ((nI c ≤ 1 → (post (fc, fr, nI c, a1, a2, a3, a4, a5, a6, a7))) ∧ (¬ nI c ≤ 1 → (vp_in (nI c - 1) 84 ∧ ((((a6 (nI c - 1).toNatClampNeg) = (a6 0) → (vp_in (nI c - 1) 84 ∧ ((((a7 (nI c - 1).toNatClampNeg) = (a7 0) → (∀ f_11 : Int32, f_11 = nI c - 1 → (post (fc, fr, f_11, a1, a2, a3, a4, a5, a6, a7)))) ∧ (¬ (a7 (nI c - 1).toNatClampNeg) = (a7 0) → (post (fc, fr, nI c, a1, a2, a3, a4, a5, a6, a7))))))) ∧ (¬ (a6 (nI c - 1).toNatClampNeg) = (a6 0) → (post (fc, fr, nI c, a1, a2, a3, a4, a5, a6, a7)))))))) := by
  obtain ⟨u1, u2, u3, b', m, v1, v2, v3, v4, v5, v6, v7⟩ := hU
  have hm := v5 m (Nat.le_refl m)
  have hm0 := (v4.1 m (Nat.le_refl m)).1.1
  rw [Int.neg_neg] at hm0
  obtain ⟨f1, f2⟩ := hu_final (c := c) (hu_colCv cols) (hu_colRng cols) u1 v4 (by omega) (by rw [v3, u2]) (fun t ht => (u3 t ht).1) (fun t ht => by rw [u2]; exact (u3 t ht).2) (fun t ht => v7 t ht (by have := ht.1; omega)) v2 (by omega)
  refine pk_le c 1 (fun _ => hp c ⟨cols, f1⟩) (fun h2 => ?_)
  rw [show nI c - 1 = nI (c - 1) from pk_sub (b := 1) (by omega), nI_clamp (show c - 1 < 2 ^ 31 by omega)]
  refine ⟨pk_in (c - 1) 84 (by omega), br_c (fun e1 => ⟨pk_in (c - 1) 84 (by omega), br_c (fun e2 => nm_e (hp (c - 1) ⟨cols, f2 (by omega) ?_ ?_⟩)) (fun _ => hp c ⟨cols, f1⟩)⟩) (fun _ => hp c ⟨cols, f1⟩)⟩
  · unfold hu_I
    rw [e1]
  · unfold hu_I
    rw [e2]
theorem hu_up {post : St1 → Prop} {fr : Int32} {nn : Nat} {a1 a2 a3 a4 a5 : Nat → Int32} {b L : Nat} (hb : b ≤ 40) (hL : L ≤ 40)
    (cols : ∀ t : Int, 0 ≤ t → t < 41 → hu_Col nn (hu_I a1) (hu_I a2) (hu_I a3) t (hu_J a4 t) (hu_J a5 t))
    (hp : ∀ (k : Nat) (a6 a7 : Nat → Int32), hu_P nn a1 a2 a3 k a4 a5 a6 a7 → post (nI nn, fr, nI k, a1, a2, a3, a4, a5, a6, a7)) :
    ∀ j, j ≤ L → ∀ (c : Nat) (a6 a7 : Nat → Int32), hu_UI a4 a5 b L j c a6 a7 → wX_prepare_75 post (nI L) (nI b) (j + 1) (nI j + (-1)) (nI nn) fr (nI c) a1 a2 a3 a4 a5 a6 a7 := by
  intro j
  induction j with
  | zero =>
    intro _ c a6 a7 hU
    exact br_t (by decide) (hu_end hb hL cols hU (fun k h => hp k a6 a7 h))
  | succ j ih =>
    intro hj c a6 a7 hU
    rw [pk_m1]
    refine br_f (nI_pos (by omega)) (hu_some (by omega) (fun he => br_t rfl (nm_e (ih (by omega) c a6 a7 ?_))) (fun hn => br_f (by decide) (br_f ?_ ?_)))
    · obtain ⟨u1, u2, u3, b', m, v1, v2, v3, v4, v5, v6, v7⟩ := hU
      refine ⟨u1, u2, u3, b', m, v1, v2, v3, v4, v5, by omega, fun t ht tj => v7 t ht ?_⟩
      by_cases z : t = (j : Int)
      · have := ht.2.2
        rw [z, hu_JX, hu_JX] at this
        omega
      · omega
    · intro z
      rw [nI_eq (by omega) (by omega)] at z
      omega
    · unfold wX_prepare_107
      rw [nI_clamp (show j < 2 ^ 31 by omega)]
      exact ⟨pk_in j 41 (by omega), hu_upAdd hb hL (hu_colRng cols) hU (by omega) hn (fun d a6' a7' hh => nm_e (ih (by omega) d a6' a7' hh))⟩
theorem hu_upEntry {post : St1 → Prop} {fr : Int32} {nn : Nat} {a1 a2 a3 a4 a5 a6 a7 : Nat → Int32} {b L : Nat} (hL : L ≤ 40)
    (cols : ∀ t : Int, 0 ≤ t → t < 41 → hu_Col nn (hu_I a1) (hu_I a2) (hu_I a3) t (hu_J a4 t) (hu_J a5 t))
    (hc : hu_Ch (hu_ne 41 (hu_J a4) (hu_J a5)) (hu_J a4) b (hu_I a6) (hu_I a7)) (h5 : hu_I a6 b = (L : Int)) (h6 : ∀ i : Nat, i ≤ b → (i : Int) ≤ hu_I a6 i) (h7 : ∀ t : Int, hu_ne 41 (hu_J a4) (hu_J a5) t → hu_I a6 0 ≤ t ∧ t ≤ (L : Int))
    (hp : ∀ (k : Nat) (a6 a7 : Nat → Int32), hu_P nn a1 a2 a3 k a4 a5 a6 a7 → post (nI nn, fr, nI k, a1, a2, a3, a4, a5, a6, a7)) :
    wX_prepare_75 post (nI L) (nI b) (L + 1 + 1) (nI L) (nI nn) fr (nI (b + 1)) a1 a2 a3 a4 a5 a6 a7 := by
  have hb := h6 b (Nat.le_refl b)
  have l4 := hu_JX a4 L
  have l5 := hu_JX a5 L
  obtain ⟨nb, yb⟩ := hc.1 b (Nat.le_refl b)
  rw [h5] at nb yb
  have rng := hu_colRng cols
  have nz := nb.2.2
  have rb := rng _ nb
  have nLL : hu_ne 41 (hu_J a4) (hu_J a5) (- -(L : Int)) := by
    rw [Int.neg_neg]
    exact nb
  refine br_f (nI_pos (by omega)) (hu_some (by omega) (fun he => ?_) (fun hn => br_f (by decide) (br_t rfl ⟨pk_in L 41 (by omega), pk_in L 41 (by omega), ?_⟩)))
  · omega
  · rw [nI_clamp (show L < 2 ^ 31 by omega)]
    refine br_c (fun he => nm_e (hu_up (by omega) hL cols hp L (Nat.le_refl L) _ _ _ ⟨hc, h5, h7, b, 0, Or.inl rfl, rfl, h5, ⟨fun i hi => ?_, fun i hi => absurd hi (by omega)⟩, fun i hi => ?_, ?_, fun t ht tL => ?_⟩)) (fun hne => ?_)
    · dsimp only
      rw [show i = 0 by omega, Nat.add_zero, h5, yb]
      refine ⟨nLL, ?_⟩
      rw [Int.neg_neg, l4, l5, he]
    · rw [show i = 0 by omega, Nat.add_zero, h5]
      omega
    · rw [Nat.add_zero, h5]
      omega
    · rw [Nat.add_zero, h5]
      exact tL
    · have lt : hu_J a4 (L : Int) < hu_J a5 (L : Int) := by
        rcases Int.lt_or_eq_of_le nz with z | z
        · exact z
        · rw [l4, l5] at z
          exact absurd (Int32.toInt_inj.mp z) hne
      unfold wX_prepare_107
      rw [nI_clamp (show L < 2 ^ 31 by omega)]
      have ex : (nI L).toInt = (L : Int) := nI_toInt (by omega)
      refine ⟨pk_in L 41 (by omega), hu_addPoint (by omega) ⟨by omega, by omega⟩ ⟨by omega, by omega⟩ (fun i hi => ?_) (fun d => d = b + 1) rfl (fun d hd _ => by omega) (fun d hd _ h2 _ => absurd h2 (by omega)) (fun d hd _ => ?_)⟩
      · obtain ⟨p, q⟩ := hc.1 i (by omega)
        have r := rng _ p
        obtain ⟨p1, p2, p3⟩ := p
        have e6 : (a6 i).toInt = hu_I a6 i := rfl
        have e7 : (a7 i).toInt = hu_I a7 i := rfl
        exact ⟨⟨by omega, by omega⟩, ⟨by omega, by omega⟩⟩
      · subst hd
        have low : ∀ s, s ≤ b → hu_I (upd a6 (b + 1) (nI L)) s = hu_I a6 s := fun s hs => hu_Iu (by omega)
        refine nm_e (hu_up (by omega) hL cols hp L (Nat.le_refl L) _ _ _ ⟨hu_chEq hc low (fun s hs => hu_Iu (by omega)), by rw [low b (Nat.le_refl b)]; exact h5, by rw [low 0 (by omega)]; exact h7,
          b + 1, 0, Or.inr ⟨rfl, lt⟩, rfl, by rw [hu_Is, ex], ⟨fun i hi => ?_, fun i hi => absurd hi (by omega)⟩, fun i hi => ?_, ?_, fun t ht tL => ?_⟩)
        · dsimp only
          rw [show i = 0 by omega, Nat.add_zero, hu_Is, hu_Is, ex]
          refine ⟨nLL, ?_⟩
          rw [Int.neg_neg, l5]
        · rw [show i = 0 by omega, Nat.add_zero, hu_Is, ex]
          omega
        · rw [Nat.add_zero, hu_Is, ex]
          omega
        · rw [Nat.add_zero, hu_Is, ex]
          exact tL
theorem hu_low {post : St1 → Prop} {fr : Int32} {nn : Nat} {a1 a2 a3 : Nat → Int32} (hK : hu_K nn a1 a2 a3)
    (hp : ∀ (k : Nat) (a4 a5 a6 a7 : Nat → Int32), hu_P nn a1 a2 a3 k a4 a5 a6 a7 → post (nI nn, fr, nI k, a1, a2, a3, a4, a5, a6, a7)) :
    ∀ e x : Nat, x + e = 41 → ∀ (last : Int32) (c : Nat) (a4 a5 a6 a7 : Nat → Int32), hu_LI nn a1 a2 a3 x last c a4 a5 a6 a7 → wX_prepare_22 post (e + 1) last (nI x) (nI nn) fr (nI c) a1 a2 a3 a4 a5 a6 a7 := by
  intro e
  induction e with
  | zero =>
    intro x hx last c a4 a5 a6 a7 h
    have hx' : x = 41 := by omega
    subst hx'
    refine pk_le 41 41 (fun _ => ?_) (fun z => absurd z (by omega))
    obtain ⟨cols, h⟩ := h
    rcases h with ⟨h1, h2, h3⟩ | ⟨b, L, h1, h2, h3, h4, h5, h6, h7⟩
    · subst h1
      subst h2
      refine br_f (by decide) (hp 0 a4 a5 a6 a7 ⟨cols, hu_empty (fun t t0 t1 => ?_)⟩)
      by_cases z : hu_J a4 t ≤ hu_J a5 t
      · exact absurd ⟨t0, by omega, z⟩ (h3 t)
      · omega
    · subst h1
      subst h2
      refine br_t (nI_pos' (by omega)) (nm_r (nI_pred b) ⟨L + 1 + 1, hu_upEntry (by omega) cols h4 h5 h6 h7 (fun k a6 a7 hh => hp k a4 a5 a6 a7 hh)⟩)
  | succ e ih =>
    intro x hx last c a4 a5 a6 a7 h
    refine pk_le 41 x (fun z => absurd z (by omega)) (fun _ => hu_fill (by omega) hK (fun a4' a5' g1 g2 g3 => ?_))
    refine hu_some (by omega) (fun he => br_t rfl (nm_r (nI_1 x) (ih (x + 1) (by omega) last c a4' a5' a6 a7 (hu_stepE h g1 g2 g3 he)))) (fun hn => br_f (by decide) ⟨pk_in x 41 (by omega), ?_⟩)
    rw [nI_clamp (show x < 2 ^ 31 by omega)]
    exact hu_lowAdd (by omega) h g1 g2 g3 hn (fun d a6' a7' hh => nm_r (nI_1 x) (ih (x + 1) (by omega) (nI x) d a4' a5' a6' a7' hh))
theorem hu_prepare {post : St1 → Prop} {fr fk : Int32} {nn : Nat} {a1 a2 a3 a4 a5 a6 a7 : Nat → Int32} (hK : hu_K nn a1 a2 a3) (h : fr = 0 ∨ ∃ k : Nat, fk = nI k ∧ hu_P nn a1 a2 a3 k a4 a5 a6 a7)
    (hp : ∀ (fr' : Int32) (k : Nat) (a4' a5' a6' a7' : Nat → Int32), ¬ fr' = 0 → hu_P nn a1 a2 a3 k a4' a5' a6' a7' → post (nI nn, fr', nI k, a1, a2, a3, a4', a5', a6', a7')) :
    wpX_prepare post (nI nn, fr, fk, a1, a2, a3, a4, a5, a6, a7) := by
  unfold wpX_prepare
  refine br_c (fun _ => ⟨41 + 1, ?_⟩) (fun z => ?_)
  · refine hu_low hK (fun k a4 a5 a6 a7 hh => hp 1 k a4 a5 a6 a7 (by decide) hh) 41 0 (by omega) (-1) 0 a4 a5 a6 a7 ⟨fun t t0 t1 => absurd t1 (by omega), Or.inl ⟨rfl, rfl, fun t ht => ?_⟩⟩
    obtain ⟨t0, t1, _⟩ := ht
    omega
  · rcases h with h | ⟨k, h1, h2⟩
    · exact absurd h z
    · rw [h1]
      exact hp fr k a4 a5 a6 a7 z h2
end
section
/-! the questions over a prepared state -/
theorem hu_pointsL {post : Int32 → St1 → Prop} {fc fr fk : Int32} {a1 a2 a3 a4 a5 a6 a7 : Nat → Int32} (rng : ∀ t, hu_ne 41 (hu_J a4) (hu_J a5) t → 0 ≤ hu_J a4 t ∧ hu_J a5 t ≤ 40)
    (hp : ∀ r : Int32, r.toInt = hu_R (hu_cnt (hu_J a4) (hu_J a5)) 0 41 → post r (fc, fr, fk, a1, a2, a3, a4, a5, a6, a7)) : ∃ n, wX_points_8 post fc fr fk a1 a2 a3 a4 a5 a6 a7 n 0 0 := by
  refine pk_loop (σ := Int32) (fun n i s => wX_points_8 post fc fr fk a1 a2 a3 a4 a5 a6 a7 n s (nI i)) (fun i s => s.toInt = hu_R (hu_cnt (hu_J a4) (hu_J a5)) 0 i ∧ 0 ≤ s.toInt ∧ s.toInt ≤ 41 * (i : Int)) 41 0 0 (by omega) ⟨rfl, by rw [hu_z]; omega, by rw [hu_z]; omega⟩ ?_ ?_
  · intro n s h
    exact pk_le 41 41 (fun _ => hp s h.1) (fun z => absurd z (by omega))
  · intro n i s hi h hw
    obtain ⟨h1, h2, h3⟩ := h
    have e4 := hu_JX a4 i
    have e5 := hu_JX a5 i
    have st : hu_R (hu_cnt (hu_J a4) (hu_J a5)) 0 (i + 1) = hu_R (hu_cnt (hu_J a4) (hu_J a5)) 0 i + hu_cnt (hu_J a4) (hu_J a5) (i : Int) := by
      show hu_R (hu_cnt (hu_J a4) (hu_J a5)) 0 i + hu_cnt (hu_J a4) (hu_J a5) (0 + (i : Int)) = _
      rw [Int.zero_add]
    refine pk_le 41 i (fun z => absurd z (by omega)) (fun _ => hu_some hi (fun he => br_t rfl (nm_r (nI_1 i) (hw s ⟨?_, h2, by omega⟩))) (fun hn => br_f (by decide) ⟨pk_in i 41 hi, pk_in i 41 hi, ?_⟩))
    · rw [st]
      unfold hu_cnt
      rw [if_neg (by omega)]
      unfold hu_cnt at h1
      omega
    · rw [nI_clamp (show i < 2 ^ 31 by omega)]
      have rg := rng (i : Int) ⟨by omega, by omega, by omega⟩
      have s1 : (a5 i - a4 i).toInt = (a5 i).toInt - (a4 i).toInt := hu_sub (by omega) (by omega)
      have o1 : (1 : Int32).toInt = 1 := rfl
      have s2 : (a5 i - a4 i + 1).toInt = (a5 i).toInt - (a4 i).toInt + 1 := by
        rw [hu_add (by omega) (by omega), s1, o1]
      have s3 : (s + (a5 i - a4 i + 1)).toInt = s.toInt + ((a5 i).toInt - (a4 i).toInt + 1) := by
        rw [hu_add (by omega) (by omega), s2]
      refine nm_e (nm_r (nI_1 i) (hw _ ⟨?_, by omega, by omega⟩))
      have ec : hu_cnt (hu_J a4) (hu_J a5) (i : Int) = (a5 i).toInt - (a4 i).toInt + 1 := by
        unfold hu_cnt
        rw [if_pos (by omega), e4, e5]
      rw [st, s3, ec, h1]
theorem hu_points {post : Int32 → St1 → Prop} {fc fr fk : Int32} {a1 a2 a3 a4 a5 a6 a7 : Nat → Int32} (hr : ¬ fr = 0) (rng : ∀ t, hu_ne 41 (hu_J a4) (hu_J a5) t → 0 ≤ hu_J a4 t ∧ hu_J a5 t ≤ 40)
    (hp : ∀ r : Int32, r.toInt = hu_R (hu_cnt (hu_J a4) (hu_J a5)) 0 41 → post r (fc, fr, fk, a1, a2, a3, a4, a5, a6, a7)) : wpX_points post (fc, fr, fk, a1, a2, a3, a4, a5, a6, a7) := by
  unfold wpX_points wpX_prepare
  exact br_f hr (hu_pointsL rng hp)
theorem hu_pointsG {post : Int32 → St1 → Prop} {fr fk : Int32} {nn : Nat} {a1 a2 a3 a4 a5 a6 a7 : Nat → Int32} (hK : hu_K nn a1 a2 a3) (h : fr = 0 ∨ ∃ k : Nat, fk = nI k ∧ hu_P nn a1 a2 a3 k a4 a5 a6 a7)
    (hp : ∀ (fr' : Int32) (k : Nat) (a4' a5' a6' a7' : Nat → Int32) (r : Int32), ¬ fr' = 0 → hu_P nn a1 a2 a3 k a4' a5' a6' a7' → r.toInt = hu_R (hu_cnt (hu_J a4') (hu_J a5')) 0 41 → post r (nI nn, fr', nI k, a1, a2, a3, a4', a5', a6', a7')) :
    wpX_points post (nI nn, fr, fk, a1, a2, a3, a4, a5, a6, a7) := by
  unfold wpX_points
  exact hu_prepare hK h (fun fr' k a4' a5' a6' a7' hr hP => hu_pointsL (hu_colRng hP.1) (fun r e => hp fr' k a4' a5' a6' a7' r hr hP e))
theorem hu_corners {post : Int32 → St1 → Prop} {fc fr fk : Int32} {a1 a2 a3 a4 a5 a6 a7 : Nat → Int32} (hr : ¬ fr = 0) (hp : post fk (fc, fr, fk, a1, a2, a3, a4, a5, a6, a7)) : wpX_corners post (fc, fr, fk, a1, a2, a3, a4, a5, a6, a7) := by
  unfold wpX_corners wpX_prepare
  exact br_f hr hp
theorem hu_cornersG {post : Int32 → St1 → Prop} {fr fk : Int32} {nn : Nat} {a1 a2 a3 a4 a5 a6 a7 : Nat → Int32} (hK : hu_K nn a1 a2 a3) (h : fr = 0 ∨ ∃ k : Nat, fk = nI k ∧ hu_P nn a1 a2 a3 k a4 a5 a6 a7)
    (hp : ∀ (fr' : Int32) (k : Nat) (a4' a5' a6' a7' : Nat → Int32), ¬ fr' = 0 → hu_P nn a1 a2 a3 k a4' a5' a6' a7' → post (nI k) (nI nn, fr', nI k, a1, a2, a3, a4', a5', a6', a7')) :
    wpX_corners post (nI nn, fr, fk, a1, a2, a3, a4, a5, a6, a7) := by
  unfold wpX_corners
  exact hu_prepare hK h hp
theorem hu_valI {p q x y : Int32} (p1 : -100 ≤ p.toInt) (p2 : p.toInt ≤ 100) (q1 : -100 ≤ q.toInt) (q2 : q.toInt ≤ 100) (hx : 0 ≤ x.toInt ∧ x.toInt ≤ 40) (hy : 0 ≤ y.toInt ∧ y.toInt ≤ 40) : (p * x + q * y).toInt = p.toInt * x.toInt + q.toInt * y.toInt := by
  have m1 : (p * x).toInt = p.toInt * x.toInt := hu_mul 100 40 (by omega) (by omega) (by omega) (by omega) (by omega)
  have m2 : (q * y).toInt = q.toInt * y.toInt := hu_mul 100 40 (by omega) (by omega) (by omega) (by omega) (by omega)
  have b1 := hu_mb (a := p.toInt) (b := x.toInt) 100 40 (by omega) (by omega) (by omega) (by omega)
  have b2 := hu_mb (a := q.toInt) (b := y.toInt) 100 40 (by omega) (by omega) (by omega) (by omega)
  rw [hu_add (by omega) (by omega), m1, m2]
def hu_val (p q : Int) (X Y : Nat → Int) (i : Nat) : Int := p * X i + q * Y i
/-- the first corner of the greatest value -/
def hu_Arg (p q : Int) (k : Nat) (X Y : Nat → Int) (i : Nat) : Prop := i < k ∧ ∀ j, j < k → hu_val p q X Y j ≤ hu_val p q X Y i ∧ (j < i → hu_val p q X Y j < hu_val p q X Y i)
def hu_Bd (k : Nat) (X Y : Nat → Int) : Prop := k ≤ 83 ∧ ∀ i, i < k → 0 ≤ X i ∧ X i ≤ 40 ∧ 0 ≤ Y i ∧ Y i ≤ 40
def hu_Pq (p q : Int32) : Prop := (-100 ≤ p.toInt ∧ p.toInt ≤ 100) ∧ (-100 ≤ q.toInt ∧ q.toInt ≤ 100)
theorem hu_bdOf {lo hi : Int → Int} {k : Nat} {X Y : Nat → Int} (h : hu_Hull lo hi k X Y) : hu_Bd k X Y :=
  ⟨h.1, fun i hi' => ⟨(h.2.1 i hi').1, (h.2.1 i hi').2.1, (h.2.1 i hi').2.2.1, (h.2.1 i hi').2.2.2.1⟩⟩
theorem hu_badDir {post : Int32 → Prop} {p q : Int32} (h : hu_Pq p q) (hp : post 0) : wpX_badDirection post () p q := by
  obtain ⟨⟨p1, p2⟩, ⟨q1, q2⟩⟩ := h
  have e1 : (-100 : Int32).toInt = -100 := rfl
  have e2 : (100 : Int32).toInt = 100 := rfl
  unfold wpX_badDirection
  exact br_f (by rw [hu_lt, e1]; omega) (br_f (by rw [hu_lt, e2]; omega) (br_f (by rw [hu_lt, e1]; omega) (br_t (by rw [hu_le, e2]; omega) hp)))
theorem hu_bestCorner {post : Int32 → St1 → Prop} {fc fr : Int32} {k : Nat} {a1 a2 a3 a4 a5 a6 a7 : Nat → Int32} {p q : Int32} (hr : ¬ fr = 0) (hB : hu_Bd k (hu_I a6) (hu_I a7)) (hpq : hu_Pq p q)
    (h0 : k = 0 → post (-3) (fc, fr, nI k, a1, a2, a3, a4, a5, a6, a7))
    (h1 : ∀ i, hu_Arg p.toInt q.toInt k (hu_I a6) (hu_I a7) i → post (nI i) (fc, fr, nI k, a1, a2, a3, a4, a5, a6, a7)) : wpX_bestCorner post (fc, fr, nI k, a1, a2, a3, a4, a5, a6, a7) p q := by
  obtain ⟨k83, hB⟩ := hB
  unfold wpX_bestCorner
  refine hu_badDir hpq (br_t rfl ?_)
  obtain ⟨⟨p1, p2⟩, ⟨q1, q2⟩⟩ := hpq
  unfold wpX_prepare
  refine br_f hr (pk_eq k 0 (fun z => h0 z) (fun z => ?_))
  have ev : ∀ i, i < k → (p * a6 i + q * a7 i).toInt = hu_val p.toInt q.toInt (hu_I a6) (hu_I a7) i := by
    intro i hi
    obtain ⟨b1, b2, b3, b4⟩ := hB i hi
    exact hu_valI p1 p2 q1 q2 ⟨b1, b2⟩ ⟨b3, b4⟩
  refine pk_loop (σ := Nat) (fun n i s => wX_bestCorner_29 post p q fc fr (nI k) a1 a2 a3 a4 a5 a6 a7 n (nI s) (nI i))
    (fun i s => s < i ∧ ∀ j, j < i → hu_val p.toInt q.toInt (hu_I a6) (hu_I a7) j ≤ hu_val p.toInt q.toInt (hu_I a6) (hu_I a7) s ∧ (j < s → hu_val p.toInt q.toInt (hu_I a6) (hu_I a7) j < hu_val p.toInt q.toInt (hu_I a6) (hu_I a7) s))
    k 1 0 (by omega) ⟨by omega, fun j hj => ?_⟩ ?_ ?_
  · rw [show j = 0 by omega]
    exact ⟨Int.le_refl _, fun z => absurd z (by omega)⟩
  · intro n s h
    exact pk_le k k (fun _ => h1 s ⟨h.1, h.2⟩) (fun z => absurd z (by omega))
  · intro n i s hi h hw
    obtain ⟨g1, g2⟩ := h
    refine pk_le k i (fun z => absurd z (by omega)) (fun _ => ⟨pk_in i 84 (by omega), pk_in i 84 (by omega), pk_in s 84 (by omega), pk_in s 84 (by omega), ?_⟩)
    rw [nI_clamp (show i < 2 ^ 31 by omega), nI_clamp (show s < 2 ^ 31 by omega)]
    refine br_c (fun hle => nm_r (nI_1 i) (hw s ⟨by omega, fun j hj => ?_⟩)) (fun hgt => nm_r (nI_1 i) (hw i ⟨by omega, fun j hj => ?_⟩))
    · rw [hu_le, ev i hi, ev s (by omega)] at hle
      by_cases z : j = i
      · rw [z]
        exact ⟨hle, fun y => absurd y (by omega)⟩
      · exact g2 j (by omega)
    · rw [hu_le, ev i hi, ev s (by omega)] at hgt
      by_cases z : j = i
      · rw [z]
        exact ⟨Int.le_refl _, fun y => absurd y (by omega)⟩
      · have := (g2 j (by omega)).1
        exact ⟨by omega, fun _ => by omega⟩
theorem hu_best {post : Int32 → St1 → Prop} {fc fr : Int32} {k : Nat} {a1 a2 a3 a4 a5 a6 a7 : Nat → Int32} {p q : Int32} (hr : ¬ fr = 0) (hB : hu_Bd k (hu_I a6) (hu_I a7)) (hpq : hu_Pq p q)
    (h0 : k = 0 → post (-3) (fc, fr, nI k, a1, a2, a3, a4, a5, a6, a7))
    (h1 : ∀ (i : Nat) (r : Int32), hu_Arg p.toInt q.toInt k (hu_I a6) (hu_I a7) i → r.toInt = hu_val p.toInt q.toInt (hu_I a6) (hu_I a7) i → post r (fc, fr, nI k, a1, a2, a3, a4, a5, a6, a7)) : wpX_best post (fc, fr, nI k, a1, a2, a3, a4, a5, a6, a7) p q := by
  unfold wpX_best
  refine hu_bestCorner hr hB hpq (fun z => br_f (by decide) (h0 z)) (fun i hi => br_t (nI_pos' (by have := hi.1; have := hB.1; omega)) ?_)
  obtain ⟨k83, hB⟩ := hB
  have ik := hi.1
  obtain ⟨⟨p1, p2⟩, ⟨q1, q2⟩⟩ := hpq
  obtain ⟨b1, b2, b3, b4⟩ := hB i ik
  rw [nI_clamp (show i < 2 ^ 31 by omega)]
  exact ⟨pk_in i 84 (by omega), pk_in i 84 (by omega), h1 i _ hi (hu_valI p1 p2 q1 q2 ⟨b1, b2⟩ ⟨b3, b4⟩)⟩
theorem hu_corner {post : Int32 → St1 → Prop} {fc fr : Int32} {k i : Nat} {a1 a2 a3 a4 a5 a6 a7 : Nat → Int32} (hr : ¬ fr = 0) (hB : hu_Bd k (hu_I a6) (hu_I a7)) (hi : i < k)
    (hp : post (nI ((hu_I a6 i).toNat + 64 * (hu_I a7 i).toNat)) (fc, fr, nI k, a1, a2, a3, a4, a5, a6, a7)) : wpX_corner post (fc, fr, nI k, a1, a2, a3, a4, a5, a6, a7) (nI i) := by
  obtain ⟨k83, hB⟩ := hB
  obtain ⟨b1, b2, b3, b4⟩ := hB i hi
  unfold wpX_corner wpX_prepare
  refine br_f hr (br_f (nI_pos (by omega)) (br_t (nI_lt hi (by omega)) ⟨pk_in i 84 (by omega), pk_in i 84 (by omega), ?_⟩))
  rw [nI_clamp (show i < 2 ^ 31 by omega)]
  have e6 : (a6 i).toInt = hu_I a6 i := rfl
  have e7 : (a7 i).toInt = hu_I a7 i := rfl
  have e64 : (64 : Int32).toInt = 64 := rfl
  have m : (64 * a7 i).toInt = 64 * hu_I a7 i := by
    rw [hu_mul 64 40 (by omega) (by omega) (by omega) (by omega) (by omega), e64, e7]
  have e : a6 i + 64 * a7 i = nI ((hu_I a6 i).toNat + 64 * (hu_I a7 i).toNat) := by
    rw [← Int32.toInt_inj, nI_toInt (by omega), hu_add (by omega) (by omega), m, e6]
    omega
  rw [e]
  exact hp
theorem hu_cornerEnd {post : Int32 → St1 → Prop} {fc fr : Int32} {k : Nat} {a1 a2 a3 a4 a5 a6 a7 : Nat → Int32} (hr : ¬ fr = 0) (hk : k ≤ 83) (hp : post (-3) (fc, fr, nI k, a1, a2, a3, a4, a5, a6, a7)) :
    wpX_corner post (fc, fr, nI k, a1, a2, a3, a4, a5, a6, a7) (nI k) := by
  unfold wpX_corner wpX_prepare
  exact br_f hr (br_f (nI_pos (by omega)) (br_f (nI_nlt (Nat.le_refl k) (by omega)) hp))
theorem hu_has {post : Int32 → St1 → Prop} {fc fr fk : Int32} {x y : Nat} {a1 a2 a3 a4 a5 a6 a7 : Nat → Int32} (hr : ¬ fr = 0) (hx : x ≤ 40) (hy : y ≤ 40) (h1 : hu_J a4 (x : Int) ≤ (y : Int)) (h2 : (y : Int) ≤ hu_J a5 (x : Int))
    (hp : post 1 (fc, fr, fk, a1, a2, a3, a4, a5, a6, a7)) : wpX_has post (fc, fr, fk, a1, a2, a3, a4, a5, a6, a7) (nI x) (nI y) := by
  unfold wpX_has wpX_prepare
  rw [hu_JX] at h1 h2
  have ey : (nI y).toInt = (y : Int) := nI_toInt (by omega)
  refine br_f (nI_pos (by omega)) (br_f (nI_ge (b := 41) (by omega) (by decide)) (br_f (nI_pos (by omega)) (br_t (nI_lt (b := 41) (by omega) (by decide)) (br_f hr ⟨pk_in x 41 (by omega), ?_⟩))))
  rw [nI_clamp (show x < 2 ^ 31 by omega)]
  exact br_f (by rw [hu_lt, ey]; omega) ⟨pk_in x 41 (by omega), br_f (by rw [hu_lt, ey]; omega) hp⟩
end
section
/-! area2, gcd, border; sums' bounds -/
theorem hu_area2 {post : Int32 → St1 → Prop} {fc fr : Int32} {k : Nat} {a1 a2 a3 a4 a5 a6 a7 : Nat → Int32} (hr : ¬ fr = 0) (hB : hu_Bd k (hu_I a6) (hu_I a7))
    (hp : ∀ r : Int32, r.toInt = hu_S (hu_cr (hu_I a6) (hu_I a7) k) k → post r (fc, fr, nI k, a1, a2, a3, a4, a5, a6, a7)) : wpX_area2 post (fc, fr, nI k, a1, a2, a3, a4, a5, a6, a7) := by
  obtain ⟨k83, hB⟩ := hB
  unfold wpX_area2 wpX_prepare
  refine br_f hr ?_
  refine pk_loop (σ := Int32) (fun n i s => wX_area2_8 post fc fr (nI k) a1 a2 a3 a4 a5 a6 a7 n s (nI i)) (fun i s => s.toInt = hu_S (hu_cr (hu_I a6) (hu_I a7) k) i ∧ -3200 * (i : Int) ≤ s.toInt ∧ s.toInt ≤ 3200 * (i : Int)) k 0 0 (by omega) ⟨rfl, by rw [hu_z]; omega, by rw [hu_z]; omega⟩ ?_ ?_
  · intro n s h
    exact pk_le k k (fun _ => hp s h.1) (fun z => absurd z (by omega))
  · intro n i s hi h hw
    obtain ⟨h1, h2, h3⟩ := h
    have key : ∀ z, z = hu_nx k i → z < k → wX_area2_33 post (wX_area2_8 post fc fr (nI k) a1 a2 a3 a4 a5 a6 a7 n) s (nI i) (nI z) fc fr (nI k) a1 a2 a3 a4 a5 a6 a7 := by
      intro z hz zk
      unfold wX_area2_33
      rw [nI_clamp (show i < 2 ^ 31 by omega), nI_clamp (show z < 2 ^ 31 by omega)]
      refine ⟨pk_in i 84 (by omega), pk_in z 84 (by omega), pk_in z 84 (by omega), pk_in i 84 (by omega), nm_e (nm_r (nI_1 i) (hw _ ?_))⟩
      obtain ⟨b1, b2, b3, b4⟩ := hB i hi
      obtain ⟨c1, c2, c3, c4⟩ := hB z zk
      have e6 : (a6 i).toInt = hu_I a6 i := rfl
      have e7 : (a7 i).toInt = hu_I a7 i := rfl
      have f6 : (a6 z).toInt = hu_I a6 z := rfl
      have f7 : (a7 z).toInt = hu_I a7 z := rfl
      have m1 : (a6 i * a7 z).toInt = hu_I a6 i * hu_I a7 z := hu_mul 40 40 (by omega) (by omega) (by omega) (by omega) (by omega)
      have m2 : (a6 z * a7 i).toInt = hu_I a6 z * hu_I a7 i := hu_mul 40 40 (by omega) (by omega) (by omega) (by omega) (by omega)
      have d1 := hu_mb (a := hu_I a6 i) (b := hu_I a7 z) 40 40 (by omega) (by omega) (by omega) (by omega)
      have d2 := hu_mb (a := hu_I a6 z) (b := hu_I a7 i) 40 40 (by omega) (by omega) (by omega) (by omega)
      have s1 : (a6 i * a7 z - a6 z * a7 i).toInt = hu_I a6 i * hu_I a7 z - hu_I a6 z * hu_I a7 i := by
        rw [hu_sub (by omega) (by omega), m1, m2]
      have s2 : (s + (a6 i * a7 z - a6 z * a7 i)).toInt = s.toInt + (hu_I a6 i * hu_I a7 z - hu_I a6 z * hu_I a7 i) := by
        rw [hu_add (by omega) (by omega), s1]
      refine ⟨?_, by omega, by omega⟩
      show _ = hu_S (hu_cr (hu_I a6) (hu_I a7) k) i + hu_cr (hu_I a6) (hu_I a7) k i
      rw [s2, h1]
      unfold hu_cr
      rw [← hz]
    refine pk_le k i (fun z => absurd z (by omega)) (fun _ => pk_le k (i + 1) (fun hk => key 0 ?_ (by omega)) (fun hk => ?_) rfl (nI_1 i))
    · unfold hu_nx
      rw [if_neg (by omega)]
    · rw [nI_1]
      refine key (i + 1) ?_ hk
      unfold hu_nx
      rw [if_pos hk]
def hu_gl : Nat → Nat → Nat → Nat
  | 0, x, _ => x
  | f + 1, x, y => if y = 0 then x else hu_gl f y (x % y)
theorem hu_glTab : ∀ x, x < 41 → ∀ y, y < 41 → hu_gl 20 x y = Nat.gcd x y := by decide +kernel
theorem hu_gcd25 {post : Int32 → Prop} : ∀ f x y : Nat, f ≤ 20 → x < 41 → y < 41 → post (nI (hu_gl f x y)) → wX_gcd_25 post (f + 1) (nI x) (nI y) (nI (20 - f))
  | 0, x, y, _, _, _, h => pk_le 20 (20 - 0) (fun _ => h) (fun z => absurd z (by omega))
  | f + 1, x, y, hf, hx, hy, h => by
    refine pk_le 20 (20 - (f + 1)) (fun z => absurd z (by omega)) (fun _ => pk_le y 0 (fun z => ?_) (fun z => ⟨nI_ne0 z (by omega), nm_r (pk_rem (by omega) z (by omega)) (nm_r (e' := nI (20 - f)) ?_ (hu_gcd25 f y (x % y) (by omega) hy ?_ ?_))⟩))
    · have e : hu_gl (f + 1) x y = x := by
        unfold hu_gl
        rw [if_pos (by omega)]
      rw [e] at h
      exact h
    · rw [nI_1, show 20 - (f + 1) + 1 = 20 - f by omega]
    · have := Nat.mod_lt x z
      omega
    · have e : hu_gl (f + 1) x y = hu_gl f y (x % y) := by
        show (if y = 0 then x else hu_gl f y (x % y)) = _
        rw [if_neg (by omega)]
      rw [e] at h
      exact h
theorem hu_absP {p : Int32} (h : 0 ≤ p) : p = nI p.toInt.natAbs := by
  have a := p.toInt_lt
  rw [hu_le, hu_z] at h
  rw [← Int32.toInt_inj, nI_toInt (by omega)]
  omega
theorem hu_absN {p : Int32} (h : ¬ 0 ≤ p) (h2 : -40 ≤ p.toInt) : -p = nI p.toInt.natAbs := by
  rw [hu_le, hu_z] at h
  rw [← Int32.toInt_inj, nI_toInt (by omega), Jvm.Kit.i32_neg (by omega)]
  omega
theorem hu_gcd10 {post : Int32 → Prop} {x : Nat} {q : Int32} (hx : x < 41) (q1 : -40 ≤ q.toInt) (q2 : q.toInt ≤ 40) (hp : post (nI (Nat.gcd x q.toInt.natAbs))) : wX_gcd_10 post q (nI x) := by
  have main : ∃ n, wX_gcd_25 post n (nI x) (nI q.toInt.natAbs) 0 := by
    refine ⟨20 + 1, hu_gcd25 20 x q.toInt.natAbs (by omega) hx (by omega) ?_⟩
    rw [hu_glTab x hx _ (by omega)]
    exact hp
  unfold wX_gcd_10
  refine br_c (fun h => ?_) (fun h => nm_r (hu_absN h q1) main)
  rw [hu_absP h]
  exact main
theorem hu_gcd {post : Int32 → Prop} {p q : Int32} (p1 : -40 ≤ p.toInt) (p2 : p.toInt ≤ 40) (q1 : -40 ≤ q.toInt) (q2 : q.toInt ≤ 40) (hp : post (nI (Nat.gcd p.toInt.natAbs q.toInt.natAbs))) : wpX_gcd post () p q := by
  unfold wpX_gcd
  have main : wX_gcd_10 post q (nI p.toInt.natAbs) := hu_gcd10 (by omega) q1 q2 hp
  refine br_c (fun h => ?_) (fun h => ?_)
  · have e := hu_absP h
    rw [← e] at main
    exact main
  · rw [hu_absN h p1]
    exact main
theorem hu_border {post : Int32 → St1 → Prop} {fc fr : Int32} {k : Nat} {a1 a2 a3 a4 a5 a6 a7 : Nat → Int32} (hr : ¬ fr = 0) (hB : hu_Bd k (hu_I a6) (hu_I a7)) (hk : 3 ≤ k)
    (hp : ∀ r : Int32, r.toInt = hu_S (hu_gd (hu_I a6) (hu_I a7) k) k → post r (fc, fr, nI k, a1, a2, a3, a4, a5, a6, a7)) : wpX_border post (fc, fr, nI k, a1, a2, a3, a4, a5, a6, a7) := by
  obtain ⟨k83, hB⟩ := hB
  unfold wpX_border wpX_prepare
  refine br_f hr (br_t (nI_le (a := 3) hk (by omega)) ?_)
  refine pk_loop (σ := Int32) (fun n i s => wX_border_21 post fc fr (nI k) a1 a2 a3 a4 a5 a6 a7 n s (nI i)) (fun i s => s.toInt = hu_S (hu_gd (hu_I a6) (hu_I a7) k) i ∧ 0 ≤ s.toInt ∧ s.toInt ≤ 1600 * (i : Int)) k 0 0 (by omega) ⟨rfl, by rw [hu_z]; omega, by rw [hu_z]; omega⟩ ?_ ?_
  · intro n s h
    exact pk_le k k (fun _ => hp s h.1) (fun z => absurd z (by omega))
  · intro n i s hi h hw
    obtain ⟨h1, h2, h3⟩ := h
    have key : ∀ z, z = hu_nx k i → z < k → wX_border_46 post (wX_border_21 post fc fr (nI k) a1 a2 a3 a4 a5 a6 a7 n) s (nI i) (nI z) fc fr (nI k) a1 a2 a3 a4 a5 a6 a7 := by
      intro z hz zk
      unfold wX_border_46
      rw [nI_clamp (show i < 2 ^ 31 by omega), nI_clamp (show z < 2 ^ 31 by omega)]
      obtain ⟨b1, b2, b3, b4⟩ := hB i hi
      obtain ⟨c1, c2, c3, c4⟩ := hB z zk
      have e6 : (a6 i).toInt = hu_I a6 i := rfl
      have e7 : (a7 i).toInt = hu_I a7 i := rfl
      have f6 : (a6 z).toInt = hu_I a6 z := rfl
      have f7 : (a7 z).toInt = hu_I a7 z := rfl
      have s1 : (a6 z - a6 i).toInt = hu_I a6 z - hu_I a6 i := hu_sub (by omega) (by omega)
      have s2 : (a7 z - a7 i).toInt = hu_I a7 z - hu_I a7 i := hu_sub (by omega) (by omega)
      refine ⟨pk_in z 84 (by omega), pk_in i 84 (by omega), pk_in z 84 (by omega), pk_in i 84 (by omega), hu_gcd (by omega) (by omega) (by omega) (by omega) (nm_e (nm_r (nI_1 i) (hw _ ?_)))⟩
      rw [s1, s2]
      have hg : Nat.gcd (hu_I a6 z - hu_I a6 i).natAbs (hu_I a7 z - hu_I a7 i).natAbs ≤ 80 := by
        rcases Nat.eq_zero_or_pos (hu_I a6 z - hu_I a6 i).natAbs with w | w
        · rw [w, Nat.gcd_zero_left]
          omega
        · have := Nat.gcd_le_left (hu_I a7 z - hu_I a7 i).natAbs w
          omega
      have hgd : hu_gd (hu_I a6) (hu_I a7) k i = (Nat.gcd (hu_I a6 z - hu_I a6 i).natAbs (hu_I a7 z - hu_I a7 i).natAbs : Int) := by
        unfold hu_gd
        rw [← hz]
      generalize Nat.gcd (hu_I a6 z - hu_I a6 i).natAbs (hu_I a7 z - hu_I a7 i).natAbs = g at hg hgd ⊢
      have eg : (nI g).toInt = (g : Int) := nI_toInt (by omega)
      have s3 : (s + nI g).toInt = s.toInt + (g : Int) := by
        rw [hu_add (by omega) (by omega), eg]
      refine ⟨?_, by omega, by omega⟩
      show _ = hu_S (hu_gd (hu_I a6) (hu_I a7) k) i + hu_gd (hu_I a6) (hu_I a7) k i
      rw [s3, h1, hgd]
    refine pk_le k i (fun z => absurd z (by omega)) (fun _ => pk_le k (i + 1) (fun hk => key 0 ?_ (by omega)) (fun hk => ?_) rfl (nI_1 i))
    · unfold hu_nx
      rw [if_neg (by omega)]
    · rw [nI_1]
      refine key (i + 1) ?_ hk
      unfold hu_nx
      rw [if_pos hk]
theorem hu_Rbd {f : Int → Int} {s m : Int} : ∀ n : Nat, (∀ t, s ≤ t → t < s + n → 0 ≤ f t ∧ f t ≤ m) → 0 ≤ hu_R f s n ∧ hu_R f s n ≤ m * (n : Int) ∧ ∀ t, s ≤ t → t < s + n → f t ≤ hu_R f s n
  | 0, _ => by
    refine ⟨Int.le_refl _, ?_, fun t t0 t1 => ?_⟩
    · show (0 : Int) ≤ m * ((0 : Nat) : Int)
      simp
    · omega
  | n + 1, h => by
    obtain ⟨i1, i2, i3⟩ := hu_Rbd (f := f) (s := s) (m := m) n (fun t a b => h t a (by omega))
    obtain ⟨j1, j2⟩ := h (s + n) (by omega) (by omega)
    show 0 ≤ hu_R f s n + f (s + (n : Int)) ∧ hu_R f s n + f (s + (n : Int)) ≤ m * ((n + 1 : Nat) : Int) ∧ ∀ t, s ≤ t → t < s + ((n + 1 : Nat) : Int) → f t ≤ hu_R f s n + f (s + (n : Int))
    refine ⟨by omega, ?_, fun t t0 t1 => ?_⟩
    · have e : m * ((n + 1 : Nat) : Int) = m * (n : Int) + m := by
        rw [Int.natCast_add, Int.mul_add]
        simp
      omega
    · by_cases z : t = s + (n : Int)
      · rw [z]
        omega
      · have := i3 t t0 (by omega)
        omega
theorem hu_Nbd {lo hi : Int → Int} (rng : ∀ t, hu_ne 41 lo hi t → 0 ≤ lo t ∧ hi t ≤ 40) : 0 ≤ hu_R (hu_cnt lo hi) 0 41 ∧ hu_R (hu_cnt lo hi) 0 41 ≤ 1681 ∧ ∀ t, 0 ≤ t → t < 41 → lo t ≤ hi t → 0 < hu_R (hu_cnt lo hi) 0 41 := by
  obtain ⟨a, b, c⟩ := hu_Rbd (f := hu_cnt lo hi) (s := 0) (m := 41) 41 (fun t t0 t1 => by
    unfold hu_cnt
    by_cases z : lo t ≤ hi t
    · have := rng t ⟨t0, by omega, z⟩
      rw [if_pos z]
      omega
    · rw [if_neg z]
      omega)
  refine ⟨a, by omega, fun t t0 t1 z => ?_⟩
  have d := c t t0 (by omega)
  unfold hu_cnt at d ⊢
  rw [if_pos z] at d
  omega
end
section
/-! the law's two checks -/
theorem hu_c63 {x y : Nat} (hx : x ≤ 40) (hy : y ≤ 40) : nI (x + 64 * y) &&& 63 = nI x := by
  rw [pk_andN (by omega) 6 (by decide)]
  congr 1
  omega
theorem hu_c6 {x y : Nat} (hx : x ≤ 40) (hy : y ≤ 40) : nI (x + 64 * y) >>> ((6 : Int32) &&& 31) = nI y := by
  rw [pk_shrN (by omega) _ 6 (by decide)]
  congr 1
  omega
theorem hu_chk76 {post : Int32 → St1 → Prop} {fc fr : Int32} {nn k : Nat} {a1 a2 a3 a4 a5 a6 a7 : Nat → Int32} {z : Int32} (hr : ¬ fr = 0) (hP : hu_P nn a1 a2 a3 k a4 a5 a6 a7)
    (hp : post 1 (fc, fr, nI k, a1, a2, a3, a4, a5, a6, a7)) : wL_corners_76 post (nI k) z z fc fr (nI k) a1 a2 a3 a4 a5 a6 a7 := by
  obtain ⟨cols, hH⟩ := hP
  have rng := hu_colRng cols
  have hB := hu_bdOf hH
  have k83 := hH.1
  unfold wL_corners_76
  refine br_t rfl (pk_lt k 3 (fun _ => hp) (fun h3 => ?_))
  refine hu_points hr rng (fun r1 e1 => hu_area2 hr hB (fun r2 e2 => hu_border hr hB h3 (fun r3 e3 => br_t ?_ hp)))
  have pick := hH.2.2.2 (by omega)
  obtain ⟨n1, n2, _⟩ := hu_Nbd rng
  rw [← e1] at n1 n2
  rw [← e1, ← e2, ← e3] at pick
  have t2 : (2 : Int32).toInt = 2 := rfl
  have m : (2 * r1).toInt = 2 * r1.toInt := by
    rw [hu_mul 2 1681 (by omega) (by omega) (by omega) (by omega) (by omega), t2]
  have s1 : (r2 + r3).toInt = r2.toInt + r3.toInt := hu_add (by omega) (by omega)
  have s2 : (r2 + r3 + 2).toInt = r2.toInt + r3.toInt + 2 := by
    rw [hu_add (by omega) (by omega), s1, t2]
  rw [← Int32.toInt_inj, m, s2]
  omega
theorem hu_chk64 {post : Int32 → St1 → Prop} {fc fr : Int32} {nn k : Nat} {a1 a2 a3 a4 a5 a6 a7 : Nat → Int32} {z : Int32} (hr : ¬ fr = 0) (hP : hu_P nn a1 a2 a3 k a4 a5 a6 a7) (hz : (k = 0 ∧ z = 1) ∨ (0 < k ∧ z = 0))
    (hp : post 1 (fc, fr, nI k, a1, a2, a3, a4, a5, a6, a7)) : wL_corners_64 post (nI k) z fc fr (nI k) a1 a2 a3 a4 a5 a6 a7 := by
  have rng := hu_colRng hP.1
  have hH := hP.2
  obtain ⟨n1, n2, n3⟩ := hu_Nbd rng
  unfold wL_corners_64
  refine hu_points hr rng (fun r e => ?_)
  rcases hz with ⟨k0, z1⟩ | ⟨k0, z0⟩
  · subst z1
    refine br_t ?_ (hu_chk76 hr hP hp)
    rw [← Int32.toInt_inj, e, hu_z]
    refine hu_Rzero 41 (fun t t0 t1 => ?_)
    unfold hu_cnt
    rw [if_neg]
    intro w
    obtain ⟨i, i0, _⟩ := hH.2.2.1 0 0 t (hu_J a4 t) t0 (by omega) (Int.le_refl _) w
    omega
  · subst z0
    refine br_f ?_ (hu_chk76 hr hP hp)
    rw [← Int32.toInt_inj, e, hu_z]
    obtain ⟨b1, b2, b3, b4, b5, b6⟩ := hH.2.1 0 k0
    have := n3 (hu_I a6 0) b1 (by omega) (by omega)
    omega
theorem hu_chkLoop {post : Int32 → St1 → Prop} {fc fr : Int32} {nn k : Nat} {a1 a2 a3 a4 a5 a6 a7 : Nat → Int32} (hr : ¬ fr = 0) (hP : hu_P nn a1 a2 a3 k a4 a5 a6 a7)
    (hp : post 1 (fc, fr, nI k, a1, a2, a3, a4, a5, a6, a7)) : ∃ n, wL_corners_7 post (nI k) n 0 fc fr (nI k) a1 a2 a3 a4 a5 a6 a7 := by
  have hH := hP.2
  have hB := hu_bdOf hH
  have k83 := hH.1
  refine pk_loop (σ := Unit) (fun n i _ => wL_corners_7 post (nI k) n (nI i) fc fr (nI k) a1 a2 a3 a4 a5 a6 a7) (fun _ _ => True) k 0 () (by omega) trivial ?_ ?_
  · intro n _ _
    refine pk_le k k (fun _ => hu_cornerEnd hr k83 (br_t rfl (pk_eq k 0 (fun z => ?_) (fun z => ?_)))) (fun z => absurd z (by omega))
    · exact hu_chk64 hr hP (Or.inl ⟨z, rfl⟩) hp
    · exact hu_chk64 hr hP (Or.inr ⟨by omega, rfl⟩) hp
  · intro n i _ hi _ hw
    obtain ⟨b1, b2, b3, b4, b5, b6⟩ := hH.2.1 i hi
    refine pk_le k i (fun z => absurd z (by omega)) (fun _ => hu_corner hr hB hi (br_f (nI_pos (by omega)) ?_))
    rw [hu_c63 (by omega) (by omega), hu_c6 (by omega) (by omega)]
    refine hu_has hr (by omega) (by omega) ?_ ?_ (br_f (by decide) (nm_r (nI_1 i) (hw () trivial)))
    · rw [show ((hu_I a6 i).toNat : Int) = hu_I a6 i by omega]
      omega
    · rw [show ((hu_I a6 i).toNat : Int) = hu_I a6 i by omega]
      omega
theorem hu_lawCorners {post : Int32 → St1 → Prop} {fr fk : Int32} {nn : Nat} {a1 a2 a3 a4 a5 a6 a7 : Nat → Int32} (hK : hu_K nn a1 a2 a3) (h : fr = 0 ∨ ∃ k : Nat, fk = nI k ∧ hu_P nn a1 a2 a3 k a4 a5 a6 a7)
    (hp : ∀ (fr' : Int32) (k : Nat) (a4' a5' a6' a7' : Nat → Int32), ¬ fr' = 0 → hu_P nn a1 a2 a3 k a4' a5' a6' a7' → post 1 (nI nn, fr', nI k, a1, a2, a3, a4', a5', a6', a7')) :
    wpL_corners post (nI nn, fr, fk, a1, a2, a3, a4, a5, a6, a7) := by
  unfold wpL_corners
  exact hu_cornersG hK h (fun fr' k a4' a5' a6' a7' hr hP => hu_chkLoop hr hP (hp fr' k a4' a5' a6' a7' hr hP))
theorem hu_lawReached {post : Int32 → St1 → Prop} {fc fr : Int32} {k : Nat} {a1 a2 a3 a4 a5 a6 a7 : Nat → Int32} {p q : Int32} (hr : ¬ fr = 0) (hB : hu_Bd k (hu_I a6) (hu_I a7)) (hpq : hu_Pq p q)
    (hp : post 1 (fc, fr, nI k, a1, a2, a3, a4, a5, a6, a7)) : wpL_reached post (fc, fr, nI k, a1, a2, a3, a4, a5, a6, a7) p q := by
  have k83 := hB.1
  unfold wpL_reached
  refine hu_corners hr (hu_best hr hB hpq (fun k0 => hu_bestCorner hr hB hpq (fun _ => pk_eq k 0 (fun _ => br_t rfl (br_t rfl hp)) (fun z => absurd k0 z)) (fun i hi => absurd hi.1 (by omega))) (fun i r hi er => hu_bestCorner hr hB hpq (fun k0 => absurd hi.1 (by omega)) (fun i' hi' => ?_)))
  have ik := hi.1
  have ik' := hi'.1
  refine br_f (nI_ne0 (by omega) (by omega)) (br_f (nI_pos (by omega)) (br_t (nI_lt ik' (by omega)) ?_))
  refine pk_loop (σ := Unit) (fun n j _ => wL_reached_61 post p q (nI k) r (nI i') n (nI j) fc fr (nI k) a1 a2 a3 a4 a5 a6 a7) (fun _ _ => True) k 0 () (by omega) trivial ?_ ?_
  · intro n _ _
    exact pk_le k k (fun _ => hp) (fun z => absurd z (by omega))
  · intro n j _ hj _ hw
    have hwj := hw () trivial
    obtain ⟨b1, b2, b3, b4⟩ := hB.2 j hj
    refine pk_le k j (fun z => absurd z (by omega)) (fun _ => hu_corner hr hB hj ?_)
    rw [hu_c63 (by omega) (by omega), hu_c6 (by omega) (by omega)]
    intro v hv
    obtain ⟨⟨p1, p2⟩, ⟨q1, q2⟩⟩ := hpq
    have ex : (nI (hu_I a6 j).toNat).toInt = hu_I a6 j := by
      rw [nI_toInt (by omega)]
      omega
    have ey : (nI (hu_I a7 j).toNat).toInt = hu_I a7 j := by
      rw [nI_toInt (by omega)]
      omega
    have ev : v.toInt = hu_val p.toInt q.toInt (hu_I a6) (hu_I a7) j := by
      rw [hv, hu_valI p1 p2 q1 q2 (by rw [ex]; exact ⟨b1, b2⟩) (by rw [ey]; exact ⟨b3, b4⟩), ex, ey]
      rfl
    have c1 := (hi.2 j hj).1
    have c2 := (hi.2 i' ik').1
    have c3 := (hi'.2 i ik).1
    have c4 := (hi'.2 j hj).2
    have nxt : wL_reached_113 post (wL_reached_61 post p q (nI k) r (nI i') n) p q (nI k) r (nI i') (nI j) v fc fr (nI k) a1 a2 a3 a4 a5 a6 a7 := by
      unfold wL_reached_113
      refine pk_le i' j (fun _ => nm_r (nI_1 j) hwj) (fun lt => br_f ?_ (nm_r (nI_1 j) hwj))
      rw [← Int32.toInt_inj, ev, er]
      have := c4 lt
      omega
    refine br_f (by rw [hu_lt, ev, er]; omega) (pk_eq j i' (fun z => br_t ?_ nxt) (fun _ => nxt))
    rw [← Int32.toInt_inj, ev, er, z]
    omega
end
section
/-! the law's turn -/
theorem hu_colSub {n n' : Nat} {A B C A' B' C' : Nat → Int} {t l h l' h' : Int} (hn : n ≤ n') (hc : hu_Col n A B C t l h) (hc' : hu_Col n' A' B' C' t l' h') (ha : ∀ i, i < n → A' i = A i) (hb : ∀ i, i < n → B' i = B i) (hcc : ∀ i, i < n → C' i = C i)
    {y : Int} (h1 : l' ≤ y) (h2 : y ≤ h') : l ≤ y ∧ y ≤ h := by
  obtain ⟨a, b, c⟩ := (hu_colIn hc' y).mp ⟨h1, h2⟩
  refine (hu_colIn hc y).mpr ⟨a, b, fun i hi => ?_⟩
  rw [← ha i hi, ← hb i hi, ← hcc i hi]
  exact c i (by omega)
/-- what best answers -/
def hu_Bst (p q : Int) (k : Nat) (X Y : Nat → Int) (r : Int32) : Prop := (k = 0 ∧ r = -3) ∨ ∃ i, hu_Arg p q k X Y i ∧ r.toInt = hu_val p q X Y i
theorem hu_bstEq {p q : Int} {k : Nat} {X Y : Nat → Int} {r r' : Int32} (h : hu_Bst p q k X Y r) (h' : hu_Bst p q k X Y r') : r' = r := by
  rcases h with ⟨k0, e⟩ | ⟨i, hi, e⟩
  · rcases h' with ⟨_, e'⟩ | ⟨i', hi', e'⟩
    · rw [e, e']
    · exact absurd hi'.1 (by omega)
  · rcases h' with ⟨k0, _⟩ | ⟨i', hi', e'⟩
    · exact absurd hi.1 (by omega)
    · have a := (hi.2 i' hi'.1).1
      have b := (hi'.2 i hi.1).1
      rw [← Int32.toInt_inj, e, e']
      omega
theorem hu_bestB {post : Int32 → St1 → Prop} {fc fr : Int32} {k : Nat} {a1 a2 a3 a4 a5 a6 a7 : Nat → Int32} {p q : Int32} (hr : ¬ fr = 0) (hB : hu_Bd k (hu_I a6) (hu_I a7)) (hpq : hu_Pq p q)
    (h : ∀ r : Int32, hu_Bst p.toInt q.toInt k (hu_I a6) (hu_I a7) r → post r (fc, fr, nI k, a1, a2, a3, a4, a5, a6, a7)) : wpX_best post (fc, fr, nI k, a1, a2, a3, a4, a5, a6, a7) p q :=
  hu_best hr hB hpq (fun k0 => h _ (Or.inl ⟨k0, rfl⟩)) (fun i r hi er => h r (Or.inr ⟨i, hi, er⟩))
theorem hu_l253 {post : Int32 → Prop} {L : Nat} {xs : Nat → Int32} {J : Int32 → Int32 → Int32 → Int32 → (Nat → Int32) → (Nat → Int32) → (Nat → Int32) → (Nat → Int32) → (Nat → Int32) → (Nat → Int32) → (Nat → Int32) → Prop} {x2 x8 x9 : Int32} {kc ks : Nat}
    {fr fk : Int32} {nn : Nat} {a1 a2 a3 a4 a5 a6 a7 : Nat → Int32} (hK : hu_K nn a1 a2 a3) (h : fr = 0 ∨ ∃ k : Nat, fk = nI k ∧ hu_P nn a1 a2 a3 k a4 a5 a6 a7) (hpq : hu_Pq x8 x9)
    (hJ : ∀ (nn : Nat) (fr fk : Int32) (a1 a2 a3 a4 a5 a6 a7 : Nat → Int32), hu_K nn a1 a2 a3 → (fr = 0 ∨ ∃ k : Nat, fk = nI k ∧ hu_P nn a1 a2 a3 k a4 a5 a6 a7) → J (x2 + 3) (nI nn) fr fk a1 a2 a3 a4 a5 a6 a7) :
    wL_law_253 post L xs J x2 x8 x9 kc ks (nI nn) fr fk a1 a2 a3 a4 a5 a6 a7 := by
  unfold wL_law_253
  exact hu_lawCorners hK h (fun fr' k a4' a5' a6' a7' hr hP => hu_lawReached hr (hu_bdOf hP.2) hpq (br_f (by decide) (br_f (by decide) (nm_e (hJ nn fr' (nI k) a1 a2 a3 a4' a5' a6' a7' hK (Or.inr ⟨k, rfl, hP⟩))))))
theorem hu_l222 {post : Int32 → Prop} {L : Nat} {xs : Nat → Int32} {J : Int32 → Int32 → Int32 → Int32 → (Nat → Int32) → (Nat → Int32) → (Nat → Int32) → (Nat → Int32) → (Nat → Int32) → (Nat → Int32) → (Nat → Int32) → Prop} {x2 x8 x9 x10 x11 : Int32} {kc ks : Nat}
    {fr fk : Int32} {nn : Nat} {a1 a2 a3 a4 a5 a6 a7 : Nat → Int32} (hK : hu_K nn a1 a2 a3) (h : fr = 0 ∨ ∃ k : Nat, fk = nI k ∧ hu_P nn a1 a2 a3 k a4 a5 a6 a7) (hpq : hu_Pq x8 x9)
    (hm : ∀ (k : Nat) (a4' a5' a6' a7' : Nat → Int32), hu_P nn a1 a2 a3 k a4' a5' a6' a7' → hu_R (hu_cnt (hu_J a4') (hu_J a5')) 0 41 ≤ x10.toInt ∧ ∀ i, hu_Arg x8.toInt x9.toInt k (hu_I a6') (hu_I a7') i → hu_val x8.toInt x9.toInt (hu_I a6') (hu_I a7') i ≤ x11.toInt)
    (hJ : ∀ (nn : Nat) (fr fk : Int32) (a1 a2 a3 a4 a5 a6 a7 : Nat → Int32), hu_K nn a1 a2 a3 → (fr = 0 ∨ ∃ k : Nat, fk = nI k ∧ hu_P nn a1 a2 a3 k a4 a5 a6 a7) → J (x2 + 3) (nI nn) fr fk a1 a2 a3 a4 a5 a6 a7) :
    wL_law_222 post L xs J x2 x8 x9 x10 x11 kc ks (nI nn) fr fk a1 a2 a3 a4 a5 a6 a7 := by
  unfold wL_law_222
  refine hu_pointsG hK h (fun fr' k a4' a5' a6' a7' r hr hP er => br_f ?_ (hu_points hr (hu_colRng hP.1) (fun r2 er2 => br_c (fun _ => hu_l253 hK (Or.inr ⟨k, rfl, hP⟩) hpq hJ) (fun hgt => hu_bestB hr (hu_bdOf hP.2) hpq (fun r3 hb => br_t ?_ (hu_l253 hK (Or.inr ⟨k, rfl, hP⟩) hpq hJ))))))
  · have := (hm k a4' a5' a6' a7' hP).1
    rw [hu_lt, er]
    omega
  · rw [hu_le, hu_z, er2] at hgt
    rcases hb with ⟨k0, _⟩ | ⟨i, hi, e⟩
    · exfalso
      apply hgt
      have z : hu_R (hu_cnt (hu_J a4') (hu_J a5')) 0 41 = 0 := by
        refine hu_Rzero 41 (fun t t0 t1 => ?_)
        unfold hu_cnt
        rw [if_neg]
        intro w
        obtain ⟨i, i0, _⟩ := hP.2.2.2.1 0 0 t (hu_J a4' t) t0 (by omega) (Int.le_refl _) w
        omega
      rw [z]
      exact Int.le_refl _
    · rw [hu_le, e]
      exact (hm k a4' a5' a6' a7' hP).2 i hi
/-- fewer points: no greater count, no greater value -/
theorem hu_mono {nn nn' : Nat} {a1 a2 a3 b1 b2 b3 : Nat → Int32} {k : Nat} {a4 a5 a6 a7 : Nat → Int32} {p q : Int} {x10 x11 : Int32} (hn : nn ≤ nn') (hP : hu_P nn a1 a2 a3 k a4 a5 a6 a7)
    (e1 : ∀ i, i < nn → hu_I b1 i = hu_I a1 i) (e2 : ∀ i, i < nn → hu_I b2 i = hu_I a2 i) (e3 : ∀ i, i < nn → hu_I b3 i = hu_I a3 i)
    (h10 : x10.toInt = hu_R (hu_cnt (hu_J a4) (hu_J a5)) 0 41) (h11 : hu_Bst p q k (hu_I a6) (hu_I a7) x11) (k' : Nat) (a4' a5' a6' a7' : Nat → Int32) (hP' : hu_P nn' b1 b2 b3 k' a4' a5' a6' a7') :
    hu_R (hu_cnt (hu_J a4') (hu_J a5')) 0 41 ≤ x10.toInt ∧ ∀ i, hu_Arg p q k' (hu_I a6') (hu_I a7') i → hu_val p q (hu_I a6') (hu_I a7') i ≤ x11.toInt := by
  have sub : ∀ t y, 0 ≤ t → t < 41 → hu_J a4' t ≤ y → y ≤ hu_J a5' t → hu_J a4 t ≤ y ∧ y ≤ hu_J a5 t := fun t y t0 t1 y0 y1 => hu_colSub hn (hP.1 t t0 t1) (hP'.1 t t0 t1) e1 e2 e3 y0 y1
  refine ⟨by rw [h10]; exact hu_cntMono sub, fun i hi => ?_⟩
  obtain ⟨b1', b2', b3', b4', b5', b6'⟩ := hP'.2.2.1 i hi.1
  obtain ⟨y0, y1⟩ := sub (hu_I a6' i) (hu_I a7' i) b1' (by omega) b5' b6'
  obtain ⟨j, j0, j1⟩ := hP.2.2.2.1 p q (hu_I a6' i) (hu_I a7' i) b1' b2' y0 y1
  rcases h11 with ⟨k0, _⟩ | ⟨m, hm, em⟩
  · omega
  · have z := (hm.2 j j0).1
    rw [em]
    unfold hu_val at z ⊢
    omega
theorem hu_drop {post : Int32 → St1 → Prop} {fr fk : Int32} {nn : Nat} {a1 a2 a3 a4 a5 a6 a7 : Nat → Int32} (h8 : nn ≤ 8) (h0 : post (-3) (nI nn, fr, fk, a1, a2, a3, a4, a5, a6, a7))
    (h1 : ∀ m, nn = m + 1 → post (nI m) (nI m, 0, fk, a1, a2, a3, a4, a5, a6, a7)) : wpX_drop post (nI nn, fr, fk, a1, a2, a3, a4, a5, a6, a7) := by
  unfold wpX_drop
  refine pk_eq nn 0 (fun _ => h0) (fun z => ?_)
  obtain ⟨m, hm⟩ : ∃ m, nn = m + 1 := ⟨nn - 1, by omega⟩
  subst hm
  exact nm_r (nI_pred m) (h1 m rfl)
theorem hu_badBound {post : Int32 → Prop} {c : Int32} (c1 : -1000 ≤ c.toInt) (c2 : c.toInt ≤ 1000) (hp : post 0) : wpX_badBound post () c := by
  have e1 : (-1000 : Int32).toInt = -1000 := rfl
  have e2 : (1000 : Int32).toInt = 1000 := rfl
  unfold wpX_badBound
  exact br_f (by rw [hu_lt, e1]; omega) (br_t (by rw [hu_le, e2]; omega) hp)
theorem hu_condition {post : Int32 → St1 → Prop} {fr fk : Int32} {nn : Nat} {a1 a2 a3 a4 a5 a6 a7 : Nat → Int32} {a b c : Int32} (h8 : nn ≤ 8) (ha : -9 ≤ a.toInt ∧ a.toInt ≤ 9) (hb : -9 ≤ b.toInt ∧ b.toInt ≤ 9) (hab : ¬ (a = 0 ∧ b = 0))
    (hc : -1000 ≤ c.toInt ∧ c.toInt ≤ 1000) (h1 : nn < 8 → post (nI (nn + 1)) (nI (nn + 1), 0, fk, upd a1 nn a, upd a2 nn b, upd a3 nn c, a4, a5, a6, a7)) (h2 : nn = 8 → post (-2) (nI nn, fr, fk, a1, a2, a3, a4, a5, a6, a7)) :
    wpX_condition post (nI nn, fr, fk, a1, a2, a3, a4, a5, a6, a7) a b c := by
  have e1 : (-9 : Int32).toInt = -9 := rfl
  have e2 : (9 : Int32).toInt = 9 := rfl
  have main : wX_condition_32 post a b c (nI nn) fr fk a1 a2 a3 a4 a5 a6 a7 := by
    unfold wX_condition_32
    refine hu_badBound hc.1 hc.2 (br_t rfl (pk_lt nn 8 (fun lt => ?_) (fun ge => h2 (by omega))))
    rw [nI_clamp (show nn < 2 ^ 31 by omega)]
    exact ⟨pk_in nn 8 lt, nm_e ⟨pk_in nn 8 lt, nm_e ⟨pk_in nn 8 lt, nm_e (nm_r (nI_1 nn) (h1 lt))⟩⟩⟩
  unfold wpX_condition
  exact br_f (by rw [hu_lt, e1]; omega) (br_f (by rw [hu_lt, e2]; omega) (br_f (by rw [hu_lt, e1]; omega) (br_f (by rw [hu_lt, e2]; omega) (br_c (fun a0 => br_f (fun b0 => hab ⟨a0, b0⟩) main) (fun _ => main)))))
theorem hu_l151 {post : Int32 → Prop} {L : Nat} {xs : Nat → Int32} {J : Int32 → Int32 → Int32 → Int32 → (Nat → Int32) → (Nat → Int32) → (Nat → Int32) → (Nat → Int32) → (Nat → Int32) → (Nat → Int32) → (Nat → Int32) → Prop} {x2 x4 x6 x7 x8 x9 x10 x11 : Int32} {kc ks : Nat}
    {fr : Int32} {nn k : Nat} {a1 a2 a3 a4 a5 a6 a7 : Nat → Int32} (hK : hu_K nn a1 a2 a3) (hr : ¬ fr = 0) (hP : hu_P nn a1 a2 a3 k a4 a5 a6 a7) (hpq : hu_Pq x8 x9)
    (ha : -9 ≤ x6.toInt ∧ x6.toInt ≤ 9) (hb : -9 ≤ x7.toInt ∧ x7.toInt ≤ 9) (hab : ¬ (x6 = 0 ∧ x7 = 0))
    (h10 : x10.toInt = hu_R (hu_cnt (hu_J a4) (hu_J a5)) 0 41) (h11 : hu_Bst x8.toInt x9.toInt k (hu_I a6) (hu_I a7) x11)
    (hJ : ∀ (nn : Nat) (fr fk : Int32) (a1 a2 a3 a4 a5 a6 a7 : Nat → Int32), hu_K nn a1 a2 a3 → (fr = 0 ∨ ∃ k : Nat, fk = nI k ∧ hu_P nn a1 a2 a3 k a4 a5 a6 a7) → J (x2 + 3) (nI nn) fr fk a1 a2 a3 a4 a5 a6 a7) :
    wL_law_151 post L xs J x2 x4 x6 x7 x8 x9 x10 x11 kc ks (nI nn) fr (nI k) a1 a2 a3 a4 a5 a6 a7 := by
  unfold wL_law_151
  intro c hc
  have h8 := hK.1
  have cb : -1000 ≤ c.toInt ∧ c.toInt ≤ 1000 := by
    obtain ⟨j, j1, j2⟩ := pk_andE (x4 >>> ((10 : Int32) &&& 31)) (m := 127) 7 (by decide)
    rw [j2] at hc
    have ej : (nI j).toInt = (j : Int) := nI_toInt (by omega)
    have e15 : (15 : Int32).toInt = 15 := rfl
    have m1 : (15 * x6).toInt = 15 * x6.toInt := by
      rw [hu_mul 15 9 (by omega) (by omega) (by omega) (by omega) (by omega), e15]
    have m2 : (15 * x7).toInt = 15 * x7.toInt := by
      rw [hu_mul 15 9 (by omega) (by omega) (by omega) (by omega) (by omega), e15]
    have s1 : (15 * x6 + 15 * x7).toInt = 15 * x6.toInt + 15 * x7.toInt := by
      rw [hu_add (by omega) (by omega), m1, m2]
    have s2 : c.toInt = 15 * x6.toInt + 15 * x7.toInt + (j : Int) := by
      rw [hc, hu_add (by omega) (by omega), s1, ej]
    omega
  have rng := hu_colRng hP.1
  have hB := hu_bdOf hP.2
  refine hu_condition h8 ha hb hab cb (fun lt => ?_) (fun e8 => ?_)
  · have n1 : ∀ s : Int32, s.toInt < 0 → ¬ nI (nn + 1) = s := by
      intro s hs z
      rw [← z, nI_toInt (by omega)] at hs
      omega
    refine br_f (n1 (-1) (by decide)) (br_f (n1 (-2) (by decide)) (hu_l222 ?_ (Or.inl rfl) hpq (hu_mono (by omega) hP (fun i hi => hu_Iu (by omega)) (fun i hi => hu_Iu (by omega)) (fun i hi => hu_Iu (by omega)) h10 h11) hJ))
    refine ⟨by omega, fun i hi => ?_⟩
    by_cases z : i = nn
    · rw [z, hu_Is, hu_Is, hu_Is]
      exact ⟨ha, hb, cb⟩
    · rw [hu_Iu z, hu_Iu z, hu_Iu z]
      exact hK.2 i (by omega)
  · refine br_f (by decide) (br_t rfl (hu_points hr rng (fun r er => br_t ?_ (hu_bestB hr hB hpq (fun r2 hb2 => br_t (hu_bstEq h11 hb2) (hu_l222 hK (Or.inr ⟨k, rfl, hP⟩) hpq (hu_mono (Nat.le_refl _) hP (fun _ _ => rfl) (fun _ _ => rfl) (fun _ _ => rfl) h10 h11) hJ))))))
    rw [← Int32.toInt_inj, er, h10]
theorem hu_rem (x : Int32) {d o : Int32} {D O : Nat} (hd : d = nI D) (ho : o = nI O) (hD : 0 < D) (hD2 : D < 1000) (hO : O < 1000) :
    -(O : Int) ≤ ((x &&& 1023) - (x &&& 1023) / d * d - o).toInt ∧ ((x &&& 1023) - (x &&& 1023) / d * d - o).toInt < (D : Int) - (O : Int) := by
  obtain ⟨j, j1, j2⟩ := pk_andE x (m := 1023) 10 (by decide)
  have m := Nat.mod_lt j hD
  rw [j2, hd, ho, pk_rem (by omega) hD (by omega), pk_sub_toInt (by omega) (by omega)]
  omega
theorem hu_loop {L : Nat} {xs : Nat → Int32} {kc ks : Nat} (hL : L ≤ 260) : ∀ e s : Nat, s + e = 30 → ∀ (nn : Nat) (fr fk : Int32) (a1 a2 a3 a4 a5 a6 a7 : Nat → Int32), hu_K nn a1 a2 a3 → (fr = 0 ∨ ∃ k : Nat, fk = nI k ∧ hu_P nn a1 a2 a3 k a4 a5 a6 a7) →
    wL_law_10 (fun r => r = 1) L xs kc ks (e + 1) (nI (3 * s)) (nI nn) fr fk a1 a2 a3 a4 a5 a6 a7 := by
  intro e
  induction e with
  | zero =>
    intro s hs nn fr fk a1 a2 a3 a4 a5 a6 a7 _ _
    exact br_c (fun _ => rfl) (fun _ => pk_le 90 (3 * s) (fun _ => rfl) (fun z => absurd z (by omega)))
  | succ e ih =>
    intro s hs nn fr fk a1 a2 a3 a4 a5 a6 a7 hK hOk
    refine br_c (fun _ => rfl) (fun hlt => pk_le 90 (3 * s) (fun _ => rfl) (fun _ => ?_))
    have hs3 : 3 * s + 2 < L := by
      rw [hu_lt] at hlt
      have z : (nI L - nI 3).toInt = (L : Int) - ((3 : Nat) : Int) := pk_sub_toInt (by omega) (by omega)
      have z' : (Int32.ofNat L - 3).toInt = (L : Int) - ((3 : Nat) : Int) := z
      rw [z', nI_toInt (by omega)] at hlt
      omega
    refine ⟨pk_in (3 * s) L (by omega), fun u hu => ⟨pk_in (3 * s + 1) L (by omega) (nI_1 _), fun v hv => ⟨pk_in (3 * s + 2) L (by omega) (nI_add _ 2), fun w hw => ⟨by decide, fun x6 h6 => ⟨by decide, fun x7 h7 => ⟨by decide, fun x8 h8 => ⟨by decide, fun x9 h9 => ?_⟩⟩⟩⟩⟩⟩⟩
    have b6 := hu_rem u (d := 19) (o := 9) (D := 19) (O := 9) rfl rfl (by omega) (by omega) (by omega)
    have b7 := hu_rem v (d := 19) (o := 9) (D := 19) (O := 9) rfl rfl (by omega) (by omega) (by omega)
    have b8 := hu_rem w (d := 201) (o := 100) (D := 201) (O := 100) rfl rfl (by omega) (by omega) (by omega)
    have b9 := hu_rem (w >>> ((10 : Int32) &&& 31)) (d := 201) (o := 100) (D := 201) (O := 100) rfl rfl (by omega) (by omega) (by omega)
    rw [← h6] at b6
    rw [← h7] at b7
    rw [← h8] at b8
    rw [← h9] at b9
    have hpq : hu_Pq x8 x9 := ⟨⟨by omega, by omega⟩, ⟨by omega, by omega⟩⟩
    have r6 : -9 ≤ x6.toInt ∧ x6.toInt ≤ 9 := by omega
    have r7 : -9 ≤ x7.toInt ∧ x7.toInt ≤ 9 := by omega
    have hJ : ∀ (nn : Nat) (fr fk : Int32) (a1 a2 a3 a4 a5 a6 a7 : Nat → Int32), hu_K nn a1 a2 a3 → (fr = 0 ∨ ∃ k : Nat, fk = nI k ∧ hu_P nn a1 a2 a3 k a4 a5 a6 a7) →
        wL_law_10 (fun r => r = 1) L xs kc ks (e + 1) (nI (3 * s) + 3) (nI nn) fr fk a1 a2 a3 a4 a5 a6 a7 := by
      intro nn fr fk a1 a2 a3 a4 a5 a6 a7 g1 g2
      have z := ih (s + 1) (by omega) nn fr fk a1 a2 a3 a4 a5 a6 a7 g1 g2
      have y : nI (3 * s) + 3 = nI (3 * (s + 1)) := nI_add (3 * s) 3
      rw [y]
      exact z
    clear ih h6 h7 h8 h9 b6 b7 b8 b9
    refine hu_pointsG hK hOk (fun fr' k b4 b5 b6 b7 r47 hr hP e47 => hu_bestB hr (hu_bdOf hP.2) hpq (fun r72 hb72 => br_c (fun _ => ?_) (fun _ => br_c (fun z6 => br_c (fun z7 => ?_) (fun z7 => ?_)) (fun z6 => ?_))))
    · refine hu_drop hK.1 (hu_l253 hK (Or.inr ⟨k, rfl, hP⟩) hpq hJ) (fun m hm => hu_l253 ⟨by have := hK.1; omega, fun i hi => hK.2 i (by omega)⟩ (Or.inl rfl) hpq hJ)
    · exact hu_l151 hK hr hP hpq (by decide) r7 (fun z => absurd z.1 (by decide)) e47 hb72 hJ
    · exact hu_l151 hK hr hP hpq r6 r7 (fun z => z7 z.2) e47 hb72 hJ
    · exact hu_l151 hK hr hP hpq r6 r7 (fun z => z6 z.1) e47 hb72 hJ
end
section
theorem i_vc (xs : Nat → Int32) (L : Nat) (hL : L ≤ 260) : wpL_law (fun r => r = 1) L xs := by
  unfold wpL_law
  refine ⟨7, 274, by omega, by omega, ?_⟩
  unfold wpX_init
  refine ⟨by omega, by omega, by omega, by omega, by omega, by omega, by omega, by omega, by omega, by omega, by omega, by omega, by omega, by omega, 30 + 1, ?_⟩
  exact hu_loop hL 30 0 (by omega) 0 0 0 _ _ _ _ _ _ _ ⟨by omega, fun i hi => absurd hi (by omega)⟩ (Or.inl rfl)
end
