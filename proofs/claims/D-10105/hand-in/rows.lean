section
/-- sums of integers -/
def nc_sm (f : Nat → Int) : Nat → Int
  | 0 => 0
  | n + 1 => nc_sm f n + f n
def nc_cd2 (x y : Nat → Int) : Int := x 0 * y 1 - y 0 * x 1
def nc_cd3 (x y z : Nat → Int) : Int := x 0 * (y 1 * z 2 - z 1 * y 2) - y 0 * (x 1 * z 2 - z 1 * x 2) + z 0 * (x 1 * y 2 - y 1 * x 2)
/-- the determinant of rows 1, 2, 3 -/
def nc_ce3 (x y z : Nat → Int) : Int := x 1 * (y 2 * z 3 - z 2 * y 3) - y 1 * (x 2 * z 3 - z 2 * x 3) + z 1 * (x 2 * y 3 - y 2 * x 3)
def nc_cd4 (x y z t : Nat → Int) : Int := x 0 * nc_ce3 y z t - y 0 * nc_ce3 x z t + z 0 * nc_ce3 x y t - t 0 * nc_ce3 x y z
/-- the determinants of rows 2, 3, 4 and of rows 1, 2, 3, 4 -/
def nc_cf3 (x y z : Nat → Int) : Int := x 2 * (y 3 * z 4 - z 3 * y 4) - y 2 * (x 3 * z 4 - z 3 * x 4) + z 2 * (x 3 * y 4 - y 3 * x 4)
def nc_ce4 (x y z t : Nat → Int) : Int := x 1 * nc_cf3 y z t - y 1 * nc_cf3 x z t + z 1 * nc_cf3 x y t - t 1 * nc_cf3 x y z
def nc_cd5 (x y z t v : Nat → Int) : Int := x 0 * nc_ce4 y z t v - y 0 * nc_ce4 x z t v + z 0 * nc_ce4 x y t v - t 0 * nc_ce4 x y z v + v 0 * nc_ce4 x y z t
def nc_co (A : Nat → Nat → Int) (j : Nat) : Nat → Int := fun i => A i j
/-- Cramer's numbers: level k, row r, column j -/
def nc_Cr (A : Nat → Nat → Int) : Nat → Nat → Nat → Int
  | 1, 0, j => A 0 j
  | 2, 0, j => nc_cd2 (nc_co A j) (nc_co A 1)
  | 2, 1, j => nc_cd2 (nc_co A 0) (nc_co A j)
  | 3, 0, j => nc_cd3 (nc_co A j) (nc_co A 1) (nc_co A 2)
  | 3, 1, j => nc_cd3 (nc_co A 0) (nc_co A j) (nc_co A 2)
  | 3, 2, j => nc_cd3 (nc_co A 0) (nc_co A 1) (nc_co A j)
  | 4, 0, j => nc_cd4 (nc_co A j) (nc_co A 1) (nc_co A 2) (nc_co A 3)
  | 4, 1, j => nc_cd4 (nc_co A 0) (nc_co A j) (nc_co A 2) (nc_co A 3)
  | 4, 2, j => nc_cd4 (nc_co A 0) (nc_co A 1) (nc_co A j) (nc_co A 3)
  | 4, 3, j => nc_cd4 (nc_co A 0) (nc_co A 1) (nc_co A 2) (nc_co A j)
  | 5, 0, j => nc_cd5 (nc_co A j) (nc_co A 1) (nc_co A 2) (nc_co A 3) (nc_co A 4)
  | 5, 1, j => nc_cd5 (nc_co A 0) (nc_co A j) (nc_co A 2) (nc_co A 3) (nc_co A 4)
  | 5, 2, j => nc_cd5 (nc_co A 0) (nc_co A 1) (nc_co A j) (nc_co A 3) (nc_co A 4)
  | 5, 3, j => nc_cd5 (nc_co A 0) (nc_co A 1) (nc_co A 2) (nc_co A j) (nc_co A 4)
  | 5, 4, j => nc_cd5 (nc_co A 0) (nc_co A 1) (nc_co A 2) (nc_co A 3) (nc_co A j)
  | _, _, _ => 0
def nc_D (A : Nat → Nat → Int) : Nat → Int
  | 0 => 1
  | 1 => A 0 0
  | 2 => nc_cd2 (nc_co A 0) (nc_co A 1)
  | 3 => nc_cd3 (nc_co A 0) (nc_co A 1) (nc_co A 2)
  | 4 => nc_cd4 (nc_co A 0) (nc_co A 1) (nc_co A 2) (nc_co A 3)
  | 5 => nc_cd5 (nc_co A 0) (nc_co A 1) (nc_co A 2) (nc_co A 3) (nc_co A 4)
  | _ => 0
/-- the minor bordered by row i and column j -/
def nc_Jm (A : Nat → Nat → Int) (k i j : Nat) : Int := nc_D A k * A i j - nc_sm (fun r => A i r * nc_Cr A k r j) k
theorem nc_Dsucc (A : Nat → Nat → Int) (k : Nat) (hk : k < 5) : nc_D A (k + 1) = nc_Jm A k k k := by
  match k, hk with
  | 0, _ => simp only [nc_Jm, nc_D, nc_sm]; grind
  | 1, _ => simp only [nc_Jm, nc_D, nc_sm, nc_Cr, nc_cd2, nc_co]; grind
  | 2, _ => simp only [nc_Jm, nc_D, nc_sm, nc_Cr, nc_cd2, nc_cd3, nc_co]; grind
  | 3, _ => simp only [nc_Jm, nc_D, nc_sm, nc_Cr, nc_cd4, nc_ce3, nc_cd3, nc_co]; grind
  | 4, _ => simp only [nc_Jm, nc_D, nc_sm, nc_Cr, nc_cd4, nc_ce3, nc_cd5, nc_ce4, nc_cf3, nc_co]; grind
theorem nc_Crk (A : Nat → Nat → Int) (k j : Nat) (hk : k < 4) : nc_Cr A (k + 1) k j = nc_Jm A k k j := by
  match k, hk with
  | 0, _ => simp only [nc_Jm, nc_D, nc_sm, nc_Cr]; grind
  | 1, _ => simp only [nc_Jm, nc_D, nc_sm, nc_Cr, nc_cd2, nc_co]; grind
  | 2, _ => simp only [nc_Jm, nc_D, nc_sm, nc_Cr, nc_cd2, nc_cd3, nc_co]; grind
  | 3, _ => simp only [nc_Jm, nc_D, nc_sm, nc_Cr, nc_cd4, nc_ce3, nc_cd3, nc_co]; grind
theorem nc_JR (A : Nat → Nat → Int) (k r j : Nat) (hk : k < 4) (hr : r < k) :
    nc_Jm A k k k * nc_Cr A k r j - nc_Cr A k r k * nc_Jm A k k j = nc_D A k * nc_Cr A (k + 1) r j := by
  rw [← nc_Dsucc A k (by omega), ← nc_Crk A k j hk]
  match k, r, hk, hr with
  | 1, 0, _, _ => simp only [nc_D, nc_Cr, nc_cd2, nc_co]; grind
  | 2, 0, _, _ => simp only [nc_D, nc_Cr, nc_cd2, nc_cd3, nc_co]; grind
  | 2, 1, _, _ => simp only [nc_D, nc_Cr, nc_cd2, nc_cd3, nc_co]; grind
  | 3, 0, _, _ => simp only [nc_D, nc_Cr, nc_cd4, nc_ce3, nc_cd3, nc_co]; grind
  | 3, 1, _, _ => simp only [nc_D, nc_Cr, nc_cd4, nc_ce3, nc_cd3, nc_co]; grind
  | 3, 2, _, _ => simp only [nc_D, nc_Cr, nc_cd4, nc_ce3, nc_cd3, nc_co]; grind
/-- Cramer's rule -/
theorem nc_CP (A : Nat → Nat → Int) (k i j : Nat) (hk : k ≤ 5) (hi : i < k) : nc_Jm A k i j = 0 := by
  match k, i, hk, hi with
  | 1, 0, _, _ => simp only [nc_Jm, nc_D, nc_sm, nc_Cr, nc_cd2, nc_cd3, nc_cd4, nc_ce3, nc_cd5, nc_ce4, nc_cf3, nc_co]; grind
  | 2, 0, _, _ => simp only [nc_Jm, nc_D, nc_sm, nc_Cr, nc_cd2, nc_cd3, nc_cd4, nc_ce3, nc_cd5, nc_ce4, nc_cf3, nc_co]; grind
  | 2, 1, _, _ => simp only [nc_Jm, nc_D, nc_sm, nc_Cr, nc_cd2, nc_cd3, nc_cd4, nc_ce3, nc_cd5, nc_ce4, nc_cf3, nc_co]; grind
  | 3, 0, _, _ => simp only [nc_Jm, nc_D, nc_sm, nc_Cr, nc_cd2, nc_cd3, nc_cd4, nc_ce3, nc_cd5, nc_ce4, nc_cf3, nc_co]; grind
  | 3, 1, _, _ => simp only [nc_Jm, nc_D, nc_sm, nc_Cr, nc_cd2, nc_cd3, nc_cd4, nc_ce3, nc_cd5, nc_ce4, nc_cf3, nc_co]; grind
  | 3, 2, _, _ => simp only [nc_Jm, nc_D, nc_sm, nc_Cr, nc_cd2, nc_cd3, nc_cd4, nc_ce3, nc_cd5, nc_ce4, nc_cf3, nc_co]; grind
  | 4, 0, _, _ => simp only [nc_Jm, nc_D, nc_sm, nc_Cr, nc_cd2, nc_cd3, nc_cd4, nc_ce3, nc_cd5, nc_ce4, nc_cf3, nc_co]; grind
  | 4, 1, _, _ => simp only [nc_Jm, nc_D, nc_sm, nc_Cr, nc_cd2, nc_cd3, nc_cd4, nc_ce3, nc_cd5, nc_ce4, nc_cf3, nc_co]; grind
  | 4, 2, _, _ => simp only [nc_Jm, nc_D, nc_sm, nc_Cr, nc_cd2, nc_cd3, nc_cd4, nc_ce3, nc_cd5, nc_ce4, nc_cf3, nc_co]; grind
  | 4, 3, _, _ => simp only [nc_Jm, nc_D, nc_sm, nc_Cr, nc_cd2, nc_cd3, nc_cd4, nc_ce3, nc_cd5, nc_ce4, nc_cf3, nc_co]; grind
  | 5, 0, _, _ => simp only [nc_Jm, nc_D, nc_sm, nc_Cr, nc_cd2, nc_cd3, nc_cd4, nc_ce3, nc_cd5, nc_ce4, nc_cf3, nc_co]; grind
  | 5, 1, _, _ => simp only [nc_Jm, nc_D, nc_sm, nc_Cr, nc_cd2, nc_cd3, nc_cd4, nc_ce3, nc_cd5, nc_ce4, nc_cf3, nc_co]; grind
  | 5, 2, _, _ => simp only [nc_Jm, nc_D, nc_sm, nc_Cr, nc_cd2, nc_cd3, nc_cd4, nc_ce3, nc_cd5, nc_ce4, nc_cf3, nc_co]; grind
  | 5, 3, _, _ => simp only [nc_Jm, nc_D, nc_sm, nc_Cr, nc_cd2, nc_cd3, nc_cd4, nc_ce3, nc_cd5, nc_ce4, nc_cf3, nc_co]; grind
  | 5, 4, _, _ => simp only [nc_Jm, nc_D, nc_sm, nc_Cr, nc_cd2, nc_cd3, nc_cd4, nc_ce3, nc_cd5, nc_ce4, nc_cf3, nc_co]; grind
end
section
theorem nc_smc {f g : Nat → Int} {n : Nat} (h : ∀ i, i < n → f i = g i) : nc_sm f n = nc_sm g n := by
  induction n with
  | zero => rfl
  | succ n ih =>
    show nc_sm f n + f n = nc_sm g n + g n
    rw [ih (fun i hi => h i (by omega)), h n (by omega)]
theorem nc_sm0 {f : Nat → Int} {n : Nat} (h : ∀ i, i < n → f i = 0) : nc_sm f n = 0 := by
  induction n with
  | zero => rfl
  | succ n ih =>
    show nc_sm f n + f n = 0
    rw [ih (fun i hi => h i (by omega)), h n (by omega)]
    rfl
theorem nc_sma (f g : Nat → Int) (n : Nat) : nc_sm (fun i => f i + g i) n = nc_sm f n + nc_sm g n := by
  induction n with
  | zero => rfl
  | succ n ih =>
    show nc_sm (fun i => f i + g i) n + (f n + g n) = (nc_sm f n + f n) + (nc_sm g n + g n)
    rw [ih]
    omega
theorem nc_sms (f g : Nat → Int) (n : Nat) : nc_sm (fun i => f i - g i) n = nc_sm f n - nc_sm g n := by
  induction n with
  | zero => rfl
  | succ n ih =>
    show nc_sm (fun i => f i - g i) n + (f n - g n) = (nc_sm f n + f n) - (nc_sm g n + g n)
    rw [ih]
    omega
theorem nc_smm (a : Int) (f : Nat → Int) (n : Nat) : nc_sm (fun i => a * f i) n = a * nc_sm f n := by
  induction n with
  | zero => exact (Int.mul_zero a).symm
  | succ n ih =>
    show nc_sm (fun i => a * f i) n + a * f n = a * (nc_sm f n + f n)
    rw [ih, Int.mul_add]
theorem nc_smw (f : Nat → Nat → Int) (n m : Nat) : nc_sm (fun i => nc_sm (fun j => f i j) m) n = nc_sm (fun j => nc_sm (fun i => f i j) n) m := by
  induction n with
  | zero => exact (nc_sm0 (fun _ _ => rfl)).symm
  | succ n ih =>
    show nc_sm (fun i => nc_sm (fun j => f i j) m) n + nc_sm (fun j => f n j) m = nc_sm (fun j => nc_sm (fun i => f i j) n + f n j) m
    rw [ih, nc_sma (fun j => nc_sm (fun i => f i j) n) (fun j => f n j) m]
theorem nc_smp {f : Nat → Int} {n : Nat} (h : ∀ i, i < n → 0 ≤ f i) : 0 ≤ nc_sm f n := by
  induction n with
  | zero => exact Int.le_refl 0
  | succ n ih =>
    show 0 ≤ nc_sm f n + f n
    have := ih (fun i hi => h i (by omega))
    have := h n (by omega)
    omega
theorem nc_sme {f : Nat → Int} {n : Nat} (h : ∀ i, i < n → 0 ≤ f i) (h0 : nc_sm f n = 0) : ∀ i, i < n → f i = 0 := by
  induction n with
  | zero => intro i hi; omega
  | succ n ih =>
    have e : nc_sm f n + f n = 0 := h0
    have h1 := nc_smp (fun i (hi : i < n) => h i (by omega))
    have h2 := h n (by omega)
    intro i hi
    by_cases c : i = n
    · rw [c]; omega
    · exact ih (fun i hi => h i (by omega)) (by omega) i (by omega)
theorem nc_smd (f : Nat → Int) {k n : Nat} (h : k < n) : nc_sm (fun i => if i = k then f i else 0) n = f k := by
  induction n with
  | zero => omega
  | succ n ih =>
    show nc_sm (fun i => if i = k then f i else 0) n + (if n = k then f n else 0) = f k
    by_cases c : n = k
    · rw [if_pos c, nc_sm0 (fun i hi => if_neg (by omega)), c]
      omega
    · rw [if_neg c, ih (by omega)]
      omega
theorem nc_smx {f : Nat → Int} {n m : Nat} (h : n ≤ m) (h0 : ∀ i, n ≤ i → i < m → f i = 0) : nc_sm f m = nc_sm f n := by
  induction m with
  | zero => rw [show n = 0 by omega]
  | succ m ih =>
    by_cases c : n = m + 1
    · rw [c]
    · show nc_sm f m + f m = nc_sm f n
      rw [ih (by omega) (fun i h1 h2 => h0 i h1 (by omega)), h0 m (by omega) (by omega)]
      omega
/-- the first term apart -/
theorem nc_smf (f : Nat → Int) (n : Nat) : nc_sm f (n + 1) = f 0 + nc_sm (fun i => f (i + 1)) n := by
  induction n with
  | zero => show 0 + f 0 = f 0 + 0; omega
  | succ n ih =>
    show nc_sm f (n + 1) + f (n + 1) = f 0 + (nc_sm (fun i => f (i + 1)) n + f (n + 1))
    rw [ih]
    omega
/-- the step: a row below the pivot -/
theorem nc_JS (A : Nat → Nat → Int) (k i j : Nat) (hk : k < 4) :
    nc_Jm A k k k * nc_Jm A k i j - nc_Jm A k i k * nc_Jm A k k j = nc_D A k * nc_Jm A (k + 1) i j := by
  have e : nc_Jm A (k + 1) i j = nc_Jm A k k k * A i j - (nc_sm (fun r => A i r * nc_Cr A (k + 1) r j) k + A i k * nc_Jm A k k j) := by
    show nc_D A (k + 1) * A i j - (nc_sm (fun r => A i r * nc_Cr A (k + 1) r j) k + A i k * nc_Cr A (k + 1) k j) = _
    rw [nc_Dsucc A k (by omega), nc_Crk A k j hk]
  have s1 : nc_D A k * nc_sm (fun r => A i r * nc_Cr A (k + 1) r j) k = nc_Jm A k k k * nc_sm (fun r => A i r * nc_Cr A k r j) k - nc_Jm A k k j * nc_sm (fun r => A i r * nc_Cr A k r k) k := by
    rw [← nc_smm, ← nc_smm, ← nc_smm, ← nc_sms]
    refine nc_smc (fun r hr => ?_)
    have := nc_JR A k r j hk hr
    grind
  rw [e]
  have e1 : nc_Jm A k i j = nc_D A k * A i j - nc_sm (fun r => A i r * nc_Cr A k r j) k := rfl
  have e2 : nc_Jm A k i k = nc_D A k * A i k - nc_sm (fun r => A i r * nc_Cr A k r k) k := rfl
  generalize nc_Jm A k k k = P at *
  generalize nc_Jm A k k j = Q at *
  rw [e1, e2]
  grind
/-- the table at level k -/
def nc_Jf (A : Nat → Nat → Int) (k i j : Nat) : Int := if i < k then nc_Cr A k i j else nc_Jm A k i j
theorem nc_Jfk (A : Nat → Nat → Int) (k j : Nat) : nc_Jf A k k j = nc_Jm A k k j := if_neg (by omega)
theorem nc_Jf1 (A : Nat → Nat → Int) (k j : Nat) (hk : k < 4) : nc_Jf A (k + 1) k j = nc_Jf A k k j := by
  rw [nc_Jfk]
  unfold nc_Jf
  rw [if_pos (by omega), nc_Crk A k j hk]
theorem nc_JF (A : Nat → Nat → Int) (k i j : Nat) (hk : k < 4) (hi : i ≠ k) :
    nc_Jf A k k k * nc_Jf A k i j - nc_Jf A k i k * nc_Jf A k k j = nc_D A k * nc_Jf A (k + 1) i j := by
  rw [nc_Jfk, nc_Jfk]
  unfold nc_Jf
  by_cases c : i < k
  · rw [if_pos c, if_pos c, if_pos (by omega)]
    exact nc_JR A k i j hk c
  · rw [if_neg c, if_neg c, if_neg (by omega)]
    exact nc_JS A k i j hk
theorem nc_Jf0 (A : Nat → Nat → Int) (i j : Nat) : nc_Jf A 0 i j = A i j := by
  unfold nc_Jf nc_Jm
  rw [if_neg (by omega)]
  show 1 * A i j - 0 = A i j
  omega
/-! bounds -/
theorem nc_bm {a b : Int} {M N : Nat} (h1 : a.natAbs ≤ M) (h2 : b.natAbs ≤ N) : (a * b).natAbs ≤ M * N := by
  rw [Int.natAbs_mul]
  exact Nat.mul_le_mul h1 h2
theorem nc_bs {a b : Int} {M N : Nat} (h1 : a.natAbs ≤ M) (h2 : b.natAbs ≤ N) : (a - b).natAbs ≤ M + N := by omega
theorem nc_ba {a b : Int} {M N : Nat} (h1 : a.natAbs ≤ M) (h2 : b.natAbs ≤ N) : (a + b).natAbs ≤ M + N := by omega
theorem nc_b2 {x y : Nat → Int} (hx : ∀ i, i < 5 → (x i).natAbs ≤ 45) (hy : ∀ i, i < 5 → (y i).natAbs ≤ 45) : (nc_cd2 x y).natAbs ≤ 2 * 45 ^ 2 :=
  Nat.le_trans (nc_bs (nc_bm (hx 0 (by omega)) (hy 1 (by omega))) (nc_bm (hy 0 (by omega)) (hx 1 (by omega)))) (by decide)
theorem nc_b3 {x y z : Nat → Int} (hx : ∀ i, i < 5 → (x i).natAbs ≤ 45) (hy : ∀ i, i < 5 → (y i).natAbs ≤ 45) (hz : ∀ i, i < 5 → (z i).natAbs ≤ 45) : (nc_cd3 x y z).natAbs ≤ 6 * 45 ^ 3 := by
  refine Nat.le_trans (nc_ba (nc_bs (nc_bm (hx 0 (by omega)) (nc_bs (nc_bm (hy 1 (by omega)) (hz 2 (by omega))) (nc_bm (hz 1 (by omega)) (hy 2 (by omega))))) (nc_bm (hy 0 (by omega)) (nc_bs (nc_bm (hx 1 (by omega)) (hz 2 (by omega))) (nc_bm (hz 1 (by omega)) (hx 2 (by omega)))))) (nc_bm (hz 0 (by omega)) (nc_bs (nc_bm (hx 1 (by omega)) (hy 2 (by omega))) (nc_bm (hy 1 (by omega)) (hx 2 (by omega)))))) (by decide)
theorem nc_be3 {x y z : Nat → Int} (hx : ∀ i, i < 5 → (x i).natAbs ≤ 45) (hy : ∀ i, i < 5 → (y i).natAbs ≤ 45) (hz : ∀ i, i < 5 → (z i).natAbs ≤ 45) : (nc_ce3 x y z).natAbs ≤ 6 * 45 ^ 3 := by
  refine Nat.le_trans (nc_ba (nc_bs (nc_bm (hx 1 (by omega)) (nc_bs (nc_bm (hy 2 (by omega)) (hz 3 (by omega))) (nc_bm (hz 2 (by omega)) (hy 3 (by omega))))) (nc_bm (hy 1 (by omega)) (nc_bs (nc_bm (hx 2 (by omega)) (hz 3 (by omega))) (nc_bm (hz 2 (by omega)) (hx 3 (by omega)))))) (nc_bm (hz 1 (by omega)) (nc_bs (nc_bm (hx 2 (by omega)) (hy 3 (by omega))) (nc_bm (hy 2 (by omega)) (hx 3 (by omega)))))) (by decide)
theorem nc_b4 {x y z t : Nat → Int} (hx : ∀ i, i < 5 → (x i).natAbs ≤ 45) (hy : ∀ i, i < 5 → (y i).natAbs ≤ 45) (hz : ∀ i, i < 5 → (z i).natAbs ≤ 45) (ht : ∀ i, i < 5 → (t i).natAbs ≤ 45) : (nc_cd4 x y z t).natAbs ≤ 24 * 45 ^ 4 :=
  Nat.le_trans (nc_bs (nc_ba (nc_bs (nc_bm (hx 0 (by omega)) (nc_be3 hy hz ht)) (nc_bm (hy 0 (by omega)) (nc_be3 hx hz ht))) (nc_bm (hz 0 (by omega)) (nc_be3 hx hy ht))) (nc_bm (ht 0 (by omega)) (nc_be3 hx hy hz))) (by decide)
theorem nc_bD {A : Nat → Nat → Int} (h : ∀ i j, i < 5 → j < 5 → (A i j).natAbs ≤ 45) (k : Nat) (hk : k ≤ 4) : (nc_D A k).natAbs ≤ 24 * 45 ^ 4 := by
  match k, hk with
  | 0, _ => exact Nat.le_of_ble_eq_true rfl
  | 1, _ => exact Nat.le_trans (h 0 0 (by omega) (by omega)) (by decide)
  | 2, _ => exact Nat.le_trans (nc_b2 (x := nc_co A 0) (y := nc_co A 1) (fun i hi => h i 0 hi (by omega)) (fun i hi => h i 1 hi (by omega))) (by decide)
  | 3, _ => exact Nat.le_trans (nc_b3 (x := nc_co A 0) (y := nc_co A 1) (z := nc_co A 2) (fun i hi => h i 0 hi (by omega)) (fun i hi => h i 1 hi (by omega)) (fun i hi => h i 2 hi (by omega))) (by decide)
  | 4, _ => exact nc_b4 (x := nc_co A 0) (y := nc_co A 1) (z := nc_co A 2) (t := nc_co A 3) (fun i hi => h i 0 hi (by omega)) (fun i hi => h i 1 hi (by omega)) (fun i hi => h i 2 hi (by omega)) (fun i hi => h i 3 hi (by omega))
theorem nc_bC {A : Nat → Nat → Int} (h : ∀ i j, i < 5 → j < 5 → (A i j).natAbs ≤ 45) (k r j : Nat) (hk : k ≤ 4) (hr : r < k) (hj : j < 5) : (nc_Cr A k r j).natAbs ≤ 24 * 45 ^ 4 := by
  have hc : ∀ c, c < 5 → ∀ i, i < 5 → (nc_co A c i).natAbs ≤ 45 := fun c hc i hi => h i c hi hc
  match k, r, hk, hr with
  | 1, 0, _, _ => exact Nat.le_trans (h 0 j (by omega) hj) (by decide)
  | 2, 0, _, _ => exact Nat.le_trans (nc_b2 (hc j hj) (hc 1 (by omega))) (by decide)
  | 2, 1, _, _ => exact Nat.le_trans (nc_b2 (hc 0 (by omega)) (hc j hj)) (by decide)
  | 3, 0, _, _ => exact Nat.le_trans (nc_b3 (hc j hj) (hc 1 (by omega)) (hc 2 (by omega))) (by decide)
  | 3, 1, _, _ => exact Nat.le_trans (nc_b3 (hc 0 (by omega)) (hc j hj) (hc 2 (by omega))) (by decide)
  | 3, 2, _, _ => exact Nat.le_trans (nc_b3 (hc 0 (by omega)) (hc 1 (by omega)) (hc j hj)) (by decide)
  | 4, 0, _, _ => exact nc_b4 (hc j hj) (hc 1 (by omega)) (hc 2 (by omega)) (hc 3 (by omega))
  | 4, 1, _, _ => exact nc_b4 (hc 0 (by omega)) (hc j hj) (hc 2 (by omega)) (hc 3 (by omega))
  | 4, 2, _, _ => exact nc_b4 (hc 0 (by omega)) (hc 1 (by omega)) (hc j hj) (hc 3 (by omega))
  | 4, 3, _, _ => exact nc_b4 (hc 0 (by omega)) (hc 1 (by omega)) (hc 2 (by omega)) (hc j hj)
theorem nc_bsm {f : Nat → Int} {n M : Nat} (h : ∀ i, i < n → (f i).natAbs ≤ M) : (nc_sm f n).natAbs ≤ n * M := by
  induction n with
  | zero => exact Nat.zero_le _
  | succ n ih =>
    show (nc_sm f n + f n).natAbs ≤ (n + 1) * M
    have h1 := ih (fun i hi => h i (by omega))
    have h2 := h n (by omega)
    rw [Nat.succ_mul]
    omega
theorem nc_bJ {A : Nat → Nat → Int} (h : ∀ i j, i < 5 → j < 5 → (A i j).natAbs ≤ 45) (k i j : Nat) (hk : k ≤ 4) (hi : i < 5) (hj : j < 5) : (nc_Jf A k i j).natAbs ≤ 2 ^ 35 := by
  unfold nc_Jf
  by_cases c : i < k
  · rw [if_pos c]
    exact Nat.le_trans (nc_bC h k i j hk c hj) (by decide)
  · rw [if_neg c]
    have h1 := nc_bm (nc_bD h k hk) (h i j hi hj)
    have h2 : (nc_sm (fun r => A i r * nc_Cr A k r j) k).natAbs ≤ k * (45 * (24 * 45 ^ 4)) := nc_bsm (fun r hr => nc_bm (h i r hi (by omega)) (nc_bC h k r j hk hr hj))
    have h3 : k * (45 * (24 * 45 ^ 4)) ≤ 4 * (45 * (24 * 45 ^ 4)) := Nat.mul_le_mul_right _ hk
    exact Nat.le_trans (nc_bs h1 (Nat.le_trans h2 h3)) (by decide)
end
section
/-- a circuit of n points: the weights -/
def nc_G (n : Nat) (w : Nat → Nat → Int) : Prop := 2 ≤ n ∧ n ≤ 6 ∧ (∀ p q, 0 ≤ w p q ∧ w p q ≤ 9) ∧ (∀ p q, w p q = w q p) ∧ (∀ p, w p p = 0) ∧ (∀ p q, n ≤ p → w p q = 0)
/-- joined: whatever is equal along the edges is equal at both -/
def nc_Conn (w : Nat → Nat → Int) (u v : Nat) : Prop := ∀ f : Nat → Int, (∀ a b, 0 < w a b → f a = f b) → f u = f v
def nc_CN (n : Nat) (w : Nat → Nat → Int) : Prop := ∀ p, p < n → nc_Conn w p 0
theorem nc_Cr_r (w : Nat → Nat → Int) (u : Nat) : nc_Conn w u u := fun _ _ => rfl
theorem nc_Cs {w : Nat → Nat → Int} {u v : Nat} (h : nc_Conn w u v) : nc_Conn w v u := fun f hf => (h f hf).symm
theorem nc_Ct {w : Nat → Nat → Int} {u v x : Nat} (h : nc_Conn w u v) (h2 : nc_Conn w v x) : nc_Conn w u x := fun f hf => (h f hf).trans (h2 f hf)
def nc_La (w : Nat → Nat → Int) (X : Nat → Int) (u : Nat) : Int := nc_sm (fun v => w u v * (X u - X v)) 6
def nc_dg (w : Nat → Nat → Int) (u : Nat) : Int := nc_sm (fun v => w u v) 6
def nc_Lm (w : Nat → Nat → Int) (u v : Nat) : Int := if u = v then nc_dg w u else - w u v
theorem nc_bil {w : Nat → Nat → Int} (hs : ∀ p q, w p q = w q p) (Y X : Nat → Int) :
    2 * nc_sm (fun u => Y u * nc_La w X u) 6 = nc_sm (fun u => nc_sm (fun v => w u v * ((Y u - Y v) * (X u - X v))) 6) 6 := by
  have e1 : nc_sm (fun u => Y u * nc_La w X u) 6 = nc_sm (fun u => nc_sm (fun v => w u v * (Y u * (X u - X v))) 6) 6 := by
    refine nc_smc (fun u _ => ?_)
    show Y u * nc_sm (fun v => w u v * (X u - X v)) 6 = _
    rw [← nc_smm]
    refine nc_smc (fun v _ => ?_)
    grind
  have e2 : nc_sm (fun u => nc_sm (fun v => w u v * (Y u * (X u - X v))) 6) 6 = nc_sm (fun u => nc_sm (fun v => w u v * (-(Y v) * (X u - X v))) 6) 6 := by
    rw [nc_smw]
    refine nc_smc (fun u _ => nc_smc (fun v _ => ?_))
    rw [hs v u]
    grind
  have e3 : nc_sm (fun u => nc_sm (fun v => w u v * ((Y u - Y v) * (X u - X v))) 6) 6 = nc_sm (fun u => nc_sm (fun v => w u v * (Y u * (X u - X v))) 6) 6 + nc_sm (fun u => nc_sm (fun v => w u v * (-(Y v) * (X u - X v))) 6) 6 := by
    rw [← nc_sma]
    refine nc_smc (fun u _ => ?_)
    rw [← nc_sma]
    refine nc_smc (fun v _ => ?_)
    grind
  rw [e3, ← e2, e1]
  omega
theorem nc_sq (a : Int) : 0 ≤ a * a := by
  rcases Int.le_total 0 a with h | h
  · exact Int.mul_nonneg h h
  · have := Int.mul_nonneg (show 0 ≤ -a by omega) (show 0 ≤ -a by omega)
    rwa [Int.neg_mul_neg] at this
theorem nc_sq0 {a : Int} (h : a * a = 0) : a = 0 := by
  rcases Int.mul_eq_zero.mp h with h | h <;> exact h
/-- whoever has no energy is equal along the edges -/
theorem nc_en {n : Nat} {w : Nat → Nat → Int} (hG : nc_G n w) (X : Nat → Int) :
    0 ≤ nc_sm (fun u => X u * nc_La w X u) 6 ∧ (nc_sm (fun u => X u * nc_La w X u) 6 = 0 → ∀ a b, 0 < w a b → X a = X b) := by
  obtain ⟨_, h6, hw, hs, _, h0⟩ := hG
  have e := nc_bil hs X X
  have hp : ∀ u v, 0 ≤ w u v * ((X u - X v) * (X u - X v)) := fun u v => Int.mul_nonneg (hw u v).1 (nc_sq _)
  have hp2 : ∀ u, u < 6 → 0 ≤ nc_sm (fun v => w u v * ((X u - X v) * (X u - X v))) 6 := fun u _ => nc_smp (fun v _ => hp u v)
  refine ⟨by have := nc_smp hp2; omega, fun z a b hab => ?_⟩
  have ha : a < 6 := by
    rcases Nat.lt_or_ge a 6 with c | c
    · exact c
    · have := h0 a b (by omega); omega
  have hb : b < 6 := by
    rcases Nat.lt_or_ge b 6 with c | c
    · exact c
    · have := h0 b a (by omega); have := hs a b; omega
  rw [z] at e
  have e1 := nc_sme hp2 (by omega) a ha
  have e2 : w a b * ((X a - X b) * (X a - X b)) = 0 := nc_sme (fun v _ => hp a v) e1 b hb
  rcases Int.mul_eq_zero.mp e2 with h | h
  · omega
  · have := nc_sq0 h; omega
theorem nc_sym {w : Nat → Nat → Int} (hs : ∀ p q, w p q = w q p) (Y X : Nat → Int) : nc_sm (fun u => Y u * nc_La w X u) 6 = nc_sm (fun u => X u * nc_La w Y u) 6 := by
  have e1 := nc_bil hs Y X
  have e2 := nc_bil hs X Y
  have e3 : nc_sm (fun u => nc_sm (fun v => w u v * ((Y u - Y v) * (X u - X v))) 6) 6 = nc_sm (fun u => nc_sm (fun v => w u v * ((X u - X v) * (Y u - Y v))) 6) 6 := by
    refine nc_smc (fun u _ => nc_smc (fun v _ => ?_))
    rw [Int.mul_comm (Y u - Y v)]
  omega
/-- all currents together are 0 -/
theorem nc_all {w : Nat → Nat → Int} (hs : ∀ p q, w p q = w q p) (X : Nat → Int) : nc_sm (fun u => nc_La w X u) 6 = 0 := by
  have e := nc_sym hs (fun _ => 1) X
  have e1 : nc_sm (fun u => X u * nc_La w (fun _ => 1) u) 6 = 0 := by
    refine nc_sm0 (fun u _ => ?_)
    have : nc_La w (fun _ => 1) u = 0 := nc_sm0 (fun v _ => by show w u v * (1 - 1) = 0; omega)
    rw [this, Int.mul_zero]
  rw [e1] at e
  rw [← e]
  exact nc_smc (fun u _ => (Int.one_mul _).symm)
theorem nc_LaL {w : Nat → Nat → Int} (hd : ∀ p, w p p = 0) (X : Nat → Int) {u : Nat} (hu : u < 6) : nc_La w X u = nc_sm (fun v => nc_Lm w u v * X v) 6 := by
  have e1 : nc_sm (fun v => nc_Lm w u v * X v) 6 = nc_sm (fun v => if v = u then nc_dg w u * X v else 0) 6 - nc_sm (fun v => w u v * X v) 6 := by
    rw [← nc_sms]
    refine nc_smc (fun v _ => ?_)
    unfold nc_Lm
    by_cases c : u = v
    · rw [if_pos c, if_pos c.symm, c, hd v]
      omega
    · rw [if_neg c, if_neg (fun z => c z.symm), Int.neg_mul]
      omega
  rw [e1, nc_smd (fun v => nc_dg w u * X v) hu]
  show nc_sm (fun v => w u v * (X u - X v)) 6 = nc_sm (fun v => w u v) 6 * X u - nc_sm (fun v => w u v * X v) 6
  rw [Int.mul_comm, ← nc_smm, ← nc_sms]
  refine nc_smc (fun v _ => ?_)
  grind
/-- numbers of rows laid on their points -/
def nc_up (ρ : Nat → Nat) (x : Nat → Int) (m : Nat) (v : Nat) : Int := nc_sm (fun r => if v = ρ r then x r else 0) m
theorem nc_upS (ρ : Nat → Nat) (x : Nat → Int) (m : Nat) (hr : ∀ r, r < m → ρ r < 6) (g : Nat → Int) :
    nc_sm (fun v => g v * nc_up ρ x m v) 6 = nc_sm (fun r => g (ρ r) * x r) m := by
  have e : nc_sm (fun v => g v * nc_up ρ x m v) 6 = nc_sm (fun v => nc_sm (fun r => if v = ρ r then g v * x r else 0) m) 6 := by
    refine nc_smc (fun v _ => ?_)
    unfold nc_up
    rw [← nc_smm]
    refine nc_smc (fun r _ => ?_)
    by_cases c : v = ρ r
    · rw [if_pos c, if_pos c]
    · rw [if_neg c, if_neg c, Int.mul_zero]
  rw [e, nc_smw]
  refine nc_smc (fun r h => ?_)
  exact nc_smd (fun v => g v * x r) (hr r h)
theorem nc_upN (ρ : Nat → Nat) (x : Nat → Int) (m v : Nat) (h : ∀ r, r < m → v ≠ ρ r) : nc_up ρ x m v = 0 :=
  nc_sm0 (fun r hr => if_neg (h r hr))
theorem nc_upK (ρ : Nat → Nat) (x : Nat → Int) (m k : Nat) (hk : k < m) (h : ∀ r, r < m → r ≠ k → ρ r ≠ ρ k) : nc_up ρ x m (ρ k) = x k := by
  unfold nc_up
  rw [← nc_smd x hk]
  refine nc_smc (fun r hr => ?_)
  by_cases c : r = k
  · rw [if_pos c, if_pos (by rw [c])]
  · rw [if_neg c, if_neg (fun z => h r hr c z.symm)]
/-- the pivots -/
theorem nc_piv {n : Nat} {w : Nat → Nat → Int} (hG : nc_G n w) (ρ : Nat → Nat) (A : Nat → Nat → Int) (k : Nat) (hk : k ≤ 5) (hr : ∀ r, r ≤ k → ρ r < 6)
    (hA : ∀ i j, i ≤ k → j ≤ k → A i j = nc_Lm w (ρ i) (ρ j)) (hi : ∀ r, r < k → ρ r ≠ ρ k) (hD : 0 < nc_D A k) :
    0 ≤ nc_Jm A k k k ∧ ∀ g, (∀ r, r ≤ k → g ≠ ρ r) → nc_Conn w (ρ k) g → nc_Jm A k k k ≠ 0 := by
  have hG' := hG
  obtain ⟨_, h6, hw, hs, hd, h0⟩ := hG'
  let x : Nat → Int := fun r => if r < k then -(nc_Cr A k r k) else nc_D A k
  let X : Nat → Int := nc_up ρ x (k + 1)
  have xk : x k = nc_D A k := if_neg (by omega)
  have row : ∀ i, i ≤ k → nc_La w X (ρ i) = nc_Jm A k i k := by
    intro i hi
    rw [nc_LaL hd X (hr i hi)]
    show nc_sm (fun v => nc_Lm w (ρ i) v * nc_up ρ x (k + 1) v) 6 = _
    rw [nc_upS ρ x (k + 1) (fun r h => hr r (by omega)) (fun v => nc_Lm w (ρ i) v)]
    show nc_sm (fun r => nc_Lm w (ρ i) (ρ r) * x r) k + nc_Lm w (ρ i) (ρ k) * x k = _
    rw [xk, ← hA i k hi (Nat.le_refl k)]
    have e : nc_sm (fun r => nc_Lm w (ρ i) (ρ r) * x r) k = (-1) * nc_sm (fun r => A i r * nc_Cr A k r k) k := by
      rw [← nc_smm]
      refine nc_smc (fun r h => ?_)
      rw [← hA i r hi (by omega)]
      show A i r * (if r < k then -(nc_Cr A k r k) else nc_D A k) = _
      rw [if_pos h]
      grind
    rw [e]
    unfold nc_Jm
    grind
  have en : nc_sm (fun u => X u * nc_La w X u) 6 = nc_Jm A k k k * nc_D A k := by
    have e1 : nc_sm (fun u => X u * nc_La w X u) 6 = nc_sm (fun u => nc_La w X u * nc_up ρ x (k + 1) u) 6 := nc_smc (fun u _ => Int.mul_comm _ _)
    rw [e1, nc_upS ρ x (k + 1) (fun r h => hr r (by omega)) (fun u => nc_La w X u)]
    show nc_sm (fun r => nc_La w X (ρ r) * x r) k + nc_La w X (ρ k) * x k = _
    rw [nc_sm0 (fun r h => by rw [row r (by omega), nc_CP A k r k hk h, Int.zero_mul]), row k (Nat.le_refl k), xk]
    omega
  have E := nc_en hG X
  rw [en] at E
  refine ⟨?_, fun g hg hc z => ?_⟩
  · rcases Int.le_total 0 (nc_Jm A k k k) with h | h
    · exact h
    · have h1 := E.1
      have : nc_Jm A k k k * nc_D A k ≤ 0 := Int.mul_nonpos_of_nonpos_of_nonneg h (by omega)
      have e0 : nc_Jm A k k k * nc_D A k = 0 := by omega
      rcases Int.mul_eq_zero.mp e0 with e | e <;> omega
  · have cl := E.2 (by rw [z, Int.zero_mul])
    have e1 : X (ρ k) = X g := hc X cl
    have e2 : X (ρ k) = x k := nc_upK ρ x (k + 1) k (by omega) (fun r h1 h2 => hi r (by omega))
    have e3 : X g = 0 := nc_upN ρ x (k + 1) g (fun r h => hg r (by omega))
    rw [e2, e3, xk] at e1
    omega
theorem nc_Dc {A B : Nat → Nat → Int} (h : ∀ i j, j < 5 → A i j = B i j) (k : Nat) (hk : k ≤ 5) : nc_D A k = nc_D B k := by
  have hc : ∀ j, j < 5 → nc_co A j = nc_co B j := fun j hj => funext (fun i => h i j hj)
  match k, hk with
  | 0, _ => rfl
  | 1, _ => exact h 0 0 (by omega)
  | 2, _ => simp only [nc_D]; rw [hc 0 (by omega), hc 1 (by omega)]
  | 3, _ => simp only [nc_D]; rw [hc 0 (by omega), hc 1 (by omega), hc 2 (by omega)]
  | 4, _ => simp only [nc_D]; rw [hc 0 (by omega), hc 1 (by omega), hc 2 (by omega), hc 3 (by omega)]
  | 5, _ => simp only [nc_D]; rw [hc 0 (by omega), hc 1 (by omega), hc 2 (by omega), hc 3 (by omega), hc 4 (by omega)]
/-- the table of all points but the first -/
def nc_AL (w : Nat → Nat → Int) : Nat → Nat → Int := fun i j => nc_Lm w (i + 1) (j + 1)
/-- the trees -/
def nc_TR (n : Nat) (w : Nat → Nat → Int) : Int := if (∀ k, k < n - 1 → nc_Jm (nc_AL w) k k k ≠ 0) then nc_D (nc_AL w) (n - 1) else 0
theorem nc_pvL {n : Nat} {w : Nat → Nat → Int} (hG : nc_G n w) (k : Nat) (hk : k < n - 1) (hD : 0 < nc_D (nc_AL w) k) :
    0 ≤ nc_Jm (nc_AL w) k k k ∧ (nc_Conn w (k + 1) 0 → nc_Jm (nc_AL w) k k k ≠ 0) := by
  have h6 := hG.2.1
  have := nc_piv hG (fun r => r + 1) (nc_AL w) k (by omega) (fun r h => by show r + 1 < 6; omega) (fun i j _ _ => rfl) (fun r h => by show r + 1 ≠ k + 1; omega) hD
  exact ⟨this.1, this.2 0 (fun r _ => by show 0 ≠ r + 1; omega)⟩
theorem nc_Dpos {n : Nat} {w : Nat → Nat → Int} (hG : nc_G n w) (k : Nat) (hk : k ≤ n - 1) (h : ∀ j, j < k → nc_Jm (nc_AL w) j j j ≠ 0) : 0 < nc_D (nc_AL w) k := by
  have h6 := hG.2.1
  induction k with
  | zero => exact Int.zero_lt_one
  | succ k ih =>
    have h1 := ih (by omega) (fun j hj => h j (by omega))
    have h2 := (nc_pvL hG k (by omega) h1).1
    have h3 := h k (by omega)
    rw [nc_Dsucc _ k (by omega)]
    omega
/-- whole numbers that drive a current of D from p to point 0 -/
theorem nc_adj {n : Nat} {w : Nat → Nat → Int} (hG : nc_G n w) (p : Nat) (hp : 1 ≤ p) (hpn : p < n) :
    ∃ U : Nat → Int, ∀ v, v < 6 → nc_La w U v = nc_D (nc_AL w) (n - 1) * ((if v = p then 1 else 0) - (if v = 0 then 1 else 0)) := by
  obtain ⟨h2, h6, hw, hs, hd, h0⟩ := hG
  let B : Nat → Nat → Int := fun i j => if j = 9 then (if i + 1 = p then 1 else 0) else nc_AL w i j
  have hB : ∀ i j, j < 5 → B i j = nc_AL w i j := fun i j hj => if_neg (by omega)
  have hB9 : ∀ i, B i 9 = (if i + 1 = p then 1 else 0) := fun i => if_pos rfl
  let U : Nat → Int := fun v => if 1 ≤ v ∧ v < n then nc_Cr B (n - 1) (v - 1) 9 else 0
  have U0 : U 0 = 0 := if_neg (by omega)
  have Uj : ∀ j, j < n - 1 → U (j + 1) = nc_Cr B (n - 1) j 9 := fun j hj => if_pos ⟨by omega, by omega⟩
  have Un : ∀ j, n - 1 ≤ j → U (j + 1) = 0 := fun j hj => if_neg (by omega)
  have row : ∀ i, i < 5 → nc_La w U (i + 1) = nc_D (nc_AL w) (n - 1) * (if i + 1 = p then 1 else 0) := by
    intro i hi
    by_cases c : i < n - 1
    · rw [nc_LaL hd U (by omega), nc_smf]
      show nc_Lm w (i + 1) 0 * U 0 + nc_sm (fun j => nc_Lm w (i + 1) (j + 1) * U (j + 1)) 5 = _
      rw [U0, Int.mul_zero, Int.zero_add, nc_smx (n := n - 1) (by omega) (fun j h1 _ => by show nc_Lm w (i + 1) (j + 1) * U (j + 1) = 0; rw [Un j h1, Int.mul_zero])]
      have e := nc_CP B (n - 1) i 9 (by omega) c
      unfold nc_Jm at e
      rw [hB9, nc_Dc hB (n - 1) (by omega)] at e
      have e2 : nc_sm (fun j => nc_Lm w (i + 1) (j + 1) * U (j + 1)) (n - 1) = nc_sm (fun r => B i r * nc_Cr B (n - 1) r 9) (n - 1) := by
        refine nc_smc (fun j hj => ?_)
        rw [Uj j hj, hB i j (by omega)]
        rfl
      rw [e2]
      omega
    · rw [if_neg (by omega), Int.mul_zero]
      exact nc_sm0 (fun v _ => by show w (i + 1) v * _ = 0; rw [h0 (i + 1) v (by omega), Int.zero_mul])
  refine ⟨U, fun v hv => ?_⟩
  match v, hv with
  | v + 1, hv =>
    rw [row v (by omega), if_neg (show ¬ v + 1 = 0 by omega)]
    rw [Int.sub_zero]
  | 0, hv =>
    have a := nc_all hs U
    rw [nc_smf] at a
    have e : nc_sm (fun i => nc_La w U (i + 1)) 5 = nc_D (nc_AL w) (n - 1) := by
      rw [nc_smc (g := fun i => if i = p - 1 then nc_D (nc_AL w) (n - 1) else 0) (fun i hi => ?_)]
      · exact nc_smd (fun _ => nc_D (nc_AL w) (n - 1)) (by omega)
      · show nc_La w U (i + 1) = _
        rw [row i hi]
        by_cases c : i + 1 = p
        · rw [if_pos c, if_pos (by omega), Int.mul_one]
        · rw [if_neg c, if_neg (by omega), Int.mul_zero]
    rw [e] at a
    rw [if_neg (show ¬ 0 = p by omega), if_pos rfl]
    omega
theorem nc_closedLa {w : Nat → Nat → Int} (hw : ∀ p q, 0 ≤ w p q ∧ w p q ≤ 9) {f : Nat → Int} (hf : ∀ a b, 0 < w a b → f a = f b) (u : Nat) : nc_La w f u = 0 := by
  refine nc_sm0 (fun v _ => ?_)
  show w u v * (f u - f v) = 0
  rcases Int.lt_or_le 0 (w u v) with h | h
  · rw [hf u v h, Int.sub_self, Int.mul_zero]
  · have := (hw u v).1
    rw [show w u v = 0 by omega, Int.zero_mul]
theorem nc_dl (f : Nat → Int) (T : Int) {p : Nat} (hp : p < 6) : nc_sm (fun v => f v * (T * ((if v = p then 1 else 0) - (if v = 0 then 1 else 0)))) 6 = T * (f p - f 0) := by
  have e : nc_sm (fun v => f v * (T * ((if v = p then 1 else 0) - (if v = 0 then 1 else 0)))) 6 = nc_sm (fun v => (if v = p then T * f v else 0) - (if v = 0 then T * f v else 0)) 6 := by
    refine nc_smc (fun v _ => ?_)
    by_cases c : v = p
    · by_cases d : v = 0
      · rw [if_pos c, if_pos c, if_pos d, if_pos d]; grind
      · rw [if_pos c, if_pos c, if_neg d, if_neg d]; grind
    · by_cases d : v = 0
      · rw [if_neg c, if_neg c, if_pos d, if_pos d]; grind
      · rw [if_neg c, if_neg c, if_neg d, if_neg d]; grind
  rw [e, nc_sms, nc_smd (fun v => T * f v) hp, nc_smd (fun v => T * f v) (show 0 < 6 by omega)]
  grind
/-- the trees: none if and only if the circuit isn't joined; and whole potentials for a current of so many -/
theorem nc_TRok {n : Nat} {w : Nat → Nat → Int} (hG : nc_G n w) :
    0 ≤ nc_TR n w ∧ (nc_TR n w = 0 ↔ ¬ nc_CN n w) ∧
    (nc_TR n w ≠ 0 → ∀ p, p < n → ∃ U : Nat → Int, ∀ v, v < 6 → nc_La w U v = nc_TR n w * ((if v = p then 1 else 0) - (if v = 0 then 1 else 0))) := by
  have hG' := hG
  obtain ⟨h2, h6, hw, hs, hd, h0⟩ := hG'
  by_cases c : ∀ k, k < n - 1 → nc_Jm (nc_AL w) k k k ≠ 0
  · have e : nc_TR n w = nc_D (nc_AL w) (n - 1) := if_pos c
    have hp := nc_Dpos hG (n - 1) (Nat.le_refl _) c
    rw [e]
    have U : ∀ p, p < n → ∃ U : Nat → Int, ∀ v, v < 6 → nc_La w U v = nc_D (nc_AL w) (n - 1) * ((if v = p then 1 else 0) - (if v = 0 then 1 else 0)) := by
      intro p hpn
      match p with
      | 0 =>
        refine ⟨fun _ => 0, fun v _ => ?_⟩
        rw [Int.sub_self, Int.mul_zero]
        exact nc_sm0 (fun _ _ => by show _ * (0 - 0) = (0 : Int); omega)
      | p + 1 => exact nc_adj hG (p + 1) (by omega) hpn
    refine ⟨by omega, ⟨fun z => absurd z (by omega), fun z => ?_⟩, fun _ => U⟩
    exfalso
    refine z (fun p hpn f hf => ?_)
    obtain ⟨u, hu⟩ := U p hpn
    have e1 := nc_sym hs f u
    have e2 : nc_sm (fun v => u v * nc_La w f v) 6 = 0 := nc_sm0 (fun v _ => by rw [nc_closedLa hw hf v, Int.mul_zero])
    have e3 : nc_sm (fun v => f v * nc_La w u v) 6 = nc_D (nc_AL w) (n - 1) * (f p - f 0) := by
      rw [← nc_dl f _ (show p < 6 by omega)]
      exact nc_smc (fun v hv => by rw [hu v hv])
    rw [e2, e3] at e1
    rcases Int.mul_eq_zero.mp e1 with h | h <;> omega
  · have e : nc_TR n w = 0 := if_neg c
    rw [e]
    refine ⟨Int.le_refl 0, ⟨fun _ hc => c (fun k => ?_), fun _ => rfl⟩, fun z => absurd rfl z⟩
    induction k using Nat.strongRecOn with
    | _ k ih =>
      intro hk
      exact (nc_pvL hG k hk (nc_Dpos hG k (by omega) (fun j hj => ih j hj (by omega)))).2 (hc (k + 1) (by omega))
end
section
/-! ranks: the rows of the points of a set -/
def nc_rk (S : Nat → Bool) : Nat → Nat
  | 0 => 0
  | n + 1 => nc_rk S n + (if S n = true then 1 else 0)
def nc_rho (S : Nat → Bool) : Nat → Nat → Nat
  | 0, _ => 0
  | n + 1, i => if S n = true ∧ nc_rk S n = i then n else nc_rho S n i
theorem nc_rkm (S : Nat → Bool) {p n : Nat} (h : p ≤ n) : nc_rk S p ≤ nc_rk S n := by
  induction n with
  | zero => rw [show p = 0 by omega]; exact Nat.le_refl _
  | succ n ih =>
    by_cases c : p = n + 1
    · rw [c]; exact Nat.le_refl _
    · exact Nat.le_trans (ih (by omega)) (Nat.le_add_right _ _)
theorem nc_rks (S : Nat → Bool) {p : Nat} (hp : S p = true) : nc_rk S (p + 1) = nc_rk S p + 1 := by
  show nc_rk S p + (if S p = true then 1 else 0) = _
  rw [if_pos hp]
theorem nc_rkz (S : Nat → Bool) {p : Nat} (hp : ¬ S p = true) : nc_rk S (p + 1) = nc_rk S p := by
  show nc_rk S p + (if S p = true then 1 else 0) = _
  rw [if_neg hp]
  rfl
theorem nc_rkl (S : Nat → Bool) {p n : Nat} (hp : S p = true) (h : p < n) : nc_rk S p < nc_rk S n := by
  have h1 := nc_rks S hp
  have h2 := nc_rkm S (show p + 1 ≤ n from h)
  omega
theorem nc_rho_rk (S : Nat → Bool) {p n : Nat} (h : p < n) (hp : S p = true) : nc_rho S n (nc_rk S p) = p := by
  induction n with
  | zero => omega
  | succ n ih =>
    show (if S n = true ∧ nc_rk S n = nc_rk S p then n else nc_rho S n (nc_rk S p)) = p
    by_cases c : p = n
    · rw [← c, if_pos ⟨hp, rfl⟩]
    · have := nc_rkl S hp (show p < n by omega)
      rw [if_neg (by omega), ih (by omega)]
theorem nc_rho_ok (S : Nat → Bool) {i n : Nat} (h : i < nc_rk S n) : nc_rho S n i < n ∧ S (nc_rho S n i) = true ∧ nc_rk S (nc_rho S n i) = i := by
  induction n with
  | zero => exact absurd h (Nat.not_lt_zero i)
  | succ n ih =>
    show (if S n = true ∧ nc_rk S n = i then n else nc_rho S n i) < n + 1 ∧ S (if S n = true ∧ nc_rk S n = i then n else nc_rho S n i) = true ∧ nc_rk S (if S n = true ∧ nc_rk S n = i then n else nc_rho S n i) = i
    by_cases c : S n = true ∧ nc_rk S n = i
    · rw [if_pos c]
      exact ⟨by omega, c.1, c.2⟩
    · rw [if_neg c]
      have hi : i < nc_rk S n := by
        by_cases e : S n = true
        · have := nc_rks S e
          have : nc_rk S n ≠ i := fun z => c ⟨e, z⟩
          omega
        · have := nc_rkz S e
          omega
      have := ih hi
      exact ⟨by omega, this.2⟩
theorem nc_rk2 (S : Nat → Bool) {s d : Nat} (hs : ¬ S s = true) (hd : ¬ S d = true) (hsd : s ≠ d) (n : Nat) :
    nc_rk S n + (if s < n then 1 else 0) + (if d < n then 1 else 0) ≤ n := by
  induction n with
  | zero => show 0 + _ + _ ≤ 0; rw [if_neg (by omega), if_neg (by omega)]; omega
  | succ n ih =>
    by_cases c : S n = true
    · rw [nc_rks S c]
      have h1 : s ≠ n := fun z => hs (z ▸ c)
      have h2 : d ≠ n := fun z => hd (z ▸ c)
      split <;> split <;> split at ih <;> split at ih <;> omega
    · rw [nc_rkz S c]
      split <;> split <;> split at ih <;> split at ih <;> omega
/-! the voltages -/
noncomputable def nc_S (w : Nat → Nat → Int) (s d p : Nat) : Bool := @decide (nc_Conn w p s ∧ p ≠ s ∧ p ≠ d) (Classical.propDecidable _)
theorem nc_Si {w : Nat → Nat → Int} {s d p : Nat} : nc_S w s d p = true ↔ nc_Conn w p s ∧ p ≠ s ∧ p ≠ d :=
  @decide_eq_true_iff _ (Classical.propDecidable _)
noncomputable def nc_m (n : Nat) (w : Nat → Nat → Int) (s d : Nat) : Nat := nc_rk (nc_S w s d) n
noncomputable def nc_r (n : Nat) (w : Nat → Nat → Int) (s d : Nat) : Nat → Nat := nc_rho (nc_S w s d) n
noncomputable def nc_A (n : Nat) (w : Nat → Nat → Int) (s d : Nat) : Nat → Nat → Int :=
  fun i j => if j < nc_m n w s d then nc_Lm w (nc_r n w s d i) (nc_r n w s d j) else w (nc_r n w s d i) s
noncomputable def nc_b (n : Nat) (w : Nat → Nat → Int) (s d : Nat) : Int := nc_D (nc_A n w s d) (nc_m n w s d)
noncomputable def nc_t (n : Nat) (w : Nat → Nat → Int) (s d v : Nat) : Int :=
  nc_up (nc_r n w s d) (fun r => nc_Cr (nc_A n w s d) (nc_m n w s d) r (nc_m n w s d)) (nc_m n w s d) v + (if v = s then nc_b n w s d else 0)
theorem nc_m4 {n : Nat} {w : Nat → Nat → Int} (hG : nc_G n w) {s d : Nat} (hs : s < n) (hd : d < n) (hsd : s ≠ d) : nc_m n w s d ≤ 4 := by
  have h6 := hG.2.1
  have := nc_rk2 (nc_S w s d) (s := s) (d := d) (fun z => (nc_Si.mp z).2.1 rfl) (fun z => (nc_Si.mp z).2.2 rfl) hsd n
  rw [if_pos hs, if_pos hd] at this
  show nc_rk (nc_S w s d) n ≤ 4
  omega
theorem nc_dg45 {n : Nat} {w : Nat → Nat → Int} (hG : nc_G n w) (u : Nat) : 0 ≤ nc_dg w u ∧ nc_dg w u ≤ 45 := by
  obtain ⟨_, h6, hw, hs, hd, h0⟩ := hG
  have e : nc_dg w u = 0 + w u 0 + w u 1 + w u 2 + w u 3 + w u 4 + w u 5 := rfl
  have a0 := hw u 0
  have a1 := hw u 1
  have a2 := hw u 2
  have a3 := hw u 3
  have a4 := hw u 4
  have a5 := hw u 5
  rw [e]
  match u with
  | 0 => have := hd 0; omega
  | 1 => have := hd 1; omega
  | 2 => have := hd 2; omega
  | 3 => have := hd 3; omega
  | 4 => have := hd 4; omega
  | 5 => have := hd 5; omega
  | u + 6 =>
    have := h0 (u + 6) 0 (by omega)
    omega
theorem nc_Lm45 {n : Nat} {w : Nat → Nat → Int} (hG : nc_G n w) (u v : Nat) : (nc_Lm w u v).natAbs ≤ 45 := by
  have h1 := nc_dg45 hG u
  have h2 := hG.2.2.1 u v
  unfold nc_Lm
  by_cases c : u = v
  · rw [if_pos c]; omega
  · rw [if_neg c]; omega
theorem nc_A45 {n : Nat} {w : Nat → Nat → Int} (hG : nc_G n w) (s d i j : Nat) : (nc_A n w s d i j).natAbs ≤ 45 := by
  unfold nc_A
  by_cases c : j < nc_m n w s d
  · rw [if_pos c]; exact nc_Lm45 hG _ _
  · rw [if_neg c]
    have h2 := hG.2.2.1 (nc_r n w s d i) s
    omega
theorem nc_r_ok {n : Nat} {w : Nat → Nat → Int} {s d i : Nat} (h : i < nc_m n w s d) :
    nc_r n w s d i < n ∧ nc_Conn w (nc_r n w s d i) s ∧ nc_r n w s d i ≠ s ∧ nc_r n w s d i ≠ d ∧ nc_rk (nc_S w s d) (nc_r n w s d i) = i := by
  have := nc_rho_ok (nc_S w s d) h
  have h2 := nc_Si.mp this.2.1
  exact ⟨this.1, h2.1, h2.2.1, h2.2.2, this.2.2⟩
/-- the pivots are greater than 0 -/
theorem nc_Apos {n : Nat} {w : Nat → Nat → Int} (hG : nc_G n w) {s d : Nat} (hs : s < n) (hd : d < n) (hsd : s ≠ d) (k : Nat) (hk : k ≤ nc_m n w s d) : 0 < nc_D (nc_A n w s d) k := by
  have h6 := hG.2.1
  have hm := nc_m4 hG hs hd hsd
  induction k with
  | zero => exact Int.zero_lt_one
  | succ k ih =>
    have hD := ih (by omega)
    have P := nc_piv hG (nc_r n w s d) (nc_A n w s d) k (by omega) (fun r h => by have := (nc_r_ok (show r < nc_m n w s d by omega)).1; omega)
      (fun i j hi hj => if_pos (by omega))
      (fun r h z => by
        have h1 := (nc_r_ok (show r < nc_m n w s d by omega)).2.2.2.2
        have h2 := (nc_r_ok (show k < nc_m n w s d by omega)).2.2.2.2
        rw [z, h2] at h1
        omega) hD
    have P2 := P.2 s (fun r h z => (nc_r_ok (show r < nc_m n w s d by omega)).2.2.1 z.symm) (nc_r_ok (show k < nc_m n w s d by omega)).2.1
    have P1 := P.1
    rw [nc_Dsucc _ k (by omega)]
    omega
def nc_BB : Nat := 24 * 45 ^ 4
/-- the voltages times b -/
def nc_Sol (n : Nat) (w : Nat → Nat → Int) (s d : Nat) (b : Int) (t : Nat → Int) : Prop :=
  0 < b ∧ b.natAbs ≤ nc_BB ∧ (∀ v, (t v).natAbs ≤ nc_BB) ∧ t s = b ∧ t d = 0 ∧ (∀ p, p < n → p ≠ s → p ≠ d → nc_Conn w p s → nc_La w t p = 0) ∧ (∀ p, p < n → ¬ nc_Conn w p s → t p = 0)
theorem nc_tr {n : Nat} {w : Nat → Nat → Int} {s d i : Nat} (h : i < nc_m n w s d) : nc_t n w s d (nc_r n w s d i) = nc_Cr (nc_A n w s d) (nc_m n w s d) i (nc_m n w s d) := by
  unfold nc_t
  rw [if_neg (nc_r_ok h).2.2.1, nc_upK _ _ _ i h (fun r hr hne z => ?_)]
  · exact Int.add_zero _
  · have h1 := (nc_r_ok hr).2.2.2.2
    have h2 := (nc_r_ok h).2.2.2.2
    rw [z, h2] at h1
    omega
/-- a point of the rows -/
theorem nc_tS {n : Nat} {w : Nat → Nat → Int} {s d p : Nat} (hp : p < n) (h : nc_S w s d p = true) :
    nc_rk (nc_S w s d) p < nc_m n w s d ∧ nc_r n w s d (nc_rk (nc_S w s d) p) = p ∧ nc_t n w s d p = nc_Cr (nc_A n w s d) (nc_m n w s d) (nc_rk (nc_S w s d) p) (nc_m n w s d) := by
  have h1 : nc_rk (nc_S w s d) p < nc_m n w s d := nc_rkl _ h hp
  have h2 : nc_r n w s d (nc_rk (nc_S w s d) p) = p := nc_rho_rk _ hp h
  refine ⟨h1, h2, ?_⟩
  have := nc_tr h1
  rwa [h2] at this
theorem nc_tN {n : Nat} {w : Nat → Nat → Int} {s d p : Nat} (h : ¬ nc_S w s d p = true) : nc_t n w s d p = if p = s then nc_b n w s d else 0 := by
  unfold nc_t
  rw [nc_upN _ _ _ p (fun r hr z => ?_), Int.zero_add]
  exact h (by rw [z]; exact (nc_rho_ok (nc_S w s d) hr).2.1)
theorem nc_solved {n : Nat} {w : Nat → Nat → Int} (hG : nc_G n w) {s d : Nat} (hs : s < n) (hd : d < n) (hsd : s ≠ d) : nc_Sol n w s d (nc_b n w s d) (nc_t n w s d) := by
  have hG' := hG
  obtain ⟨_, h6, hw, hsy, hdg, h0⟩ := hG'
  have hm := nc_m4 hG hs hd hsd
  have A45 : ∀ i j, i < 5 → j < 5 → (nc_A n w s d i j).natAbs ≤ 45 := fun i j _ _ => nc_A45 hG s d i j
  have Ss : ¬ nc_S w s d s = true := fun z => (nc_Si.mp z).2.1 rfl
  have Sd : ¬ nc_S w s d d = true := fun z => (nc_Si.mp z).2.2 rfl
  have bB : (nc_b n w s d).natAbs ≤ nc_BB := nc_bD A45 _ hm
  refine ⟨nc_Apos hG hs hd hsd _ (Nat.le_refl _), bB, fun v => ?_, ?_, ?_, fun p hp h1 h2 hc => ?_, fun p hp hc => ?_⟩
  · by_cases c : nc_S w s d v = true
    · by_cases e : v < n
      · rw [(nc_tS e c).2.2]
        exact nc_bC A45 _ _ _ hm (nc_tS e c).1 (by omega)
      · have : nc_t n w s d v = 0 := by
          unfold nc_t
          rw [if_neg (by omega), nc_upN _ _ _ v (fun r hr z => ?_)]
          · rfl
          · have := (nc_r_ok hr).1
            omega
        rw [this]
        exact Nat.zero_le _
    · rw [nc_tN c]
      by_cases e : v = s
      · rw [if_pos e]; exact bB
      · rw [if_neg e]; exact Nat.zero_le _
  · rw [nc_tN Ss, if_pos rfl]
  · rw [nc_tN Sd, if_neg (fun z => hsd z.symm)]
  · have hS : nc_S w s d p = true := nc_Si.mpr ⟨hc, h1, h2⟩
    obtain ⟨a1, a2, a3⟩ := nc_tS hp hS
    generalize nc_rk (nc_S w s d) p = i at a1 a2 a3
    rw [nc_LaL hdg _ (by omega)]
    have e1 : nc_sm (fun v => nc_Lm w p v * nc_t n w s d v) 6 = nc_sm (fun v => nc_Lm w p v * nc_up (nc_r n w s d) (fun r => nc_Cr (nc_A n w s d) (nc_m n w s d) r (nc_m n w s d)) (nc_m n w s d) v) 6 + nc_sm (fun v => if v = s then nc_Lm w p v * nc_b n w s d else 0) 6 := by
      rw [← nc_sma]
      refine nc_smc (fun v _ => ?_)
      unfold nc_t
      by_cases e : v = s
      · rw [if_pos e, if_pos e, Int.mul_add]
      · rw [if_neg e, if_neg e, Int.add_zero, Int.add_zero]
    rw [e1, nc_upS _ _ _ (fun r hr => by have := (nc_r_ok hr).1; omega), nc_smd (fun v => nc_Lm w p v * nc_b n w s d) (show s < 6 by omega)]
    have e2 := nc_CP (nc_A n w s d) (nc_m n w s d) i (nc_m n w s d) (by omega) a1
    unfold nc_Jm at e2
    have e3 : nc_A n w s d i (nc_m n w s d) = w p s := by
      unfold nc_A
      rw [if_neg (by omega), a2]
    have e4 : nc_Lm w p s = - w p s := if_neg h1
    have e5 : nc_sm (fun r => nc_Lm w p (nc_r n w s d r) * nc_Cr (nc_A n w s d) (nc_m n w s d) r (nc_m n w s d)) (nc_m n w s d) = nc_sm (fun r => nc_A n w s d i r * nc_Cr (nc_A n w s d) (nc_m n w s d) r (nc_m n w s d)) (nc_m n w s d) := by
      refine nc_smc (fun r hr => ?_)
      have : nc_A n w s d i r = nc_Lm w p (nc_r n w s d r) := by
        unfold nc_A
        rw [if_pos hr, a2]
      rw [this]
    rw [e3] at e2
    rw [e5]
    show _ + nc_Lm w p s * nc_b n w s d = 0
    rw [e4]
    have e6 : nc_b n w s d = nc_D (nc_A n w s d) (nc_m n w s d) := rfl
    rw [← e6] at e2
    grind
  · have : ¬ nc_S w s d p = true := fun z => hc (nc_Si.mp z).1
    rw [nc_tN this]
    exact if_neg (fun z : p = s => hc (by rw [z]; exact nc_Cr_r w s))
/-! the resistance -/
theorem nc_lin (w : Nat → Nat → Int) (a c : Int) (X Y : Nat → Int) (u : Nat) : nc_La w (fun v => a * X v - c * Y v) u = a * nc_La w X u - c * nc_La w Y u := by
  show nc_sm (fun v => w u v * ((a * X u - c * Y u) - (a * X v - c * Y v))) 6 = a * nc_sm (fun v => w u v * (X u - X v)) 6 - c * nc_sm (fun v => w u v * (Y u - Y v)) 6
  rw [← nc_smm, ← nc_smm, ← nc_sms]
  refine nc_smc (fun v _ => ?_)
  grind
theorem nc_dl2 (f : Nat → Int) (T : Int) {p q : Nat} (hp : p < 6) (hq : q < 6) : nc_sm (fun v => f v * (T * ((if v = p then 1 else 0) - (if v = q then 1 else 0)))) 6 = T * (f p - f q) := by
  have e : nc_sm (fun v => f v * (T * ((if v = p then 1 else 0) - (if v = q then 1 else 0)))) 6 = nc_sm (fun v => (if v = p then T * f v else 0) - (if v = q then T * f v else 0)) 6 := by
    refine nc_smc (fun v _ => ?_)
    by_cases c : v = p
    · by_cases d : v = q
      · rw [if_pos c, if_pos c, if_pos d, if_pos d]; grind
      · rw [if_pos c, if_pos c, if_neg d, if_neg d]; grind
    · by_cases d : v = q
      · rw [if_neg c, if_neg c, if_pos d, if_pos d]; grind
      · rw [if_neg c, if_neg c, if_neg d, if_neg d]; grind
  rw [e, nc_sms, nc_smd (fun v => T * f v) hp, nc_smd (fun v => T * f v) hq]
  grind
theorem nc_res {n : Nat} {w : Nat → Nat → Int} (hG : nc_G n w) (hC : nc_CN n w) {p q : Nat} (hp : p < n) (hq : q < n) (hpq : p ≠ q) {b : Int} {t : Nat → Int} (hS : nc_Sol n w p q b t) :
    0 < nc_La w t p ∧ ∃ z : Int, nc_TR n w * b = nc_La w t p * z := by
  have hG' := hG
  obtain ⟨_, h6, hw, hsy, hdg, h0⟩ := hG'
  obtain ⟨hb, _, _, tp, tq, hK, _⟩ := hS
  have T := nc_TRok hG
  have Tn : nc_TR n w ≠ 0 := fun z => (T.2.1.mp z) hC
  obtain ⟨Up, hUp⟩ := T.2.2 Tn p hp
  obtain ⟨Uq, hUq⟩ := T.2.2 Tn q hq
  have cp : ∀ v, v < n → nc_Conn w v p := fun v hv => nc_Ct (hC v hv) (nc_Cs (hC p hp))
  have L : ∀ v, v < 6 → v ≠ q → nc_La w t v = if v = p then nc_La w t p else 0 := by
    intro v hv hvq
    by_cases c : v = p
    · rw [if_pos c, c]
    · rw [if_neg c]
      by_cases e : v < n
      · exact hK v e c hvq (cp v e)
      · exact nc_sm0 (fun u _ => by show w v u * _ = 0; rw [h0 v u (by omega), Int.zero_mul])
  have Lq : nc_La w t q = - nc_La w t p := by
    have a := nc_all hsy t
    have e : nc_sm (fun u => nc_La w t u) 6 = nc_sm (fun v => (if v = p then nc_La w t v else 0) + (if v = q then nc_La w t v else 0)) 6 := by
      refine nc_smc (fun v hv => ?_)
      by_cases c : v = q
      · rw [if_neg (fun z => hpq (z.symm.trans c)), if_pos c]; omega
      · rw [L v hv c]
        by_cases e : v = p
        · rw [if_pos e, if_pos e, if_neg c]; omega
        · rw [if_neg e, if_neg e, if_neg c]; rfl
    rw [e, nc_sma, nc_smd (fun v => nc_La w t v) (show p < 6 by omega), nc_smd (fun v => nc_La w t v) (show q < 6 by omega)] at a
    omega
  have Lt : ∀ v, v < 6 → nc_La w t v = nc_La w t p * ((if v = p then 1 else 0) - (if v = q then 1 else 0)) := by
    intro v hv
    by_cases c : v = q
    · rw [if_neg (fun z => hpq (z.symm.trans c)), if_pos c, c, Lq]; omega
    · rw [L v hv c, if_neg c]
      by_cases e : v = p
      · rw [if_pos e, if_pos e]; omega
      · rw [if_neg e, if_neg e]; omega
  have LV : ∀ v, v < 6 → nc_La w (fun v => 1 * Up v - 1 * Uq v) v = nc_TR n w * ((if v = p then 1 else 0) - (if v = q then 1 else 0)) := by
    intro v hv
    rw [nc_lin, hUp v hv, hUq v hv]
    grind
  let V : Nat → Int := fun v => 1 * Up v - 1 * Uq v
  let Z : Nat → Int := fun v => nc_TR n w * t v - nc_La w t p * V v
  have LZ : ∀ v, v < 6 → nc_La w Z v = 0 := by
    intro v hv
    rw [show nc_La w Z v = _ from nc_lin w (nc_TR n w) (nc_La w t p) t V v, Lt v hv, LV v hv]
    grind
  have cl := (nc_en hG Z).2 (nc_sm0 (fun v hv => by rw [LZ v hv, Int.mul_zero]))
  have ez : Z p = Z q := (nc_Cs (cp q hq)) Z cl
  have ez2 : nc_TR n w * b = nc_La w t p * (V p - V q) := by
    have : nc_TR n w * t p - nc_La w t p * V p = nc_TR n w * t q - nc_La w t p * V q := ez
    rw [tp, tq] at this
    grind
  have en := (nc_en hG t).1
  have en2 : nc_sm (fun u => t u * nc_La w t u) 6 = nc_La w t p * b := by
    rw [nc_smc (fun v hv => by rw [Lt v hv]), nc_dl2 t _ (show p < 6 by omega) (show q < 6 by omega), tp, tq, Int.sub_zero]
  rw [en2] at en
  refine ⟨?_, _, ez2⟩
  have top0 : nc_La w t p ≠ 0 := by
    intro z
    rw [z, Int.zero_mul] at ez2
    rcases Int.mul_eq_zero.mp ez2 with h | h <;> omega
  rcases Int.le_total 0 (nc_La w t p) with h | h
  · omega
  · have : nc_La w t p * b ≤ 0 := Int.mul_nonpos_of_nonpos_of_nonneg h (by omega)
    have e0 : nc_La w t p * b = 0 := by omega
    rcases Int.mul_eq_zero.mp e0 with e | e <;> omega
end
section
/-! whole numbers as longs -/
def nc_l (x : Int) : Int64 := Int64.ofInt x
theorem nc_la (a b : Int) : nc_l a + nc_l b = nc_l (a + b) := (Int64.ofInt_add a b).symm
theorem nc_ls (a b : Int) : nc_l a - nc_l b = nc_l (a - b) := (Int64.ofInt_sub a b).symm
theorem nc_lm (a b : Int) : nc_l a * nc_l b = nc_l (a * b) := (Int64.ofInt_mul a b).symm
theorem nc_ln (a : Int) : -nc_l a = nc_l (-a) := (Int64.ofInt_neg a).symm
theorem nc_l0 : nc_l 0 = 0 := rfl
theorem nc_l1 : nc_l 1 = 1 := rfl
theorem nc_lN (n : Nat) : nc_l (n : Int) = lN n := Int64.ofInt_eq_ofNat
theorem nc_lT {x : Int} (h : x.natAbs < 2 ^ 63) : (nc_l x).toInt = x := Int64.toInt_ofInt_of_le (by omega) (by omega)
theorem nc_lE {a b : Int} (ha : a.natAbs < 2 ^ 63) (hb : b.natAbs < 2 ^ 63) : nc_l a = nc_l b ↔ a = b := by
  constructor
  · intro h
    rw [← nc_lT ha, ← nc_lT hb, h]
  · intro h
    rw [h]
theorem nc_lLE {a b : Int} (ha : a.natAbs < 2 ^ 63) (hb : b.natAbs < 2 ^ 63) : nc_l a ≤ nc_l b ↔ a ≤ b := by
  rw [Int64.le_iff_toInt_le, nc_lT ha, nc_lT hb]
theorem nc_lLT {a b : Int} (ha : a.natAbs < 2 ^ 63) (hb : b.natAbs < 2 ^ 63) : nc_l a < nc_l b ↔ a < b := by
  rw [Int64.lt_iff_toInt_lt, nc_lT ha, nc_lT hb]
theorem nc_lz {a : Int} (ha : a.natAbs < 2 ^ 63) : nc_l a = 0 ↔ a = 0 := nc_lE ha (b := 0) (by decide)
theorem nc_lD {b q : Int} (h0 : b ≠ 0) (h : (b * q).natAbs < 2 ^ 63) (hb : b.natAbs < 2 ^ 63) : nc_l (b * q) / nc_l b = nc_l q := by
  have hq : q.natAbs < 2 ^ 63 := by
    have e : (b * q).natAbs = b.natAbs * q.natAbs := Int.natAbs_mul b q
    have h1 : 1 * q.natAbs ≤ b.natAbs * q.natAbs := Nat.mul_le_mul_right _ (by omega)
    omega
  apply Int64.toInt_inj.mp
  rw [Int64.toInt_div, nc_lT h, nc_lT hb, nc_lT hq, Int.mul_tdiv_cancel_left q h0]
  exact Int.bmod_eq_of_le (by omega) (by omega)
theorem nc_i64 {k : Nat} (h : k < 2 ^ 31) : (nI k).toInt64 = nc_l k := by rw [nI_l h, nc_lN]
theorem nc_n64 {k : Nat} (h : k < 2 ^ 31) : (-(nI k)).toInt64 = nc_l (-(k : Int)) := by
  rw [← Int64.ofInt_int32ToInt, sb_negT h]
  rfl
/-! Euclid -/
theorem nc_eu {x y j : Nat} (hx : 0 < x) (hxy : x ≤ y) (hp : x * y < 2 ^ (j + 1)) : (y % x) * x < 2 ^ j := by
  have h1 : y % x < x := Nat.mod_lt _ hx
  have h2 := Nat.div_add_mod y x
  have h3 : x * 1 ≤ x * (y / x) := Nat.mul_le_mul_left _ (Nat.div_pos hxy hx)
  have h4 : (2 * (y % x)) * x ≤ y * x := Nat.mul_le_mul_right _ (by omega)
  rw [Nat.mul_assoc] at h4
  rw [Nat.pow_succ] at hp
  rw [Nat.mul_comm y x] at h4
  omega
def nc_E (N k x y g : Nat) : Prop := 0 < y ∧ Nat.gcd x y = g ∧ ((k = 0 ∧ x * y < 2 ^ (N - 1)) ∨ (x ≤ y ∧ x * y < 2 ^ (N - k)))
theorem nc_E0 {N x y : Nat} (hy : 0 < y) (h : x * y < 2 ^ (N - 1)) : nc_E N 0 x y (Nat.gcd x y) := ⟨hy, rfl, Or.inl ⟨rfl, h⟩⟩
theorem nc_Es {N k x y g : Nat} (hk : k < N) (hx : 0 < x) (h : nc_E N k x y g) : nc_E N (k + 1) (y % x) x g := by
  obtain ⟨hy, hg, h⟩ := h
  have h1 : y % x < x := Nat.mod_lt _ hx
  refine ⟨hx, by rw [← hg]; exact (Nat.gcd_rec x y).symm, Or.inr ⟨by omega, ?_⟩⟩
  rcases h with ⟨hk0, h⟩ | ⟨hxy, h⟩
  · rw [hk0]
    have h2 : (y % x) * x ≤ y * x := Nat.mul_le_mul_right _ (Nat.mod_le y x)
    rw [Nat.mul_comm y x] at h2
    exact Nat.lt_of_le_of_lt h2 h
  · refine nc_eu hx hxy ?_
    rw [show N - (k + 1) + 1 = N - k by omega]
    exact h
theorem nc_Ez0 {N k y g : Nat} (h : nc_E N k 0 y g) : nc_E N (k + 1) 0 y g :=
  ⟨h.1, h.2.1, Or.inr ⟨Nat.zero_le _, by rw [Nat.zero_mul]; exact Nat.two_pow_pos _⟩⟩
theorem nc_EN {N x y g : Nat} (hN : 0 < N) (h : nc_E N N x y g) : x = 0 := by
  obtain ⟨hy, _, h⟩ := h
  rcases h with ⟨h0, _⟩ | ⟨_, h⟩
  · omega
  · rw [Nat.sub_self] at h
    rcases Nat.eq_zero_or_pos x with c | c
    · exact c
    · have := Nat.mul_pos c hy
      omega
theorem nc_Eg {N k y g : Nat} (h : nc_E N k 0 y g) : y = g := by
  rw [← h.2.1, Nat.gcd_zero_left]
/-- a fraction in lowest terms -/
theorem nc_frac {a b : Int} (hb : 0 < b) : 0 < (Int.gcd a b : Int) ∧ (Int.gcd a b : Int) * (a / (Int.gcd a b : Int)) = a ∧ (Int.gcd a b : Int) * (b / (Int.gcd a b : Int)) = b ∧ 0 < b / (Int.gcd a b : Int) ∧ (b / (Int.gcd a b : Int)) ∣ b ∧ (a / (Int.gcd a b : Int)) * b = (b / (Int.gcd a b : Int)) * a := by
  have hg : 0 < Int.gcd a b := Int.gcd_pos_of_ne_zero_right a (by omega)
  have h0 : 0 < (Int.gcd a b : Int) := by omega
  have h1 : (Int.gcd a b : Int) * (a / (Int.gcd a b : Int)) = a := Int.mul_ediv_cancel' (Int.gcd_dvd_left a b)
  have h2 : (Int.gcd a b : Int) * (b / (Int.gcd a b : Int)) = b := Int.mul_ediv_cancel' (Int.gcd_dvd_right a b)
  generalize (Int.gcd a b : Int) = g at *
  generalize a / g = x at *
  generalize b / g = y at *
  refine ⟨h0, h1, h2, ?_, ⟨g, by rw [Int.mul_comm]; exact h2.symm⟩, ?_⟩
  · rcases Int.lt_or_le 0 y with c | c
    · exact c
    · have : g * y ≤ 0 := Int.mul_nonpos_of_nonneg_of_nonpos (by omega) c
      omega
  · rw [← h1, ← h2]
    grind
/-- a denominator in lowest terms divides what makes the fraction whole -/
theorem nc_low {a b T z : Int} (hb : 0 < b) (h : T * a = b * z) : (b / (Int.gcd a b : Int)) ∣ T := by
  have hg : 0 < Int.gcd a b := Int.gcd_pos_of_ne_zero_right a (by omega)
  have h1 : (Int.gcd a b : Int) * (a / (Int.gcd a b : Int)) = a := Int.mul_ediv_cancel' (Int.gcd_dvd_left a b)
  have h2 : (Int.gcd a b : Int) * (b / (Int.gcd a b : Int)) = b := Int.mul_ediv_cancel' (Int.gcd_dvd_right a b)
  have hc : Int.gcd (b / (Int.gcd a b : Int)) (a / (Int.gcd a b : Int)) = 1 := by
    rw [Int.gcd_comm]
    exact Int.gcd_ediv_gcd_ediv_gcd hg
  have h3 : (Int.gcd a b : Int) * (a / (Int.gcd a b : Int) * T) = (Int.gcd a b : Int) * (b / (Int.gcd a b : Int) * z) := by
    rw [← Int.mul_assoc, h1, ← Int.mul_assoc, h2, ← h, Int.mul_comm]
  have h4 : a / (Int.gcd a b : Int) * T = b / (Int.gcd a b : Int) * z := Int.eq_of_mul_eq_mul_left (by omega) h3
  have h5 : Int.gcd (b / (Int.gcd a b : Int)) (a / (Int.gcd a b : Int) * T) = (b / (Int.gcd a b : Int)).natAbs := Int.gcd_eq_natAbs_left_iff_dvd.mpr ⟨z, h4⟩
  rw [Int.gcd_mul_right_right_of_gcd_eq_one hc] at h5
  exact Int.gcd_eq_natAbs_left_iff_dvd.mp h5
end
section
theorem nc_edge {n : Nat} {w : Nat → Nat → Int} (hG : nc_G n w) {a b : Nat} (h : 0 < w a b) : a < n ∧ b < n := by
  obtain ⟨_, _, _, hs, _, h0⟩ := hG
  constructor
  · rcases Nat.lt_or_ge a n with c | c
    · exact c
    · have := h0 a b c; omega
  · rcases Nat.lt_or_ge b n with c | c
    · exact c
    · have := h0 b a c; have := hs a b; omega
theorem nc_Ce {w : Nat → Nat → Int} {a b : Nat} (h : 0 < w a b) : nc_Conn w a b := fun _ hf => hf a b h
theorem nc_smge {f : Nat → Int} {n k : Nat} (h : ∀ i, i < n → 0 ≤ f i) (hk : k < n) : f k ≤ nc_sm f n := by
  induction n with
  | zero => omega
  | succ n ih =>
    show f k ≤ nc_sm f n + f n
    have h1 := nc_smp (fun i (hi : i < n) => h i (by omega))
    have h2 := h n (by omega)
    by_cases c : k = n
    · rw [c]; omega
    · have := ih (fun i hi => h i (by omega)) (by omega)
      omega
theorem nc_smlt {f g : Nat → Int} {n b : Nat} (h : ∀ i, i < n → f i ≤ g i) (hb : b < n) (hf : f b + 1 ≤ g b) : nc_sm f n + 1 ≤ nc_sm g n := by
  have h1 := nc_smge (f := fun i => g i - f i) (fun i hi => by have := h i hi; omega) hb
  rw [nc_sms] at h1
  omega
theorem nc_smn (n : Nat) : nc_sm (fun _ => 1) n = n := by
  induction n with
  | zero => rfl
  | succ n ih =>
    show nc_sm (fun _ => 1) n + 1 = _
    rw [ih]
    omega
/-- labels: a joined point that isn't greater -/
def nc_PA (n : Nat) (w : Nat → Nat → Int) (l : Nat → Nat) : Prop := ∀ j, j < n → l j ≤ j ∧ nc_Conn w j (l j)
/-- a round -/
def nc_R (n : Nat) (w : Nat → Nat → Int) (l0 l1 : Nat → Nat) : Prop := (∀ j, j < n → l1 j ≤ l0 j) ∧ (∀ a b, 0 < w a b → l1 b ≤ l0 a)
def nc_mn (n : Nat) (w : Nat → Nat → Int) (m : Nat) : Prop := m < n ∧ ∀ v, v < n → nc_Conn w v m → m ≤ v
def nc_ct (l : Nat → Nat) (m n : Nat) : Int := nc_sm (fun j => if l j = m then 1 else 0) n
def nc_Q (n : Nat) (w : Nat → Nat → Int) (t : Nat) (l : Nat → Nat) : Prop :=
  nc_PA n w l ∧ ∀ m, nc_mn n w m → (∀ j, j < n → nc_Conn w j m → l j = m) ∨ (t : Int) + 1 ≤ nc_ct l m n
theorem nc_ctn (l : Nat → Nat) (m n : Nat) : nc_ct l m n ≤ n := by
  have h := nc_smp (f := fun j => 1 - (if l j = m then 1 else 0)) (n := n) (fun i _ => by
    show (0 : Int) ≤ 1 - (if l i = m then 1 else 0)
    split <;> decide)
  rw [nc_sms, nc_smn] at h
  show nc_sm _ n ≤ _
  omega
theorem nc_Q0 {n : Nat} {w : Nat → Nat → Int} {l : Nat → Nat} (h : ∀ j, j < n → l j = j) : nc_Q n w 0 l := by
  refine ⟨fun j hj => by rw [h j hj]; exact ⟨Nat.le_refl j, nc_Cr_r w j⟩, fun m hm => Or.inr ?_⟩
  have h1 := nc_smge (f := fun j => if l j = m then 1 else 0) (n := n) (fun i _ => by
    show (0 : Int) ≤ (if l i = m then 1 else 0)
    split <;> decide) hm.1
  have h2 : (if l m = m then (1 : Int) else 0) = 1 := if_pos (h m hm.1)
  have h3 : (if l m = m then (1 : Int) else 0) ≤ nc_ct l m n := h1
  omega
theorem nc_Qs {n : Nat} {w : Nat → Nat → Int} (hG : nc_G n w) {t : Nat} {l0 l1 : Nat → Nat} (h : nc_Q n w t l0) (hA : nc_PA n w l1) (hR : nc_R n w l0 l1) : nc_Q n w (t + 1) l1 := by
  refine ⟨hA, fun m hm => ?_⟩
  have hs := hG.2.2.2.1
  have lo : ∀ j, j < n → nc_Conn w j m → m ≤ l1 j := fun j hj hc => by
    have h1 := hA j hj
    exact hm.2 (l1 j) (by omega) (nc_Ct (nc_Cs h1.2) hc)
  have done : (∀ j, j < n → nc_Conn w j m → l0 j = m) → ∀ j, j < n → nc_Conn w j m → l1 j = m := fun hd j hj hc => by
    have h1 := hd j hj hc
    have h2 := hR.1 j hj
    have h3 := lo j hj hc
    omega
  rcases h.2 m hm with hd | hc
  · exact Or.inl (done hd)
  · by_cases e : ∃ a b, 0 < w a b ∧ l0 a = m ∧ l0 b ≠ m
    · obtain ⟨a, b, hab, ha, hb⟩ := e
      have hab' := nc_edge hG hab
      have cm : nc_Conn w b m := nc_Ct (nc_Cs (nc_Ce hab)) (by have := (h.1 a hab'.1).2; rwa [ha] at this)
      have hb1 : l1 b = m := by
        have h1 := hR.2 a b hab
        have h2 := lo b hab'.2 cm
        omega
      have := nc_smlt (f := fun j => if l0 j = m then 1 else 0) (g := fun j => if l1 j = m then 1 else 0) (n := n) (b := b) (fun i hi => by
        show (if l0 i = m then (1 : Int) else 0) ≤ (if l1 i = m then 1 else 0)
        by_cases c : l0 i = m
        · have h1 := hR.1 i hi
          have h2 := lo i hi (by have := (h.1 i hi).2; rwa [c] at this)
          rw [if_pos (show l1 i = m by omega), if_pos c]
          exact Int.le_refl 1
        · rw [if_neg c]
          split <;> decide) hab'.2 (by
        show (if l0 b = m then (1 : Int) else 0) + 1 ≤ (if l1 b = m then 1 else 0)
        rw [if_neg hb, if_pos hb1]
        decide)
      refine Or.inr ?_
      show ((t + 1 : Nat) : Int) + 1 ≤ nc_sm (fun j => if l1 j = m then 1 else 0) n
      have hc' : (t : Int) + 1 ≤ nc_sm (fun j => if l0 j = m then 1 else 0) n := hc
      omega
    · refine Or.inl (done (fun j hj hcj => ?_))
      have cl : ∀ a b, 0 < w a b → (if l0 a = m then (1 : Int) else 0) = (if l0 b = m then 1 else 0) := by
        intro a b hab
        by_cases ca : l0 a = m
        · by_cases cb : l0 b = m
          · rw [if_pos ca, if_pos cb]
          · exact absurd ⟨a, b, hab, ca, cb⟩ e
        · by_cases cb : l0 b = m
          · exact absurd ⟨b, a, by rw [hs b a]; exact hab, cb, ca⟩ e
          · rw [if_neg ca, if_neg cb]
      have e1 := hcj (fun j => if l0 j = m then (1 : Int) else 0) cl
      have m0 : l0 m = m := by
        have h1 := h.1 m hm.1
        have h2 := hm.2 (l0 m) (by have := hm.1; omega) (nc_Cs h1.2)
        omega
      have e2 : (if l0 j = m then (1 : Int) else 0) = (if l0 m = m then 1 else 0) := e1
      rw [if_pos m0] at e2
      by_cases c : l0 j = m
      · exact c
      · rw [if_neg c] at e2
        exact absurd e2 (by decide)
/-- the labels that findParts leaves -/
def nc_PL (n : Nat) (w : Nat → Nat → Int) (l : Nat → Nat) : Prop := nc_PA n w l ∧ ∀ a b, 0 < w a b → l a = l b
theorem nc_Qn {n : Nat} {w : Nat → Nat → Int} (hG : nc_G n w) {l : Nat → Nat} (h : nc_Q n w n l) : nc_PL n w l := by
  refine ⟨h.1, fun a b hab => ?_⟩
  have hab' := nc_edge hG hab
  obtain ⟨m, hm, hl⟩ := pk_least (fun v => v < n ∧ nc_Conn w v a) ⟨a, hab'.1, nc_Cr_r w a⟩
  have mn : nc_mn n w m := ⟨hm.1, fun v hv hc => by
    rcases Nat.lt_or_ge v m with c | c
    · exact absurd ⟨hv, nc_Ct hc hm.2⟩ (hl v c)
    · exact c⟩
  rcases h.2 m mn with hd | hc
  · rw [hd a hab'.1 (nc_Cs hm.2), hd b hab'.2 (nc_Ct (nc_Cs (nc_Ce hab)) (nc_Cs hm.2))]
  · have := nc_ctn l m n
    omega
theorem nc_PLc {n : Nat} {w : Nat → Nat → Int} {l : Nat → Nat} (h : nc_PL n w l) {p q : Nat} (hp : p < n) (hq : q < n) : l p = l q ↔ nc_Conn w p q := by
  constructor
  · intro e
    have h1 := (h.1 p hp).2
    have h2 := (h.1 q hq).2
    rw [e] at h1
    exact nc_Ct h1 (nc_Cs h2)
  · intro hc
    have := hc (fun j => (l j : Int)) (fun a b hab => by show (l a : Int) = l b; rw [h.2 a b hab])
    have e : (l p : Int) = l q := this
    omega
/-- the number of the groups -/
def nc_cn (l : Nat → Nat) : Nat → Nat
  | 0 => 0
  | n + 1 => nc_cn l n + (if l n = n then 1 else 0)
theorem nc_cnb (l : Nat → Nat) (n : Nat) : nc_cn l n ≤ n := by
  induction n with
  | zero => exact Nat.le_refl 0
  | succ n ih =>
    show nc_cn l n + (if l n = n then 1 else 0) ≤ n + 1
    split <;> omega
theorem nc_cn1 (l : Nat → Nat) (n : Nat) (h0 : l 0 = 0) : 1 ≤ nc_cn l (n + 1) ∧ (nc_cn l (n + 1) = 1 ↔ ∀ p, p < n + 1 → l p = p → p = 0) := by
  induction n with
  | zero =>
    have e : nc_cn l 1 = 1 := by show 0 + (if l 0 = 0 then 1 else 0) = 1; rw [if_pos h0]
    rw [e]
    exact ⟨Nat.le_refl 1, fun _ p hp _ => by omega, fun _ => rfl⟩
  | succ n ih =>
    have e : nc_cn l (n + 1 + 1) = nc_cn l (n + 1) + (if l (n + 1) = n + 1 then 1 else 0) := rfl
    by_cases c : l (n + 1) = n + 1
    · rw [e, if_pos c]
      refine ⟨by omega, fun z => by omega, fun z => ?_⟩
      have := z (n + 1) (by omega) c
      omega
    · rw [e, if_neg c]
      refine ⟨by omega, fun z p hp hl => ?_, fun z => ?_⟩
      · by_cases d : p = n + 1
        · rw [d] at hl; exact absurd hl c
        · exact ih.2.mp (by omega) p (by omega) hl
      · have := ih.2.mpr (fun p hp hl => z p (by omega) hl)
        omega
theorem nc_cnC {n : Nat} {w : Nat → Nat → Int} (hn : 1 ≤ n) {l : Nat → Nat} (h : nc_PL n w l) : 1 ≤ nc_cn l n ∧ nc_cn l n ≤ n ∧ (nc_cn l n = 1 ↔ nc_CN n w) := by
  obtain ⟨k, rfl⟩ : ∃ k, n = k + 1 := ⟨n - 1, by omega⟩
  have h0 : l 0 = 0 := by have := (h.1 0 (by omega)).1; omega
  have c := nc_cn1 l k h0
  refine ⟨c.1, nc_cnb l _, ?_⟩
  rw [c.2]
  constructor
  · intro z p hp
    have h1 := h.1 p hp
    have h2 : l (l p) = l p := (nc_PLc h (by omega) hp).mpr (nc_Cs h1.2)
    have h3 := z (l p) (by omega) h2
    have := h1.2
    rwa [h3] at this
  · intro z p hp hl
    have := (nc_PLc h hp (show 0 < k + 1 by omega)).mpr (z p hp)
    omega
end
section
/-- between holds the weights -/
def nc_M (w : Nat → Nat → Int) (a1 : Nat → Int32) : Prop := ∀ p q, p < 6 → q < 6 → a1 (6 * p + q) = nI (w p q).toNat
section
variable {n : Nat} {w : Nat → Nat → Int} {sc dr : Int32} {bo tn bn : Int64} {a1 a2 : Nat → Int32} {a3 : Nat → Int64} {a4 : Nat → Int32} {a5 : Nat → Int64}
theorem nc_fp35 {post : St2 → Prop} {J : Int32 → (Nat → Int32) → (Nat → Int32) → (Nat → Int64) → (Nat → Int32) → (Nat → Int64) → Prop} {x1 : Int32}
    (hG : nc_G n w) (hM : nc_M w a1) {l0 : Nat → Nat} (hA0 : nc_PA n w l0) (h2 : ∀ j, j < n → a2 j = nI (l0 j))
    (H : ∀ a2' l1, (∀ j, j < n → a2' j = nI (l1 j)) → nc_PA n w l1 → nc_R n w l0 l1 → J (x1 + 1) a1 a2' a3 a4 a5) :
    ∃ fu, wX_findParts_35 post J x1 (nI n) sc dr bo tn bn fu 0 a1 a2 a3 a4 a5 := by
  have hG' := hG
  obtain ⟨h1n, h6, hw, hs, hd, h0⟩ := hG'
  refine pk_loop (fun k i s => wX_findParts_35 post J x1 (nI n) sc dr bo tn bn k (nI i) a1 s a3 a4 a5)
    (fun i s => ∃ l, (∀ j, j < n → s j = nI (l j)) ∧ nc_PA n w l ∧ (∀ j, j < n → l j ≤ l0 j) ∧ (∀ k, k < i → 0 < w (k / 6) (k % 6) → l (k % 6) ≤ l0 (k / 6)))
    36 0 a2 (by omega) ⟨l0, h2, hA0, fun j _ => Nat.le_refl _, fun k hk => absurd hk (by omega)⟩ ?_ ?_
  · intro k s hI
    obtain ⟨l, e2, hA, hm, hp⟩ := hI
    refine pk_le 36 36 (fun _ => nm_e (H s l e2 hA ⟨hm, fun a b hab => ?_⟩)) (fun z => absurd z (by omega))
    have hab' := nc_edge hG hab
    have := hp (6 * a + b) (by omega)
    rw [show (6 * a + b) / 6 = a by omega, show (6 * a + b) % 6 = b by omega] at this
    exact this hab
  · intro k i s hi hI hw'
    obtain ⟨l, e2, hA, hm, hp⟩ := hI
    have ea : a1 i = nI (w (i / 6) (i % 6)).toNat := by
      have := hM (i / 6) (i % 6) (by omega) (by omega)
      rwa [show 6 * (i / 6) + i % 6 = i by omega] at this
    have hw9 := hw (i / 6) (i % 6)
    have skip : l (i % 6) ≤ l0 (i / 6) ∨ ¬ 0 < w (i / 6) (i % 6) → wX_findParts_35 post J x1 (nI n) sc dr bo tn bn k (nI (i + 1)) a1 s a3 a4 a5 := fun hc => by
      refine hw' s ⟨l, e2, hA, hm, fun k' hk' he => ?_⟩
      by_cases c : k' = i
      · rw [c] at he
        rw [c]
        rcases hc with hc | hc
        · exact hc
        · exact absurd he hc
      · exact hp k' (by omega) he
    refine pk_le 36 i (fun z => absurd z (by omega)) (fun _ => ⟨by decide, nm_r (pk_div (d := 6) (by omega) (by omega) (by omega)) ⟨by decide, nm_r (pk_rem (d := 6) (by omega) (by omega) (by omega)) ⟨pk_in i 36 hi, ?_⟩⟩⟩)
    rw [nI_clamp (show i < 2 ^ 31 by omega), nI_clamp (show i / 6 < 2 ^ 31 by omega), nI_clamp (show i % 6 < 2 ^ 31 by omega)]
    refine pk_le (w (i / 6) (i % 6)).toNat 0 (fun z => nm_r (nI_1 i) (skip (Or.inr (by omega)))) (fun z => ⟨pk_in (i / 6) 6 (by omega), pk_in (i % 6) 6 (by omega), ?_⟩) ea
    have he : 0 < w (i / 6) (i % 6) := by omega
    have hab := nc_edge hG he
    have A1 := hA (i / 6) hab.1
    have A2 := hA (i % 6) hab.2
    have B1 := hm (i / 6) hab.1
    refine pk_le (l (i % 6)) (l (i / 6)) (fun z => nm_r (nI_1 i) (skip (Or.inl (by omega)))) (fun z => ⟨pk_in (i / 6) 6 (by omega), pk_in (i % 6) 6 (by omega), nm_e (nm_r (nI_1 i) ?_)⟩) (e2 _ hab.2) (e2 _ hab.1)
    refine hw' _ ⟨fun j => if j = i % 6 then l (i / 6) else l j, fun j hj => ?_, fun j hj => ?_, fun j hj => ?_, fun k' hk' he' => ?_⟩
    · show upd s (i % 6) (s (i / 6)) j = nI (if j = i % 6 then l (i / 6) else l j)
      by_cases c : j = i % 6
      · rw [if_pos c, c, pk_us, e2 _ hab.1]
      · rw [if_neg c, pk_un c, e2 j hj]
    · show (if j = i % 6 then l (i / 6) else l j) ≤ j ∧ nc_Conn w j (if j = i % 6 then l (i / 6) else l j)
      by_cases c : j = i % 6
      · rw [if_pos c]
        refine ⟨by omega, ?_⟩
        rw [c]
        exact nc_Ct (nc_Cs (nc_Ce he)) A1.2
      · rw [if_neg c]
        exact hA j hj
    · show (if j = i % 6 then l (i / 6) else l j) ≤ l0 j
      have := hm j hj
      by_cases c : j = i % 6
      · rw [if_pos c]
        rw [c] at this ⊢
        omega
      · rw [if_neg c]
        exact this
    · show (if k' % 6 = i % 6 then l (i / 6) else l (k' % 6)) ≤ l0 (k' / 6)
      by_cases c : k' % 6 = i % 6
      · rw [if_pos c]
        by_cases e : k' = i
        · rw [e]; exact B1
        · have := hp k' (by omega) he'
          rw [c] at this
          omega
      · rw [if_neg c]
        by_cases e : k' = i
        · rw [e] at c; exact absurd rfl c
        · exact hp k' (by omega) he'
theorem nc_fP {post : St2 → Prop} (hG : nc_G n w) (hM : nc_M w a1)
    (H : ∀ a2' l, nc_PL n w l → (∀ j, j < n → a2' j = nI (l j)) → post (nI n, sc, dr, bo, tn, bn, a1, a2', a3, a4, a5)) :
    wpX_findParts post (nI n, sc, dr, bo, tn, bn, a1, a2, a3, a4, a5) := by
  have h6 := hG.2.1
  refine pk_loop (fun k i s => wX_findParts_2 post (nI n) sc dr bo tn bn k (nI i) a1 s a3 a4 a5) (fun i s => ∀ j, j < i → s j = nI j) n 0 a2 (by omega) (fun j hj => absurd hj (by omega)) ?_ ?_
  · intro k s hI
    refine pk_le n n (fun _ => ?_) (fun z => absurd z (by omega))
    refine pk_loop (fun k i s => wX_findParts_25 post (nI n) sc dr bo tn bn k (nI i) a1 s a3 a4 a5) (fun i s => ∃ l, nc_Q n w i l ∧ ∀ j, j < n → s j = nI (l j)) n 0 s (by omega) ⟨fun j => j, nc_Q0 (fun _ _ => rfl), hI⟩ ?_ ?_
    · intro k s hI
      obtain ⟨l, hQ, e2⟩ := hI
      exact pk_le n n (fun _ => H s l (nc_Qn hG hQ) e2) (fun z => absurd z (by omega))
    · intro k i s hi hI hw
      obtain ⟨l, hQ, e2⟩ := hI
      refine pk_le n i (fun z => absurd z (by omega)) (fun _ => ?_)
      refine nc_fp35 hG hM hQ.1 e2 (fun a2' l1 e1 hA hR => ?_)
      rw [nI_1]
      exact hw a2' ⟨l1, nc_Qs hG hQ hA hR, e1⟩
  · intro k i s hi hI hw
    refine pk_le n i (fun z => absurd z (by omega)) (fun _ => ⟨pk_in i 6 (by omega), nm_e (nm_r (nI_1 i) (hw _ (fun j hj => ?_)))⟩)
    rw [nI_clamp (show i < 2 ^ 31 by omega)]
    by_cases c : j = i
    · rw [c, pk_us]
    · rw [pk_un c]
      exact hI j (by omega)
theorem nc_cP {post : Int32 → St2 → Prop} (hG : nc_G n w) (hM : nc_M w a1)
    (H : ∀ a2' m, 1 ≤ m → m ≤ 6 → (m = 1 ↔ nc_CN n w) → post (nI m) (nI n, sc, dr, bo, tn, bn, a1, a2', a3, a4, a5)) :
    wpX_parts post (nI n, sc, dr, bo, tn, bn, a1, a2, a3, a4, a5) := by
  have h6 := hG.2.1
  have h2 := hG.1
  unfold wpX_parts wpX_countParts
  refine nc_fP hG hM (fun a2' l hl e2 => ?_)
  refine pk_loop (fun k i (_ : Unit) => wX_countParts_8 _ (nI n) sc dr bo tn bn a1 a2' a3 a4 a5 k (nI (nc_cn l i)) (nI i)) (fun _ _ => True) n 0 () (by omega) trivial ?_ ?_
  · intro k _ _
    have := nc_cnC (by omega) hl
    exact pk_le n n (fun _ => H a2' (nc_cn l n) this.1 (by omega) this.2.2) (fun z => absurd z (by omega))
  · intro k i _ hi _ hw
    have hw' := hw () trivial
    have hc : nc_cn l (i + 1) = nc_cn l i + (if l i = i then 1 else 0) := rfl
    have hli := (hl.1 i hi).1
    rw [hc] at hw'
    refine pk_le n i (fun z => absurd z (by omega)) (fun _ => ⟨pk_in i 6 (by omega), ?_⟩)
    rw [nI_clamp (show i < 2 ^ 31 by omega)]
    refine pk_eq (l i) i (fun z => ?_) (fun z => ?_) (e2 i hi)
    · rw [if_pos z] at hw'
      exact nm_r (nI_1 _) (nm_r (nI_1 i) hw')
    · rw [if_neg z] at hw'
      exact nm_r (nI_add (nc_cn l i) 0) (nm_r (nI_1 i) hw')
theorem nc_iP {post : Int32 → Prop} {p : Nat} (hn : n ≤ 6) (hp : p < n) (H : post 1) : wpX_isPoint post (nI n, sc, dr, bo, tn, bn, a1, a2, a3, a4, a5) (nI p) :=
  br_f (nI_pos (by omega)) (pk_le n p (fun z => absurd z (by omega)) (fun _ => H))
theorem nc_jD {post : Int32 → St2 → Prop} {p q : Nat} (hG : nc_G n w) (hM : nc_M w a1) (hp : p < n) (hq : q < n)
    (H1 : nc_Conn w p q → ∀ a2', post 1 (nI n, sc, dr, bo, tn, bn, a1, a2', a3, a4, a5))
    (H0 : ¬ nc_Conn w p q → ∀ a2', post 0 (nI n, sc, dr, bo, tn, bn, a1, a2', a3, a4, a5)) :
    wpX_joined post (nI n, sc, dr, bo, tn, bn, a1, a2, a3, a4, a5) (nI p) (nI q) := by
  have h6 := hG.2.1
  unfold wpX_joined
  refine nc_iP h6 hp (br_f (by decide) (nc_iP h6 hq (br_f (by decide) (nc_fP hG hM (fun a2' l hl e2 => ⟨pk_in p 6 (by omega), pk_in q 6 (by omega), ?_⟩)))))
  rw [nI_clamp (show p < 2 ^ 31 by omega), nI_clamp (show q < 2 ^ 31 by omega)]
  have hlp := (hl.1 p hp).1
  have hlq := (hl.1 q hq).1
  exact pk_eq (l p) (l q) (fun z => H1 ((nc_PLc hl hp hq).mp z) a2') (fun z => H0 (fun hc => z ((nc_PLc hl hp hq).mpr hc)) a2') (e2 p hp) (e2 q hq)
end
end
section
theorem nc_ix6 (p q : Nat) : (6 : Int32) * nI p + nI q = nI (6 * p + q) := by
  show nI 6 * nI p + nI q = _
  rw [pk_mul, nI_add]
theorem nc_ix7 (p q : Nat) : (7 : Int32) * nI p + nI q = nI (7 * p + q) := by
  show nI 7 * nI p + nI q = _
  rw [pk_mul, nI_add]
theorem nc_M64 {n : Nat} {w : Nat → Nat → Int} {a1 : Nat → Int32} (hG : nc_G n w) (hM : nc_M w a1) {p q : Nat} (hp : p < 6) (hq : q < 6) : (a1 (6 * p + q)).toInt64 = nc_l (w p q) := by
  have := hG.2.2.1 p q
  rw [hM p q hp hq, nc_i64 (by omega), Int.toNat_of_nonneg this.1]
theorem nc_Mn64 {n : Nat} {w : Nat → Nat → Int} {a1 : Nat → Int32} (hG : nc_G n w) (hM : nc_M w a1) {p q : Nat} (hp : p < 6) (hq : q < 6) : (-(a1 (6 * p + q))).toInt64 = nc_l (-(w p q)) := by
  have := hG.2.2.1 p q
  rw [hM p q hp hq, nc_n64 (by omega), Int.toNat_of_nonneg this.1]
theorem nc_smN {n : Nat} {w : Nat → Nat → Int} (hG : nc_G n w) (p : Nat) (f : Nat → Int) : nc_sm (fun q => w p q * f q) 6 = nc_sm (fun q => w p q * f q) n := by
  obtain ⟨_, h6, _, hs, _, h0⟩ := hG
  exact nc_smx h6 (fun i h1 _ => by show w p i * f i = 0; rw [hs p i, h0 i p h1, Int.zero_mul])
theorem nc_dgN {n : Nat} {w : Nat → Nat → Int} (hG : nc_G n w) (p : Nat) : nc_dg w p = nc_sm (fun q => w p q) n := by
  obtain ⟨_, h6, _, hs, _, h0⟩ := hG
  exact nc_smx h6 (fun i h1 _ => by show w p i = 0; rw [hs p i, h0 i p h1])
section
variable {n : Nat} {w : Nat → Nat → Int} {sc dr : Int32} {bo tn bn : Int64} {a1 a2 : Nat → Int32} {a3 : Nat → Int64} {a4 : Nat → Int32} {a5 : Nat → Int64}
theorem nc_dG {post : Int64 → Prop} (hG : nc_G n w) (hM : nc_M w a1) {p : Nat} (hp : p < 6) (H : post (nc_l (nc_dg w p))) : wpX_degree post (nI n, sc, dr, bo, tn, bn, a1, a2, a3, a4, a5) (nI p) := by
  have h6 := hG.2.1
  refine pk_loop (fun k i (_ : Unit) => wX_degree_5 post (nI p) (nI n) sc dr bo tn bn a1 a2 a3 a4 a5 k (nc_l (nc_sm (fun q => w p q) i)) (nI i)) (fun _ _ => True) n 0 () (by omega) trivial ?_ ?_
  · intro k _ _
    rw [nc_dgN hG] at H
    exact pk_le n n (fun _ => H) (fun z => absurd z (by omega))
  · intro k i _ hi _ hw
    have hw' := hw () trivial
    refine pk_le n i (fun z => absurd z (by omega)) (fun _ => ⟨pk_in (6 * p + i) 36 (by omega) (nc_ix6 p i), nm_r ?_ (nm_r (nI_1 i) hw')⟩)
    rw [nc_ix6, nI_clamp (show 6 * p + i < 2 ^ 31 by omega), nc_M64 hG hM hp (by omega), nc_la]
    rfl
/-- one row reduced -/
theorem nc_rR {post : St2 → Prop} {xn : Int32} {i k fr cl : Nat} {D P E : Int} {X Y Z : Nat → Int} (hi : i < 6) (hk : k < 6) (hik : i ≠ k) (hf : fr ≤ cl) (hc : cl ≤ 6) (hD0 : D ≠ 0) (hD : D.natAbs < 2 ^ 63)
    (eP : a3 (7 * k + k) = nc_l P) (eE : a3 (7 * i + k) = nc_l E) (eX : ∀ c, fr ≤ c → c < cl → a3 (7 * i + c) = nc_l (X c)) (eY : ∀ c, fr ≤ c → c < cl → a3 (7 * k + c) = nc_l (Y c))
    (hZ : ∀ c, fr ≤ c → c < cl → P * X c - E * Y c = D * Z c ∧ (D * Z c).natAbs < 2 ^ 63)
    (H : ∀ a3', (∀ c, fr ≤ c → c < cl → a3' (7 * i + c) = nc_l (Z c)) → (∀ j, (∀ c, fr ≤ c → c < cl → j ≠ 7 * i + c) → a3' j = a3 j) → post (xn, sc, dr, bo, tn, bn, a1, a2, a3', a4, a5)) :
    wpX_reduceRow post (xn, sc, dr, bo, tn, bn, a1, a2, a3, a4, a5) (nI i) (nI k) (nI fr) (nI cl) (nc_l D) := by
  have main : ∃ fu, wX_reduceRow_44 post (nI i) (nI k) (nI cl) (nc_l P) (nc_l E) (nc_l D) xn sc dr bo tn bn fu (nI fr) a1 a2 a3 a4 a5 := by
    refine pk_loop (fun f c s => wX_reduceRow_44 post (nI i) (nI k) (nI cl) (nc_l P) (nc_l E) (nc_l D) xn sc dr bo tn bn f (nI c) a1 a2 s a4 a5)
      (fun c s => fr ≤ c ∧ (∀ c', fr ≤ c' → c' < c → s (7 * i + c') = nc_l (Z c')) ∧ (∀ j, (∀ c', fr ≤ c' → c' < c → j ≠ 7 * i + c') → s j = a3 j)) cl fr a3 hf
      ⟨Nat.le_refl _, fun c h1 h2 => absurd h1 (by omega), fun j _ => rfl⟩ ?_ ?_
    · intro f s hI
      exact pk_le cl cl (fun _ => H s hI.2.1 hI.2.2) (fun z => absurd z (by omega))
    · intro f c s hcl hI hw
      obtain ⟨hfc, hI1, hI2⟩ := hI
      have s1 : s (7 * i + c) = nc_l (X c) := by rw [hI2 _ (fun c' h1 h2 => by omega)]; exact eX c hfc hcl
      have s2 : s (7 * k + c) = nc_l (Y c) := by rw [hI2 _ (fun c' h1 h2 => by omega)]; exact eY c hfc hcl
      have z := hZ c hfc hcl
      refine pk_le cl c (fun z => absurd z (by omega)) (fun _ => ⟨pk_in (7 * i + c) 42 (by omega) (nc_ix7 i c), pk_in (7 * k + c) 42 (by omega) (nc_ix7 k c), fun e => hD0 ((nc_lz hD).mp e), pk_in (7 * i + c) 42 (by omega) (nc_ix7 i c), nm_e (nm_r (nI_1 c) ?_)⟩)
      rw [nc_ix7, nc_ix7, nI_clamp (show 7 * i + c < 2 ^ 31 by omega), nI_clamp (show 7 * k + c < 2 ^ 31 by omega), s1, s2, nc_lm, nc_lm, nc_ls, z.1, nc_lD hD0 z.2 hD]
      refine hw _ ⟨by omega, fun c' h1 h2 => ?_, fun j hj => ?_⟩
      · by_cases e : c' = c
        · rw [e, pk_uLs]
        · rw [pk_uLn (by omega)]
          exact hI1 c' h1 (by omega)
      · rw [pk_uLn (hj c hfc (by omega))]
        exact hI2 j (fun c' h1 h2 => hj c' h1 (by omega))
  refine ⟨pk_in (7 * k + k) 42 (by omega) (nc_ix7 k k), nm_r (e' := nc_l P) ?_ ⟨pk_in (7 * i + k) 42 (by omega) (nc_ix7 i k), nm_r (e' := nc_l E) ?_ (br_f (fun e => hD0 ((nc_lz hD).mp e)) main)⟩⟩
  · rw [nc_ix7, nI_clamp (show 7 * k + k < 2 ^ 31 by omega), eP]
  · rw [nc_ix7, nI_clamp (show 7 * i + k < 2 ^ 31 by omega), eE]
theorem nc_AL45 (hG : nc_G n w) (i j : Nat) : (nc_AL w i j).natAbs ≤ 45 := nc_Lm45 hG _ _
theorem nc_bJm {A : Nat → Nat → Int} (h : ∀ i j, i < 5 → j < 5 → (A i j).natAbs ≤ 45) {k i j : Nat} (hk : k ≤ 4) (hki : k ≤ i) (hi : i < 5) (hj : j < 5) : (nc_Jm A k i j).natAbs ≤ 2 ^ 35 := by
  have := nc_bJ h k i j hk hi hj
  unfold nc_Jf at this
  rwa [if_neg (by omega)] at this
/-- the elimination -/
theorem nc_t85 {post : Int64 → St2 → Prop} (hG : nc_G n w) (e3 : ∀ i j, i < n - 1 → j < n - 1 → a3 (7 * i + j) = nc_l (nc_AL w i j))
    (H : ∀ a3', post (nc_l (nc_TR n w)) (nI n, sc, dr, bo, tn, bn, a1, a2, a3', a4, a5)) :
    ∃ fu, wX_determinant_85 post (nI (n - 1)) fu 1 0 (nI n) sc dr bo tn bn a1 a2 a3 a4 a5 := by
  have h6 := hG.2.1
  have h2 := hG.1
  have A45 : ∀ i j, i < 5 → j < 5 → (nc_AL w i j).natAbs ≤ 45 := fun i j _ _ => nc_AL45 hG i j
  have J0 : ∀ i j, nc_Jm (nc_AL w) 0 i j = nc_AL w i j := fun i j => by
    have := nc_Jf0 (nc_AL w) i j
    unfold nc_Jf at this
    rwa [if_neg (by omega)] at this
  refine pk_loop (fun f k s => wX_determinant_85 post (nI (n - 1)) f (nc_l (nc_D (nc_AL w) k)) (nI k) (nI n) sc dr bo tn bn a1 a2 s a4 a5)
    (fun k s => (∀ j, j < k → nc_Jm (nc_AL w) j j j ≠ 0) ∧ ∀ r c, k ≤ r → r < n - 1 → k ≤ c → c < n - 1 → s (7 * r + c) = nc_l (nc_Jm (nc_AL w) k r c)) (n - 1) 0 a3 (by omega)
    ⟨fun j hj => absurd hj (by omega), fun r c _ hr _ hc => by rw [J0]; exact e3 r c hr hc⟩ ?_ ?_
  · intro f s hI
    have e : nc_TR n w = nc_D (nc_AL w) (n - 1) := if_pos hI.1
    rw [e] at H
    exact pk_le (n - 1) (n - 1) (fun _ => H s) (fun z => absurd z (by omega))
  · intro f k s hk hI hw
    obtain ⟨hnz, hs⟩ := hI
    have hDp := nc_Dpos hG k (by omega) hnz
    have bP := nc_bJm A45 (show k ≤ 4 by omega) (Nat.le_refl k) (by omega) (show k < 5 by omega)
    have bD := nc_bD A45 k (by omega)
    refine pk_le (n - 1) k (fun z => absurd z (by omega)) (fun _ => ⟨pk_in (7 * k + k) 42 (by omega) (nc_ix7 k k), nm_r (e' := nc_l (nc_Jm (nc_AL w) k k k)) (by rw [nc_ix7, nI_clamp (show 7 * k + k < 2 ^ 31 by omega), hs k k (Nat.le_refl k) hk (Nat.le_refl k) hk]) ?_⟩)
    by_cases hp : nc_Jm (nc_AL w) k k k = 0
    · have e : nc_TR n w = 0 := if_neg (fun z => z k hk hp)
      rw [e] at H
      exact br_t ((nc_lz (by omega)).mpr hp) (H s)
    · refine br_f (fun z => hp ((nc_lz (by omega)).mp z)) (nm_r (nI_1 k) ?_)
      refine pk_loop (fun f r s => wX_determinant_121 post _ (nI (n - 1)) (nc_l (nc_D (nc_AL w) k)) (nI k) (nc_l (nc_Jm (nc_AL w) k k k)) f (nI r) (nI n) sc dr bo tn bn a1 a2 s a4 a5)
        (fun r s => k + 1 ≤ r ∧ (∀ r' c, k + 1 ≤ r' → r' < r → k + 1 ≤ c → c < n - 1 → s (7 * r' + c) = nc_l (nc_Jm (nc_AL w) (k + 1) r' c)) ∧ (∀ r' c, (r' = k ∨ r ≤ r') → r' < n - 1 → k ≤ c → c < n - 1 → s (7 * r' + c) = nc_l (nc_Jm (nc_AL w) k r' c)))
        (n - 1) (k + 1) s (by omega) ⟨Nat.le_refl _, fun r' c h1 h2 => absurd h1 (by omega), fun r' c h1 h2 h3 h4 => hs r' c (by omega) h2 h3 h4⟩ ?_ ?_
      · intro f s hI
        refine pk_le (n - 1) (n - 1) (fun _ => nm_r (nI_1 k) ?_) (fun z => absurd z (by omega))
        have := hw s ⟨fun j hj => by
          by_cases c : j = k
          · rw [c]; exact hp
          · exact hnz j (by omega), fun r c h1 h2 h3 h4 => hI.2.1 r c h1 h2 h3 h4⟩
        rw [nc_Dsucc _ k (by omega)] at this
        exact this
      · intro f r s hr hI hw2
        obtain ⟨hkr, hI1, hI2⟩ := hI
        refine pk_le (n - 1) r (fun z => absurd z (by omega)) (fun _ => ?_)
        refine nc_rR (i := r) (k := k) (fr := k) (cl := n - 1) (D := nc_D (nc_AL w) k) (P := nc_Jm (nc_AL w) k k k) (E := nc_Jm (nc_AL w) k r k) (X := fun c => nc_Jm (nc_AL w) k r c) (Y := fun c => nc_Jm (nc_AL w) k k c) (Z := fun c => nc_Jm (nc_AL w) (k + 1) r c)
          (by omega) (by omega) (by omega) (by omega) (by omega) (by omega) (Nat.lt_of_le_of_lt bD (by decide))
          (hI2 k k (Or.inl rfl) hk (Nat.le_refl k) hk) (hI2 r k (Or.inr (Nat.le_refl r)) hr (Nat.le_refl k) hk) (fun c h1 h2 => hI2 r c (Or.inr (Nat.le_refl r)) hr h1 h2) (fun c h1 h2 => hI2 k c (Or.inl rfl) hk h1 h2)
          (fun c h1 h2 => ⟨nc_JS (nc_AL w) k r c (by omega), Nat.lt_of_le_of_lt (nc_bm bD (nc_bJm A45 (show k + 1 ≤ 4 by omega) hkr (by omega) (show c < 5 by omega))) (by decide)⟩)
          (fun a3' g1 g2 => nm_r (nI_1 r) (hw2 a3' ⟨by omega, fun r' c h1 h2 h3 h4 => ?_, fun r' c h1 h2 h3 h4 => ?_⟩))
        · by_cases e : r' = r
          · rw [e]
            exact g1 c (by omega) h4
          · rw [g2 _ (fun c' _ _ => by omega)]
            exact hI1 r' c h1 (by omega) h3 h4
        · rw [g2 _ (fun c' _ _ => by omega)]
          exact hI2 r' c (by omega) h2 h3 h4
theorem nc_tP {post : Int64 → St2 → Prop} (hG : nc_G n w) (hM : nc_M w a1)
    (H : ∀ a3', post (nc_l (nc_TR n w)) (nI n, sc, dr, bo, tn, bn, a1, a2, a3', a4, a5)) :
    wpX_determinant post (nI n, sc, dr, bo, tn, bn, a1, a2, a3, a4, a5) := by
  have h6 := hG.2.1
  have h2 := hG.1
  refine nm_r (pk_sub (a := n) (b := 1) (by omega)) ?_
  refine pk_loop (fun f p s => wX_determinant_9 post (nI (n - 1)) (nI n) sc dr bo tn bn f (nI (p + 1)) a1 a2 s a4 a5)
    (fun p s => ∀ i j, i < p → j < n - 1 → s (7 * i + j) = nc_l (nc_AL w i j)) (n - 1) 0 a3 (by omega) (fun i j hi _ => absurd hi (by omega)) ?_ ?_
  · intro f s hI
    exact pk_le n (n - 1 + 1) (fun _ => nc_t85 hG hI H) (fun z => absurd z (by omega))
  · intro f p s hp hI hw
    refine pk_le n (p + 1) (fun z => absurd z (by omega)) (fun _ => ?_)
    refine pk_loop (fun f q s => wX_determinant_19 post _ (nI (n - 1)) (nI (p + 1)) (nI n) sc dr bo tn bn f (nI (q + 1)) a1 a2 s a4 a5)
      (fun q s => (∀ i j, i < p → j < n - 1 → s (7 * i + j) = nc_l (nc_AL w i j)) ∧ ∀ j, j < q → s (7 * p + j) = nc_l (nc_AL w p j)) (n - 1) 0 s (by omega) ⟨hI, fun j hj => absurd hj (by omega)⟩ ?_ ?_
    · intro f s hI
      refine pk_le n (n - 1 + 1) (fun _ => nm_r (nI_1 (p + 1)) (hw s (fun i j hi hj => ?_))) (fun z => absurd z (by omega))
      by_cases e : i = p
      · rw [e]; exact hI.2 j hj
      · exact hI.1 i j (by omega) hj
    · intro f q s hq hI hw2
      have ix : ((7 : Int32) * (nI (p + 1) - 1)) + nI (q + 1) - 1 = nI (7 * p + q) := by
        rw [nI_pred, nc_ix7, show 7 * p + (q + 1) = (7 * p + q) + 1 by omega, nI_pred]
      have st : ∀ x, x = nc_l (nc_AL w p q) → wX_determinant_19 post (wX_determinant_9 post (nI (n - 1)) (nI n) sc dr bo tn bn _) (nI (n - 1)) (nI (p + 1)) (nI n) sc dr bo tn bn f (nI (q + 1 + 1)) a1 a2 (vp_updL s (7 * p + q) x) a4 a5 := fun x hx => by
        refine hw2 _ ⟨fun i j hi hj => ?_, fun j hj => ?_⟩
        · rw [pk_uLn (by omega)]
          exact hI.1 i j hi hj
        · by_cases e : j = q
          · rw [e, pk_uLs, hx]
          · rw [pk_uLn (by omega)]
            exact hI.2 j (by omega)
      refine pk_le n (q + 1) (fun z => absurd z (by omega)) (fun _ => pk_eq (p + 1) (q + 1) (fun z => ?_) (fun z => ?_))
      · refine nc_dG hG hM (show p + 1 < 6 by omega) ⟨pk_in (7 * p + q) 42 (by omega) ix, nm_e (nm_r (nI_1 (q + 1)) ?_)⟩
        rw [ix, nI_clamp (show 7 * p + q < 2 ^ 31 by omega)]
        refine st _ ?_
        show _ = nc_l (nc_Lm w (p + 1) (q + 1))
        unfold nc_Lm
        rw [if_pos z]
      · refine ⟨pk_in (6 * (p + 1) + (q + 1)) 36 (by omega) (nc_ix6 _ _), pk_in (7 * p + q) 42 (by omega) ix, nm_e (nm_r (nI_1 (q + 1)) ?_)⟩
        rw [ix, nI_clamp (show 7 * p + q < 2 ^ 31 by omega), nc_ix6, nI_clamp (show 6 * (p + 1) + (q + 1) < 2 ^ 31 by omega), nc_Mn64 hG hM (by omega) (by omega)]
        refine st _ ?_
        show _ = nc_l (nc_Lm w (p + 1) (q + 1))
        unfold nc_Lm
        rw [if_neg z]
end
end
section
theorem nc_nm1 {k : Nat} (h : k < 2 ^ 31) : ¬ nI k = -1 := by
  intro z
  have h1 := nI_toInt h
  rw [z] at h1
  have h2 : ((-1 : Int32)).toInt = -1 := by decide
  rw [h2] at h1
  omega
def nc_RO (n : Nat) (S : Nat → Bool) (a4 : Nat → Int32) : Prop := ∀ j, j < n → a4 j = if S j = true then nI (nc_rk S j) else -1
section
variable {n : Nat} {w : Nat → Nat → Int} {sc dr : Int32} {bo tn bn : Int64} {a1 a2 : Nat → Int32} {a3 : Nat → Int64} {a4 : Nat → Int32} {a5 : Nat → Int64}
theorem nc_fR {post : St2 → Prop} (hG : nc_G n w) (hM : nc_M w a1) {s d p : Nat} (hs : s < n) (hd : d < n) (hsd : s ≠ d) (hp : p < n) (h4 : nc_RO n (nc_S w s d) a4)
    (H0 : ¬ nc_S w s d p = true → post (nI n, sc, dr, bo, tn, bn, a1, a2, a3, a4, a5))
    (H1 : nc_S w s d p = true → ∀ a3', (∀ j, j ≤ nc_m n w s d → a3' (7 * nc_rk (nc_S w s d) p + j) = nc_l (nc_A n w s d (nc_rk (nc_S w s d) p) j)) → (∀ i j, i ≠ nc_rk (nc_S w s d) p → j < 7 → a3' (7 * i + j) = a3 (7 * i + j)) → post (nI n, sc, dr, bo, tn, bn, a1, a2, a3', a4, a5)) :
    wpX_fillRow post (nI n, sc, dr, bo, tn, bn, a1, a2, a3, a4, a5) (nI p) (nI s) (nI (nc_m n w s d)) := by
  have h6 := hG.2.1
  have hm := nc_m4 hG hs hd hsd
  by_cases hS : nc_S w s d p = true
  · have ep : a4 p = nI (nc_rk (nc_S w s d) p) := by rw [h4 p hp, if_pos hS]
    obtain ⟨t1, t2, _⟩ := nc_tS hp hS
    have H1' := H1 hS
    have hps := (nc_Si.mp hS).2.1
    have AL : ∀ q, q < n → nc_S w s d q = true → nc_A n w s d (nc_rk (nc_S w s d) p) (nc_rk (nc_S w s d) q) = nc_Lm w p q := fun q hq hSq => by
      obtain ⟨q1, q2, _⟩ := nc_tS hq hSq
      unfold nc_A
      rw [if_pos q1, t2, q2]
    have AM : nc_A n w s d (nc_rk (nc_S w s d) p) (nc_m n w s d) = w p s := by
      unfold nc_A
      rw [if_neg (by omega), t2]
    generalize hr : nc_rk (nc_S w s d) p = row at *
    refine ⟨pk_in p 6 (by omega), nm_r (e' := nI row) (by rw [nI_clamp (show p < 2 ^ 31 by omega), ep]) (br_f (nc_nm1 (by omega)) ?_)⟩
    refine pk_loop (fun f q s' => wX_fillRow_18 post (nI p) (nI s) (nI (nc_m n w s d)) (nI row) (nI n) sc dr bo tn bn f (nI q) a1 a2 s' a4 a5)
      (fun q s' => (∀ q', q' < q → nc_S w s d q' = true → s' (7 * row + nc_rk (nc_S w s d) q') = nc_l (nc_Lm w p q')) ∧ (∀ i j, i ≠ row → j < 7 → s' (7 * i + j) = a3 (7 * i + j)))
      n 0 a3 (by omega) ⟨fun q' h => absurd h (by omega), fun _ _ _ _ => rfl⟩ ?_ ?_
    · intro f s' hI
      refine pk_le n n (fun _ => ⟨pk_in (6 * p + s) 36 (by omega) (nc_ix6 p s), pk_in (7 * row + nc_m n w s d) 42 (by omega) (nc_ix7 _ _), nm_e ?_⟩) (fun z => absurd z (by omega))
      rw [nc_ix7, nc_ix6, nI_clamp (show 7 * row + nc_m n w s d < 2 ^ 31 by omega), nI_clamp (show 6 * p + s < 2 ^ 31 by omega), nc_M64 hG hM (by omega) (by omega)]
      refine H1' _ (fun j hj => ?_) (fun i j hi hj => ?_)
      · by_cases e : j = nc_m n w s d
        · rw [e, pk_uLs, AM]
        · rw [pk_uLn (by omega)]
          have r := nc_r_ok (show j < nc_m n w s d by omega)
          have hSj : nc_S w s d (nc_r n w s d j) = true := nc_Si.mpr ⟨r.2.1, r.2.2.1, r.2.2.2.1⟩
          have := hI.1 (nc_r n w s d j) r.1 hSj
          rw [← AL _ r.1 hSj, r.2.2.2.2] at this
          exact this
      · rw [pk_uLn (by omega)]
        exact hI.2 i j hi hj
    · intro f q s' hq hI hw
      refine pk_le n q (fun z => absurd z (by omega)) (fun _ => ⟨pk_in q 6 (by omega), ?_⟩)
      rw [nI_clamp (show q < 2 ^ 31 by omega)]
      by_cases hSq : nc_S w s d q = true
      · have eq : a4 q = nI (nc_rk (nc_S w s d) q) := by rw [h4 q hq, if_pos hSq]
        obtain ⟨q1, q2, _⟩ := nc_tS hq hSq
        rw [eq]
        have st : ∀ x, x = nc_l (nc_Lm w p q) → wX_fillRow_18 post (nI p) (nI s) (nI (nc_m n w s d)) (nI row) (nI n) sc dr bo tn bn f (nI (q + 1)) a1 a2 (vp_updL s' (7 * row + nc_rk (nc_S w s d) q) x) a4 a5 := fun x hx => by
          refine hw _ ⟨fun q' h1 h2 => ?_, fun i j hi hj => ?_⟩
          · by_cases e : q' = q
            · rw [e, pk_uLs, hx]
            · have := nc_rkl (nc_S w s d) h2 (show q' < q by omega)
              rw [pk_uLn (by omega)]
              exact hI.1 q' (by omega) h2
          · rw [pk_uLn (by omega)]
            exact hI.2 i j hi hj
        refine br_f (nc_nm1 (by omega)) ⟨pk_in q 6 (by omega), pk_eq p q (fun z => ?_) (fun z => ?_)⟩
        · refine nc_dG hG hM (show p < 6 by omega) ⟨pk_in (7 * row + nc_rk (nc_S w s d) q) 42 (by omega) (nc_ix7 _ _), nm_e (nm_r (nI_1 q) ?_)⟩
          rw [nc_ix7, nI_clamp (show 7 * row + nc_rk (nc_S w s d) q < 2 ^ 31 by omega)]
          refine st _ ?_
          unfold nc_Lm
          rw [if_pos z]
        · refine ⟨pk_in (6 * p + q) 36 (by omega) (nc_ix6 _ _), pk_in (7 * row + nc_rk (nc_S w s d) q) 42 (by omega) (nc_ix7 _ _), nm_e (nm_r (nI_1 q) ?_)⟩
          rw [nc_ix7, nI_clamp (show 7 * row + nc_rk (nc_S w s d) q < 2 ^ 31 by omega), nc_ix6, nI_clamp (show 6 * p + q < 2 ^ 31 by omega), nc_Mn64 hG hM (by omega) (by omega)]
          refine st _ ?_
          unfold nc_Lm
          rw [if_neg z]
      · have eq : a4 q = -1 := by rw [h4 q hq, if_neg hSq]
        rw [eq]
        refine br_t rfl (nm_r (nI_1 q) (hw s' ⟨fun q' h1 h2 => ?_, hI.2⟩))
        by_cases e : q' = q
        · rw [e] at h2; exact absurd h2 hSq
        · exact hI.1 q' (by omega) h2
  · have ep : a4 p = -1 := by rw [h4 p hp, if_neg hS]
    exact ⟨pk_in p 6 (by omega), nm_r (e' := -1) (by rw [nI_clamp (show p < 2 ^ 31 by omega), ep]) (br_t rfl (H0 hS))⟩
/-- the last loop: tops -/
theorem nc_s196 {post : Int32 → St2 → Prop} (hG : nc_G n w) {s d : Nat} (hs : s < n) (hd : d < n) (hsd : s ≠ d) (h4 : nc_RO n (nc_S w s d) a4)
    (h3 : ∀ i, i < nc_m n w s d → a3 (7 * i + nc_m n w s d) = nc_l (nc_Cr (nc_A n w s d) (nc_m n w s d) i (nc_m n w s d)))
    (H : ∀ a5', (∀ p, p < n → a5' p = nc_l (nc_t n w s d p)) → post 1 (nI n, sc, dr, nc_l (nc_b n w s d), tn, bn, a1, a2, a3, a4, a5')) :
    ∃ fu, wX_solve_196 post (nI s) (nI (nc_m n w s d)) (nI n) sc dr (nc_l (nc_b n w s d)) tn bn fu 0 a1 a2 a3 a4 a5 := by
  have h6 := hG.2.1
  have hm := nc_m4 hG hs hd hsd
  have Ss : ¬ nc_S w s d s = true := fun z => (nc_Si.mp z).2.1 rfl
  refine pk_loop (fun f p s' => wX_solve_196 post (nI s) (nI (nc_m n w s d)) (nI n) sc dr (nc_l (nc_b n w s d)) tn bn f (nI p) a1 a2 a3 a4 s')
    (fun p s' => ∀ p', p' < p → p' ≠ s → s' p' = nc_l (nc_t n w s d p')) n 0 a5 (by omega) (fun p' h => absurd h (by omega)) ?_ ?_
  · intro f s' hI
    refine pk_le n n (fun _ => ⟨pk_in s 6 (by omega), nm_e (H _ (fun p hp => ?_))⟩) (fun z => absurd z (by omega))
    rw [nI_clamp (show s < 2 ^ 31 by omega)]
    by_cases e : p = s
    · rw [e, pk_uLs, nc_tN Ss, if_pos rfl]
    · rw [pk_uLn e]
      exact hI p hp e
  · intro f p s' hp hI hw
    have st : ∀ x, (p ≠ s → x = nc_l (nc_t n w s d p)) → wX_solve_196 post (nI s) (nI (nc_m n w s d)) (nI n) sc dr (nc_l (nc_b n w s d)) tn bn f (nI (p + 1)) a1 a2 a3 a4 (vp_updL s' p x) := fun x hx => by
      refine hw _ (fun p' h1 h2 => ?_)
      by_cases e : p' = p
      · rw [e, pk_uLs, hx (by omega)]
      · rw [pk_uLn e]
        exact hI p' (by omega) h2
    refine pk_le n p (fun z => absurd z (by omega)) (fun _ => ⟨pk_in p 6 (by omega), ?_⟩)
    rw [nI_clamp (show p < 2 ^ 31 by omega)]
    by_cases hS : nc_S w s d p = true
    · have ep : a4 p = nI (nc_rk (nc_S w s d) p) := by rw [h4 p hp, if_pos hS]
      obtain ⟨t1, t2, t3⟩ := nc_tS hp hS
      rw [ep]
      refine br_f (nc_nm1 (by omega)) ⟨pk_in p 6 (by omega), pk_in (7 * nc_rk (nc_S w s d) p + nc_m n w s d) 42 (by omega) (nc_ix7 _ _), pk_in p 6 (by omega), nm_e (nm_r (nI_1 p) ?_)⟩
      rw [nc_ix7, nI_clamp (show 7 * nc_rk (nc_S w s d) p + nc_m n w s d < 2 ^ 31 by omega)]
      exact st _ (fun _ => by rw [h3 _ t1, t3])
    · have ep : a4 p = -1 := by rw [h4 p hp, if_neg hS]
      rw [ep]
      exact br_t rfl ⟨pk_in p 6 (by omega), nm_e (nm_r (nI_1 p) (st _ (fun e => by rw [nc_tN hS, if_neg e]; rfl)))⟩
/-- the elimination of solve -/
theorem nc_s120 {post : Int32 → St2 → Prop} (hG : nc_G n w) {s d : Nat} (hs : s < n) (hd : d < n) (hsd : s ≠ d) (h4 : nc_RO n (nc_S w s d) a4)
    (h3 : ∀ i j, i < nc_m n w s d → j ≤ nc_m n w s d → a3 (7 * i + j) = nc_l (nc_A n w s d i j))
    (H : ∀ a3' a5', (∀ p, p < n → a5' p = nc_l (nc_t n w s d p)) → post 1 (nI n, sc, dr, nc_l (nc_b n w s d), tn, bn, a1, a2, a3', a4, a5')) :
    ∃ fu, wX_solve_120 post (nI s) (nI (nc_m n w s d)) fu 1 0 (nI n) sc dr bo tn bn a1 a2 a3 a4 a5 := by
  have h6 := hG.2.1
  have hm := nc_m4 hG hs hd hsd
  have A45 : ∀ i j, i < 5 → j < 5 → (nc_A n w s d i j).natAbs ≤ 45 := fun i j _ _ => nc_A45 hG s d i j
  have hpos := nc_Apos hG hs hd hsd
  have H2 : ∀ s' : Nat → Int64, (∀ i j, i < nc_m n w s d → j ≤ nc_m n w s d → s' (7 * i + j) = nc_l (nc_Jf (nc_A n w s d) (nc_m n w s d) i j)) →
      ∃ fu, wX_solve_196 post (nI s) (nI (nc_m n w s d)) (nI n) sc dr (nc_l (nc_b n w s d)) tn bn fu 0 a1 a2 s' a4 a5 := fun s' hI =>
    nc_s196 hG hs hd hsd h4 (fun i hi => by rw [hI i _ hi (Nat.le_refl _)]; unfold nc_Jf; rw [if_pos hi]) (fun a5' h5 => H s' a5' h5)
  have eb : nc_b n w s d = nc_D (nc_A n w s d) (nc_m n w s d) := rfl
  rw [eb] at H2
  generalize nc_A n w s d = A at *
  generalize nc_m n w s d = m at *
  refine pk_loop (fun f k s' => wX_solve_120 post (nI s) (nI m) f (nc_l (nc_D A k)) (nI k) (nI n) sc dr bo tn bn a1 a2 s' a4 a5)
    (fun k s' => ∀ i j, i < m → j ≤ m → s' (7 * i + j) = nc_l (nc_Jf A k i j)) m 0 a3 (by omega)
    (fun i j hi hj => by rw [nc_Jf0]; exact h3 i j hi hj) ?_ ?_
  · intro f s' hI
    exact pk_le m m (fun _ => H2 s' hI) (fun z => absurd z (by omega))
  · intro f k s' hk hI hw
    have hDp := hpos k (by omega)
    have bD := nc_bD A45 k (by omega)
    refine pk_le m k (fun z => absurd z (by omega)) (fun _ => ⟨pk_in (7 * k + k) 42 (by omega) (nc_ix7 k k), nm_r (e' := nc_l (nc_Jf A k k k)) (by rw [nc_ix7, nI_clamp (show 7 * k + k < 2 ^ 31 by omega), hI k k hk (by omega)]) ?_⟩)
    refine pk_loop (fun f r s' => wX_solve_144 post _ (nI s) (nI m) (nc_l (nc_D A k)) (nI k) (nc_l (nc_Jf A k k k)) f (nI r) (nI n) sc dr bo tn bn a1 a2 s' a4 a5)
      (fun r s' => (∀ i j, i < r → j ≤ m → s' (7 * i + j) = nc_l (nc_Jf A (k + 1) i j)) ∧ (∀ i j, r ≤ i → i < m → j ≤ m → s' (7 * i + j) = nc_l (nc_Jf A k i j)))
      m 0 s' (by omega) ⟨fun i j h => absurd h (by omega), fun i j _ h1 h2 => hI i j h1 h2⟩ ?_ ?_
    · intro f s' hI
      refine pk_le m m (fun _ => nm_r (nI_1 k) ?_) (fun z => absurd z (by omega))
      have := hw s' (fun i j h1 h2 => hI.1 i j h1 h2)
      rw [nc_Dsucc _ k (by omega)] at this
      rw [nc_Jfk]
      exact this
    · intro f r s' hr hI hw2
      obtain ⟨I1, I2⟩ := hI
      have ek : ∀ j, j ≤ m → s' (7 * k + j) = nc_l (nc_Jf A k k j) := fun j hj => by
        by_cases c : k < r
        · rw [I1 k j c hj, nc_Jf1 A k j (by omega)]
        · exact I2 k j (by omega) hk hj
      refine pk_le m r (fun z => absurd z (by omega)) (fun _ => pk_eq r k (fun z => nm_r (nI_1 r) (hw2 s' ⟨fun i j h1 h2 => ?_, fun i j h1 h2 h3 => I2 i j (by omega) h2 h3⟩)) (fun z => ?_))
      · by_cases e : i = r
        · rw [e, z, ek j h2, nc_Jf1 A k j (by omega)]
        · exact I1 i j (by omega) h2
      · rw [nI_1 m]
        refine nc_rR (i := r) (k := k) (fr := 0) (cl := m + 1) (D := nc_D A k) (P := nc_Jf A k k k) (E := nc_Jf A k r k) (X := fun c => nc_Jf A k r c) (Y := fun c => nc_Jf A k k c) (Z := fun c => nc_Jf A (k + 1) r c)
          (by omega) (by omega) z (by omega) (by omega) (by omega) (Nat.lt_of_le_of_lt bD (by decide))
          (ek k (by omega)) (I2 r k (Nat.le_refl r) hr (by omega)) (fun c _ h2 => I2 r c (Nat.le_refl r) hr (by omega)) (fun c _ h2 => ek c (by omega))
          (fun c _ h2 => ⟨nc_JF A k r c (by omega) z, Nat.lt_of_le_of_lt (nc_bm bD (nc_bJ A45 (k + 1) r c (by omega) (by omega) (by omega))) (by decide)⟩)
          (fun a3' g1 g2 => nm_r (nI_1 r) (hw2 a3' ⟨fun i j h1 h2 => ?_, fun i j h1 h2 h3 => ?_⟩))
        · by_cases e : i = r
          · rw [e]
            exact g1 j (by omega) (by omega)
          · rw [g2 _ (fun c' _ _ => by omega)]
            exact I1 i j (by omega) h2
        · rw [g2 _ (fun c' _ _ => by omega)]
          exact I2 i j (by omega) h2 h3
/-- solve -/
theorem nc_sV {post : Int32 → St2 → Prop} (hG : nc_G n w) (hM : nc_M w a1) {s d : Nat} (hs : s < n) (hd : d < n) (hsd : s ≠ d)
    (H0 : ¬ nc_Conn w s d → ∀ a2', post 0 (nI n, sc, dr, bo, tn, bn, a1, a2', a3, a4, a5))
    (H1 : nc_Conn w s d → ∀ a2' l a3' a4' a5', nc_PL n w l → (∀ j, j < n → a2' j = nI (l j)) → (∀ p, p < n → a5' p = nc_l (nc_t n w s d p)) → post 1 (nI n, sc, dr, nc_l (nc_b n w s d), tn, bn, a1, a2', a3', a4', a5')) :
    wpX_solve post (nI n, sc, dr, bo, tn, bn, a1, a2, a3, a4, a5) (nI s) (nI d) := by
  have h6 := hG.2.1
  have hm := nc_m4 hG hs hd hsd
  unfold wpX_solve
  refine nc_fP hG hM (fun a2' l hl e2 => ⟨pk_in s 6 (by omega), pk_in d 6 (by omega), ?_⟩)
  rw [nI_clamp (show s < 2 ^ 31 by omega), nI_clamp (show d < 2 ^ 31 by omega)]
  have hls := (hl.1 s hs).1
  have hld := (hl.1 d hd).1
  refine pk_eq (l s) (l d) (fun z => ?_) (fun z => H0 (fun hc => z ((nc_PLc hl hs hd).mpr hc)) a2') (e2 s hs) (e2 d hd)
  have H1' := H1 ((nc_PLc hl hs hd).mp z) a2' l
  refine pk_loop (fun f p s' => wX_solve_26 post (nI s) (nI d) (nI n) sc dr bo tn bn f (nI (nc_rk (nc_S w s d) p)) (nI p) a1 a2' a3 s' a5)
    (fun p s' => nc_RO p (nc_S w s d) s') n 0 a4 (by omega) (fun j hj => absurd hj (by omega)) ?_ ?_
  · intro f s' h4
    refine pk_le n n (fun _ => ?_) (fun z => absurd z (by omega))
    refine pk_loop (fun f p s2 => wX_solve_91 post (nI s) (nI (nc_m n w s d)) f (nI p) (nI n) sc dr bo tn bn a1 a2' s2 s' a5)
      (fun p s2 => ∀ p', p' < p → nc_S w s d p' = true → ∀ j, j ≤ nc_m n w s d → s2 (7 * nc_rk (nc_S w s d) p' + j) = nc_l (nc_A n w s d (nc_rk (nc_S w s d) p') j)) n 0 a3 (by omega) (fun p' h => absurd h (by omega)) ?_ ?_
    · intro f s2 hI
      refine pk_le n n (fun _ => nc_s120 hG hs hd hsd h4 (fun i j hi hj => ?_) (fun a3' a5' h5 => H1' a3' s' a5' hl e2 h5)) (fun z => absurd z (by omega))
      have r := nc_r_ok hi
      have := hI (nc_r n w s d i) r.1 (nc_Si.mpr ⟨r.2.1, r.2.2.1, r.2.2.2.1⟩) j hj
      rwa [r.2.2.2.2] at this
    · intro f p s2 hp hI hw
      refine pk_le n p (fun z => absurd z (by omega)) (fun _ => ?_)
      refine nc_fR hG hM hs hd hsd hp h4 (fun hS => nm_r (nI_1 p) (hw s2 (fun p' h1 h2 => ?_))) (fun hS a3' g1 g2 => nm_r (nI_1 p) (hw a3' (fun p' h1 h2 j hj => ?_)))
      · by_cases e : p' = p
        · rw [e] at h2; exact absurd h2 hS
        · exact hI p' (by omega) h2
      · by_cases e : p' = p
        · rw [e]; exact g1 j hj
        · have := nc_rkl (nc_S w s d) h2 (show p' < p by omega)
          rw [g2 _ j (by omega) (by omega)]
          exact hI p' (by omega) h2 j hj
  · intro f p s' hp hI hw
    have hlp := (hl.1 p hp).1
    refine pk_le n p (fun z => absurd z (by omega)) (fun _ => ⟨pk_in p 6 (by omega), nm_e ⟨pk_in p 6 (by omega), pk_in s 6 (by omega), ?_⟩⟩)
    rw [nI_clamp (show p < 2 ^ 31 by omega), nI_clamp (show s < 2 ^ 31 by omega)]
    have sk : ¬ nc_S w s d p = true → wX_solve_26 post (nI s) (nI d) (nI n) sc dr bo tn bn f (nI (nc_rk (nc_S w s d) p)) (nI (p + 1)) a1 a2' a3 (upd s' p (-1)) a5 := fun hS => by
      have := hw (upd s' p (-1)) (fun j hj => ?_)
      · rw [nc_rkz _ hS] at this
        exact this
      · by_cases e : j = p
        · rw [e, pk_us, if_neg hS]
        · rw [pk_un e]
          exact hI j (by omega)
    refine pk_eq (l p) (l s) (fun z1 => pk_eq p s (fun z2 => nm_r (nI_1 p) (sk (fun hS => (nc_Si.mp hS).2.1 z2))) (fun z2 => pk_eq p d (fun z3 => nm_r (nI_1 p) (sk (fun hS => (nc_Si.mp hS).2.2 z3))) (fun z3 => ⟨pk_in p 6 (by omega), nm_e (nm_r (nI_1 _) (nm_r (nI_1 p) ?_))⟩)))
      (fun z1 => nm_r (nI_1 p) (sk (fun hS => z1 ((nc_PLc hl hp hs).mpr (nc_Si.mp hS).1)))) (e2 p hp) (e2 s hs)
    have hS : nc_S w s d p = true := nc_Si.mpr ⟨(nc_PLc hl hp hs).mp z1, z2, z3⟩
    have := hw (upd (upd s' p (-1)) p (nI (nc_rk (nc_S w s d) p))) (fun j hj => ?_)
    · rw [nc_rks _ hS] at this
      exact this
    · by_cases e : j = p
      · rw [e, pk_us, if_pos hS]
      · rw [pk_un e, pk_un e]
        exact hI j (by omega)
end
end
section
def nc_ft (a b : Int) : Int := a / (Int.gcd a b : Int)
def nc_fb (a b : Int) : Int := b / (Int.gcd a b : Int)
theorem nc_f0 {b : Int} (hb : 0 < b) : nc_ft 0 b = 0 ∧ nc_fb 0 b = 1 := by
  have f := nc_frac (a := 0) hb
  have e : (Int.gcd 0 b : Int) = b := by rw [Int.gcd_zero_left]; omega
  unfold nc_ft nc_fb
  rw [e]
  exact ⟨Int.zero_ediv b, Int.ediv_self (by omega)⟩
theorem nc_ft_abs {a b : Int} (hb : 0 < b) : (nc_ft a b).natAbs ≤ a.natAbs ∧ (nc_fb a b).natAbs ≤ b.natAbs := by
  obtain ⟨h0, h1, h2, _⟩ := nc_frac (a := a) hb
  unfold nc_ft nc_fb
  generalize (Int.gcd a b : Int) = g at *
  generalize a / g = x at *
  generalize b / g = y at *
  have hg : 1 ≤ g.natAbs := by omega
  constructor
  · rw [← h1, Int.natAbs_mul]
    have := Nat.mul_le_mul_right x.natAbs hg
    omega
  · rw [← h2, Int.natAbs_mul]
    have := Nat.mul_le_mul_right y.natAbs hg
    omega
theorem nc_lcm {Y V B : Nat} (h1 : Y ∣ B) (h2 : V ∣ B) : Y / Nat.gcd Y V * V ∣ B := by
  have e : Y / Nat.gcd Y V * V = Nat.lcm Y V := Nat.div_mul_right_comm (Nat.gcd_dvd_left Y V) V
  rw [e]
  exact Nat.lcm_dvd h1 h2
section
variable {n : Nat} {w : Nat → Nat → Int} {xn sc dr : Int32} {bo tn bn : Int64} {a1 a2 : Nat → Int32} {a3 : Nat → Int64} {a4 : Nat → Int32} {a5 : Nat → Int64}
theorem nc_sH {post : St2 → Prop} {tp be : Int} (hb : 0 < be) (h1 : tp.natAbs ≤ 2 ^ 36) (h2 : be.natAbs ≤ 2 ^ 36)
    (H : post (xn, sc, dr, bo, nc_l (nc_ft tp be), nc_l (nc_fb tp be), a1, a2, a3, a4, a5)) :
    wpX_show post (xn, sc, dr, bo, tn, bn, a1, a2, a3, a4, a5) (nc_l tp) (nc_l be) := by
  obtain ⟨g0, g1, g2, _⟩ := nc_frac (a := tp) hb
  have eg : Nat.gcd tp.natAbs be.natAbs = Int.gcd tp be := rfl
  have gle : Int.gcd tp be ≤ be.natAbs := by
    rw [← eg]
    exact Nat.gcd_le_right _ (by omega)
  have fin : wX_show_55 post (nc_l tp) (nc_l be) (lN (Int.gcd tp be)) xn sc dr bo tn bn a1 a2 a3 a4 a5 := by
    have n0 : ¬ lN (Int.gcd tp be) = 0 := fun z => by
      have := (pk_lEQ (b := 0) (by omega) (by omega)).mp z
      omega
    refine br_f (fun z => ?_) ⟨n0, nm_r (e' := nc_l (nc_ft tp be)) ?_ ⟨n0, nm_r (e' := nc_l (nc_fb tp be)) ?_ H⟩⟩
    · have := (pk_lLE (b := 0) (by omega) (by omega)).mp z
      omega
    · have := nc_lD (b := (Int.gcd tp be : Int)) (q := nc_ft tp be) (by omega) (by unfold nc_ft; rw [g1]; omega) (by omega)
      unfold nc_ft at this ⊢
      rw [g1, nc_lN] at this
      exact this
    · have := nc_lD (b := (Int.gcd tp be : Int)) (q := nc_fb tp be) (by omega) (by unfold nc_fb; rw [g2]; omega) (by omega)
      unfold nc_fb at this ⊢
      rw [g2, nc_lN] at this
      exact this
  have main : ∃ fu, wX_show_20 post (nc_l tp) (nc_l be) xn sc dr bo tn bn a1 a2 a3 a4 a5 fu (lN tp.natAbs) (lN be.natAbs) 0 := by
    refine pk_loop (fun f k (s : Nat × Nat) => wX_show_20 post (nc_l tp) (nc_l be) xn sc dr bo tn bn a1 a2 a3 a4 a5 f (lN s.1) (lN s.2) (nI k))
      (fun k s => nc_E 100 k s.1 s.2 (Int.gcd tp be) ∧ s.1 < 2 ^ 63 ∧ s.2 < 2 ^ 63) 100 0 (tp.natAbs, be.natAbs) (by omega) ⟨?_, ?_, ?_⟩ ?_ ?_
    · refine nc_E0 (show 0 < be.natAbs by omega) ?_
      exact Nat.lt_of_le_of_lt (Nat.mul_le_mul h1 h2) (by decide)
    · show tp.natAbs < 2 ^ 63; omega
    · show be.natAbs < 2 ^ 63; omega
    · intro f s hI
      obtain ⟨x, y⟩ := s
      obtain ⟨hE, hx, hy⟩ := hI
      have ex : x = 0 := nc_EN (by omega) hE
      subst ex
      have ey : y = Int.gcd tp be := nc_Eg hE
      subst ey
      exact pk_le 100 100 (fun _ => fin) (fun z => absurd z (by omega))
    · intro f k s hk hI hw
      obtain ⟨x, y⟩ := s
      obtain ⟨hE, hx, hy⟩ := hI
      refine pk_le 100 k (fun z => absurd z (by omega)) (fun _ => ?_)
      rcases Nat.eq_zero_or_pos x with c | c
      · subst c
        have ey : y = Int.gcd tp be := nc_Eg hE
        subst ey
        exact br_t rfl fin
      · have n0 : ¬ lN x = 0 := fun z => by
          have := (pk_lEQ (b := 0) hx (by omega)).mp z
          omega
        have hmod : y % x < x := Nat.mod_lt _ c
        have hx' : x < 2 ^ 63 := hx
        exact br_f n0 ⟨n0, nm_r (pk_lRem hy c hx) (nm_r (nI_1 k) (hw (y % x, x) ⟨nc_Es hk c hE, by show y % x < 2 ^ 63; omega, hx⟩))⟩
  have eb : lN be.natAbs = nc_l be := by rw [← nc_lN, show ((be.natAbs : Nat) : Int) = be by omega]
  rw [eb] at main
  rcases Int.le_total 0 tp with c | c
  · have et : lN tp.natAbs = nc_l tp := by rw [← nc_lN, show ((tp.natAbs : Nat) : Int) = tp by omega]
    rw [et] at main
    exact br_t ((nc_lLE (a := 0) (by decide) (by omega)).mpr c) main
  · by_cases e0 : tp = 0
    · have et : lN tp.natAbs = nc_l tp := by rw [← nc_lN, show ((tp.natAbs : Nat) : Int) = tp by omega]
      rw [et] at main
      exact br_t ((nc_lLE (a := 0) (by decide) (by omega)).mpr (by omega)) main
    · have et : lN tp.natAbs = nc_l (-tp) := by rw [← nc_lN, show ((tp.natAbs : Nat) : Int) = -tp by omega]
      rw [et] at main
      exact br_f (fun z => by have := (nc_lLE (a := 0) (by decide) (by omega)).mp z; omega) (nm_r (nc_ln tp) main)
theorem nc_cF {post : Int64 → Prop} (hG : nc_G n w) (hM : nc_M w a1) {p : Nat} (hp : p < 6) {b : Int} {t : Nat → Int} (h5 : ∀ q, q < n → a5 q = nc_l (t q))
    (H : post (nc_l (nc_sm (fun q => w p q * (b - t q)) 6))) : wpX_currentFrom post (nI n, sc, dr, nc_l b, tn, bn, a1, a2, a3, a4, a5) (nI p) := by
  have h6 := hG.2.1
  refine pk_loop (fun k i (_ : Unit) => wX_currentFrom_5 post (nI p) (nI n) sc dr (nc_l b) tn bn a1 a2 a3 a4 a5 k (nc_l (nc_sm (fun q => w p q * (b - t q)) i)) (nI i)) (fun _ _ => True) n 0 () (by omega) trivial ?_ ?_
  · intro k _ _
    rw [nc_smN hG] at H
    exact pk_le n n (fun _ => H) (fun z => absurd z (by omega))
  · intro k i _ hi _ hw
    have hw' := hw () trivial
    refine pk_le n i (fun z => absurd z (by omega)) (fun _ => ⟨pk_in (6 * p + i) 36 (by omega) (nc_ix6 p i), pk_in i 6 (by omega), nm_r ?_ (nm_r (nI_1 i) hw')⟩)
    rw [nc_ix6, nI_clamp (show 6 * p + i < 2 ^ 31 by omega), nI_clamp (show i < 2 ^ 31 by omega), nc_M64 hG hM hp (by omega), h5 i hi, nc_ls, nc_lm, nc_la]
    rfl
/-- currents are not too large -/
theorem nc_Lab (hG : nc_G n w) {t : Nat → Int} (ht : ∀ v, (t v).natAbs ≤ nc_BB) (p : Nat) : (nc_La w t p).natAbs ≤ 2 ^ 36 := by
  have h : (nc_sm (fun v => w p v * (t p - t v)) 6).natAbs ≤ 6 * (9 * (nc_BB + nc_BB)) := nc_bsm (fun v _ => nc_bm (by have := hG.2.2.1 p v; omega) (nc_bs (ht p) (ht v)))
  exact Nat.le_trans h (by decide)
theorem nc_Fb (hG : nc_G n w) {t : Nat → Int} (ht : ∀ v, (t v).natAbs ≤ nc_BB) (p q : Nat) : (w p q * (t p - t q)).natAbs ≤ 2 ^ 36 := by
  have h : (w p q * (t p - t q)).natAbs ≤ 9 * (nc_BB + nc_BB) := nc_bm (by have := hG.2.2.1 p q; omega) (nc_bs (ht p) (ht q))
  exact Nat.le_trans h (by decide)
theorem nc_BB36 {x : Int} (h : x.natAbs ≤ nc_BB) : x.natAbs ≤ 2 ^ 36 := Nat.le_trans h (by decide)
/-- the current at the source -/
theorem nc_cU {post : St2 → Prop} (hG : nc_G n w) (hM : nc_M w a1) {s d : Nat} (hs : s < n) (hd : d < n) (hsd : s ≠ d) (hc : nc_Conn w s d)
    (H : ∀ a2' a3' a4' a5', post (nI n, nI s, nI d, nc_l (nc_b n w s d), nc_l (nc_ft (nc_La w (nc_t n w s d) s) (nc_b n w s d)), nc_l (nc_fb (nc_La w (nc_t n w s d) s) (nc_b n w s d)), a1, a2', a3', a4', a5')) :
    wpX_current post (nI n, nI s, nI d, bo, tn, bn, a1, a2, a3, a4, a5) := by
  have h6 := hG.2.1
  have hS := nc_solved hG hs hd hsd
  unfold wpX_current
  refine nc_sV hG hM hs hd hsd (fun z => absurd hc z) (fun _ a2' l a3' a4' a5' hl e2 h5 => br_f (by decide) ?_)
  refine nc_cF hG hM (show s < 6 by omega) h5 ?_
  have e : nc_sm (fun q => w s q * (nc_b n w s d - nc_t n w s d q)) 6 = nc_La w (nc_t n w s d) s := by
    unfold nc_La
    rw [hS.2.2.2.1]
  rw [e]
  exact nc_sH hS.1 (nc_Lab hG hS.2.2.1 s) (nc_BB36 hS.2.1) (H a2' a3' a4' a5')
/-- the flow from p to q -/
theorem nc_F0 (hG : nc_G n w) {s d : Nat} {b : Int} {t : Nat → Int} (hS : nc_Sol n w s d b t) {p q : Nat} (hp : p < n) (hq : q < n) (h : ¬ (nc_Conn w p s ∧ nc_Conn w q s)) : w p q * (t p - t q) = 0 := by
  rcases Int.lt_or_le 0 (w p q) with c | c
  · have e : nc_Conn w p q := nc_Ce c
    have np : ¬ nc_Conn w p s := fun z => h ⟨z, nc_Ct (nc_Cs e) z⟩
    have nq : ¬ nc_Conn w q s := fun z => np (nc_Ct e z)
    rw [hS.2.2.2.2.2.2 p hp np, hS.2.2.2.2.2.2 q hq nq]
    omega
  · have := (hG.2.2.1 p q).1
    rw [show w p q = 0 by omega, Int.zero_mul]
theorem nc_fL {post : St2 → Prop} (hG : nc_G n w) (hM : nc_M w a1) {s d p q : Nat} (hs : s < n) (hd : d < n) (hsd : s ≠ d) (hc : nc_Conn w s d) (hp : p < n) (hq : q < n)
    (H : ∀ bo' a2' a3' a4' a5', post (nI n, nI s, nI d, bo', nc_l (nc_ft (w p q * (nc_t n w s d p - nc_t n w s d q)) (nc_b n w s d)), nc_l (nc_fb (w p q * (nc_t n w s d p - nc_t n w s d q)) (nc_b n w s d)), a1, a2', a3', a4', a5')) :
    wpX_flow post (nI n, nI s, nI d, bo, tn, bn, a1, a2, a3, a4, a5) (nI p) (nI q) := by
  have h6 := hG.2.1
  have hS := nc_solved hG hs hd hsd
  have no : ¬ (nc_Conn w p s ∧ nc_Conn w q s) → ∀ bo' a2' a3' a4' a5', post (nI n, nI s, nI d, bo', 0, 1, a1, a2', a3', a4', a5') := fun h bo' a2' a3' a4' a5' => by
    have := H bo' a2' a3' a4' a5'
    rw [nc_F0 hG hS hp hq h, (nc_f0 hS.1).1, (nc_f0 hS.1).2] at this
    exact this
  unfold wpX_flow
  refine nc_iP h6 hp (br_f (by decide) (nc_iP h6 hq (br_f (by decide) ?_)))
  refine nc_sV hG hM hs hd hsd (fun z => absurd hc z) (fun _ a2' l a3' a4' a5' hl e2 h5 => br_f (by decide) ⟨pk_in p 6 (by omega), pk_in s 6 (by omega), ?_⟩)
  rw [nI_clamp (show p < 2 ^ 31 by omega), nI_clamp (show s < 2 ^ 31 by omega), nI_clamp (show q < 2 ^ 31 by omega)]
  have hlp := (hl.1 p hp).1
  have hlq := (hl.1 q hq).1
  have hls := (hl.1 s hs).1
  refine pk_eq (l p) (l s) (fun z1 => ⟨pk_in q 6 (by omega), pk_in s 6 (by omega), pk_eq (l q) (l s) (fun z2 => ?_) (fun z2 => no (fun h => z2 ((nc_PLc hl hq hs).mpr h.2)) _ _ _ _ _) (e2 q hq) (e2 s hs)⟩)
    (fun z1 => no (fun h => z1 ((nc_PLc hl hp hs).mpr h.1)) _ _ _ _ _) (e2 p hp) (e2 s hs)
  refine ⟨pk_in (6 * p + q) 36 (by omega) (nc_ix6 p q), pk_in p 6 (by omega), pk_in q 6 (by omega), nm_r (e' := nc_l (w p q * (nc_t n w s d p - nc_t n w s d q))) ?_ ?_⟩
  · rw [nc_ix6, nI_clamp (show 6 * p + q < 2 ^ 31 by omega), nc_M64 hG hM (by omega) (by omega), h5 p hp, h5 q hq, nc_ls, nc_lm]
  · exact nc_sH hS.1 (nc_Fb hG hS.2.2.1 p q) (nc_BB36 hS.2.1) (H _ a2' a3' a4' a5')
end
end
section
section
variable {n : Nat} {w : Nat → Nat → Int} {xn sc dr : Int32} {bo tn bn : Int64} {a1 a2 : Nat → Int32} {a3 : Nat → Int64} {a4 : Nat → Int32} {a5 : Nat → Int64}
theorem nc_f53 {post : Int32 → St2 → Prop} {J : Int64 → Int64 → Int32 → Int32 → Int32 → Int32 → Int64 → Int64 → Int64 → (Nat → Int32) → (Nat → Int32) → (Nat → Int64) → (Nat → Int32) → (Nat → Int64) → Prop} {x1 x2 x11 : Int32} {x3 x5 : Int64} {X U : Int} {Y V : Nat}
    (hY : 0 < Y) (hV : 0 < V) (bY : Y ≤ 2 ^ 36) (bV : V ≤ 2 ^ 36)
    (H : J (nc_l (X * ((V / Nat.gcd Y V : Nat) : Int) + U * ((Y / Nat.gcd Y V : Nat) : Int))) (lN (Y / Nat.gcd Y V * V)) (x11 + 1) xn sc dr bo tn bn a1 a2 a3 a4 a5) :
    ∃ fu, wL_flows_53 post J x1 x2 x3 x5 (nc_l X) (lN Y) x11 (nc_l U) (lN V) xn sc dr bo tn bn a1 a2 a3 a4 a5 fu (lN V) (lN Y) 0 := by
  have gpos : 0 < Nat.gcd Y V := Nat.gcd_pos_of_pos_left V hY
  have gle : Nat.gcd Y V ≤ Y := Nat.gcd_le_left V hY
  refine pk_loop (fun f k (s : Nat × Nat) => wL_flows_53 post J x1 x2 x3 x5 (nc_l X) (lN Y) x11 (nc_l U) (lN V) xn sc dr bo tn bn a1 a2 a3 a4 a5 f (lN s.2) (lN s.1) (nI k))
    (fun k s => nc_E 90 k s.1 s.2 (Nat.gcd Y V) ∧ s.1 < 2 ^ 63 ∧ s.2 < 2 ^ 63) 90 0 (Y, V) (by omega) ⟨?_, ?_, ?_⟩ ?_ ?_
  · refine nc_E0 (show 0 < V from hV) ?_
    exact Nat.lt_of_le_of_lt (Nat.mul_le_mul bY bV) (by decide)
  · show Y < 2 ^ 63; omega
  · show V < 2 ^ 63; omega
  · intro f s hI
    obtain ⟨x, y⟩ := s
    obtain ⟨hE, hx, hy⟩ := hI
    have ex : x = 0 := nc_EN (by omega) hE
    subst ex
    have ey : y = Nat.gcd Y V := nc_Eg hE
    subst ey
    have n0 : ¬ lN (Nat.gcd Y V) = 0 := fun z => by
      have := (pk_lEQ (b := 0) (by omega) (by omega)).mp z
      omega
    refine pk_le 90 90 (fun _ => ⟨n0, n0, nm_r (e' := nc_l (X * ((V / Nat.gcd Y V : Nat) : Int) + U * ((Y / Nat.gcd Y V : Nat) : Int))) ?_ ⟨n0, nm_r (e' := lN (Y / Nat.gcd Y V * V)) ?_ (nm_e H)⟩⟩) (fun z => absurd z (by omega))
    · show nc_l X * (lN V / lN (Nat.gcd Y V)) + nc_l U * (lN Y / lN (Nat.gcd Y V)) = _
      rw [pk_lDiv (by omega) gpos (by omega), pk_lDiv (by omega) gpos (by omega), ← nc_lN, ← nc_lN, nc_lm, nc_lm, nc_la]
    · show lN Y / lN (Nat.gcd Y V) * lN V = _
      rw [pk_lDiv (by omega) gpos (by omega), lN_mul]
  · intro f k s hk hI hw
    obtain ⟨x, y⟩ := s
    obtain ⟨hE, hx, hy⟩ := hI
    refine pk_le 90 k (fun z => absurd z (by omega)) (fun _ => ?_)
    rcases Nat.eq_zero_or_pos x with c | c
    · subst c
      refine br_t rfl (br_t rfl (nm_r (nI_1 k) (hw (0, y) ⟨nc_Ez0 hE, hx, hy⟩)))
    · have n0 : ¬ lN x = 0 := fun z => by
        have := (pk_lEQ (b := 0) hx (by omega)).mp z
        omega
      have hmod : y % x < x := Nat.mod_lt _ c
      have hx' : x < 2 ^ 63 := hx
      have e : lN y - lN y / lN x * lN x = lN (y % x) := pk_lRem hy c hx
      have h := hw (y % x, x) ⟨nc_Es hk c hE, by show y % x < 2 ^ 63; omega, hx⟩
      refine br_f n0 ⟨n0, br_f n0 (nm_r (nI_1 k) ?_)⟩
      show wL_flows_53 post J x1 x2 x3 x5 (nc_l X) (lN Y) x11 (nc_l U) (lN V) xn sc dr bo tn bn a1 a2 a3 a4 a5 f (lN x) (lN y - lN y / lN x * lN x) (nI (k + 1))
      rw [e]
      exact h
/-- the flows out of a point together: the check holds -/
theorem nc_fS {post : Int32 → St2 → Prop} (hG : nc_G n w) (hM : nc_M w a1) {s d r : Nat} (hs : s < n) (hd : d < n) (hsd : s ≠ d) (hc : nc_Conn w s d) (hr : r < n) {tp be : Int}
    (hb : nc_La w (nc_t n w s d) r * be = tp * nc_b n w s d)
    (H : ∀ bo' tn' bn' a2' a3' a4' a5', post 1 (nI n, nI s, nI d, bo', tn', bn', a1, a2', a3', a4', a5')) :
    wpL_flows post (nI n, nI s, nI d, bo, tn, bn, a1, a2, a3, a4, a5) (nI n) (nI r) (nc_l tp) (nc_l be) := by
  have h6 := hG.2.1
  have hS := nc_solved hG hs hd hsd
  have hbp := hS.1
  have hbb := hS.2.1
  have hBB : nc_BB ≤ 2 ^ 36 := by decide
  unfold wpL_flows
  refine pk_loop (fun f q (σ : Int × Nat × Int64 × Int64 × Int64 × (Nat → Int32) × (Nat → Int64) × (Nat → Int32) × (Nat → Int64)) => wL_flows_9 post (nI n) (nI r) (nc_l tp) (nc_l be) f (nc_l σ.1) (lN σ.2.1) (nI q) (nI n) (nI s) (nI d) σ.2.2.1 σ.2.2.2.1 σ.2.2.2.2.1 a1 σ.2.2.2.2.2.1 σ.2.2.2.2.2.2.1 σ.2.2.2.2.2.2.2.1 σ.2.2.2.2.2.2.2.2)
    (fun q σ => 0 < σ.2.1 ∧ σ.2.1 ∣ (nc_b n w s d).natAbs ∧ σ.1 * nc_b n w s d = σ.2.1 * nc_sm (fun q => w r q * (nc_t n w s d r - nc_t n w s d q)) q) n 0 (0, 1, bo, tn, bn, a2, a3, a4, a5) (by omega)
    ⟨Nat.one_pos, Nat.one_dvd _, by show (0 : Int) * _ = _ * 0; omega⟩ ?_ ?_
  · intro f σ hI
    obtain ⟨X, Y, bo', tn', bn', a2', a3', a4', a5'⟩ := σ
    obtain ⟨hY, hd1, hX⟩ := hI
    refine pk_le n n (fun _ => ?_) (fun z => absurd z (by omega))
    refine br_t ?_ (H bo' tn' bn' a2' a3' a4' a5')
    show nc_l X * nc_l be = nc_l tp * lN Y
    rw [← nc_lN, nc_lm, nc_lm]
    have e : nc_sm (fun q => w r q * (nc_t n w s d r - nc_t n w s d q)) n = nc_La w (nc_t n w s d) r := (nc_smN hG r _).symm
    have hX' : X * nc_b n w s d = (Y : Int) * nc_La w (nc_t n w s d) r := by rw [← e]; exact hX
    have : nc_b n w s d * (X * be) = nc_b n w s d * (tp * (Y : Int)) := by grind
    rw [Int.eq_of_mul_eq_mul_left (by omega) this]
  · intro f q σ hq hI hw
    obtain ⟨X, Y, bo', tn', bn', a2', a3', a4', a5'⟩ := σ
    obtain ⟨hY, hd1, hX⟩ := hI
    have hd1' : Y ∣ (nc_b n w s d).natAbs := hd1
    have hY' : 0 < Y := hY
    have hX' : X * nc_b n w s d = (Y : Int) * nc_sm (fun q => w r q * (nc_t n w s d r - nc_t n w s d q)) q := hX
    refine pk_le n q (fun z => absurd z (by omega)) (fun _ => ?_)
    unfold wpX_flowTop
    refine nc_fL hG hM hs hd hsd hc hr hq (fun bo1 b2 b3 b4 b5 => ?_)
    unfold wpX_flowBottom
    refine nc_fL hG hM hs hd hsd hc hr hq (fun bo2 c2 c3 c4 c5 => ?_)
    obtain ⟨f0, f1, f2, f3, f4, f5⟩ := nc_frac (a := w r q * (nc_t n w s d r - nc_t n w s d q)) hbp
    have fa := nc_ft_abs (a := w r q * (nc_t n w s d r - nc_t n w s d q)) hbp
    have hF : nc_sm (fun q => w r q * (nc_t n w s d r - nc_t n w s d q)) (q + 1) = nc_sm (fun q => w r q * (nc_t n w s d r - nc_t n w s d q)) q + w r q * (nc_t n w s d r - nc_t n w s d q) := rfl
    have f3' : 0 < nc_fb (w r q * (nc_t n w s d r - nc_t n w s d q)) (nc_b n w s d) := f3
    have f4' : nc_fb (w r q * (nc_t n w s d r - nc_t n w s d q)) (nc_b n w s d) ∣ nc_b n w s d := f4
    have f5' : nc_ft (w r q * (nc_t n w s d r - nc_t n w s d q)) (nc_b n w s d) * nc_b n w s d = nc_fb (w r q * (nc_t n w s d r - nc_t n w s d q)) (nc_b n w s d) * (w r q * (nc_t n w s d r - nc_t n w s d q)) := f5
    generalize nc_sm (fun q => w r q * (nc_t n w s d r - nc_t n w s d q)) q = sg at *
    generalize w r q * (nc_t n w s d r - nc_t n w s d q) = F at *
    generalize nc_ft F (nc_b n w s d) = U at *
    generalize nc_fb F (nc_b n w s d) = V at *
    generalize nc_b n w s d = b at *
    obtain ⟨v, rfl⟩ : ∃ v : Nat, V = v := ⟨V.toNat, by omega⟩
    have hv : 0 < v := by omega
    have dv : v ∣ b.natAbs := by
      have := Int.natAbs_dvd_natAbs.mpr f4'
      rwa [Int.natAbs_natCast] at this
    have bv := Nat.le_of_dvd (by omega) dv
    have bY := Nat.le_of_dvd (by omega) hd1'
    rw [nc_lN v]
    refine br_t ((pk_lLE (a := 1) (by omega) (by omega)).mpr hv) ?_
    refine nc_f53 (Y := Y) (V := v) hY' hv (show Y ≤ 2 ^ 36 by omega) (show v ≤ 2 ^ 36 by omega) ?_
    rw [nI_1]
    refine hw (_, Y / Nat.gcd Y v * v, bo2, _, _, c2, c3, c4, c5) ⟨?_, nc_lcm hd1' dv, ?_⟩
    · show 0 < Y / Nat.gcd Y v * v
      exact Nat.mul_pos (Nat.div_pos (Nat.gcd_le_left v hY') (Nat.gcd_pos_of_pos_left v hY')) hv
    · show (X * ((v / Nat.gcd Y v : Nat) : Int) + U * ((Y / Nat.gcd Y v : Nat) : Int)) * b = ((Y / Nat.gcd Y v * v : Nat) : Int) * nc_sm (fun q => w r q * (nc_t n w s d r - nc_t n w s d q)) (q + 1)
      rw [hF]
      have e1 : Nat.gcd Y v * (Y / Nat.gcd Y v) = Y := Nat.mul_div_cancel' (Nat.gcd_dvd_left Y v)
      have e2 : Nat.gcd Y v * (v / Nat.gcd Y v) = v := Nat.mul_div_cancel' (Nat.gcd_dvd_right Y v)
      generalize Nat.gcd Y v = g at *
      generalize Y / g = y' at *
      generalize v / g = v' at *
      subst e1 e2
      rw [Int.natCast_mul] at hX' f5'
      rw [Int.natCast_mul, Int.natCast_mul]
      grind
end
end
section
/-- an edge set -/
def nc_put (w : Nat → Nat → Int) (p q : Nat) (v : Int) : Nat → Nat → Int := fun a b => if (a = p ∧ b = q) ∨ (a = q ∧ b = p) then v else w a b
theorem nc_putG {n : Nat} {w : Nat → Nat → Int} (hG : nc_G n w) {p q : Nat} (hp : p < n) (hq : q < n) (hpq : p ≠ q) {v : Int} (h0 : 0 ≤ v) (h9 : v ≤ 9) : nc_G n (nc_put w p q v) := by
  obtain ⟨h2, h6, hw, hs, hd, hz⟩ := hG
  refine ⟨h2, h6, fun a b => ?_, fun a b => ?_, fun a => ?_, fun a b ha => ?_⟩
  · unfold nc_put
    split
    · exact ⟨h0, h9⟩
    · exact hw a b
  · unfold nc_put
    by_cases c : (a = p ∧ b = q) ∨ (a = q ∧ b = p)
    · rw [if_pos c, if_pos (by omega)]
    · rw [if_neg c, if_neg (by omega), hs a b]
  · unfold nc_put
    rw [if_neg (by omega), hd a]
  · unfold nc_put
    rw [if_neg (by omega), hz a b ha]
theorem nc_pp {w : Nat → Nat → Int} (hs : ∀ p q, w p q = w q p) (p q : Nat) (u : Int) : nc_put (nc_put w p q u) p q (w p q) = w := by
  funext a b
  unfold nc_put
  by_cases c : (a = p ∧ b = q) ∨ (a = q ∧ b = p)
  · rw [if_pos c]
    rcases c with c | c
    · rw [c.1, c.2]
    · rw [c.1, c.2, hs p q]
  · rw [if_neg c, if_neg c]
theorem nc_putC {w : Nat → Nat → Int} {p q a b : Nat} (h : nc_Conn (nc_put w p q 0) a b) : nc_Conn w a b := by
  intro f hf
  refine h f (fun x y hxy => hf x y ?_)
  unfold nc_put at hxy
  split at hxy
  · exact absurd hxy (by decide)
  · exact hxy
/-- the resistance -/
noncomputable def nc_RX (n : Nat) (w : Nat → Nat → Int) (p q : Nat) : Int := if p = q then 0 else nc_ft (nc_b n w p q) (nc_La w (nc_t n w p q) p)
noncomputable def nc_RY (n : Nat) (w : Nat → Nat → Int) (p q : Nat) : Int := if p = q then 1 else nc_fb (nc_b n w p q) (nc_La w (nc_t n w p q) p)
theorem nc_Rok {n : Nat} {w : Nat → Nat → Int} (hG : nc_G n w) (hC : nc_CN n w) {p q : Nat} (hp : p < n) (hq : q < n) :
    0 ≤ nc_RX n w p q ∧ 1 ≤ nc_RY n w p q ∧ nc_RY n w p q ∣ nc_TR n w ∧ (nc_RX n w p q).natAbs < 2 ^ 63 ∧ (nc_RY n w p q).natAbs < 2 ^ 63 := by
  unfold nc_RX nc_RY
  by_cases c : p = q
  · rw [if_pos c, if_pos c]
    exact ⟨Int.le_refl 0, Int.le_refl 1, Int.one_dvd _, by decide, by decide⟩
  · rw [if_neg c, if_neg c]
    have hS := nc_solved hG hp hq c
    obtain ⟨r1, z, r2⟩ := nc_res hG hC hp hq c hS
    have fa := nc_ft_abs (a := nc_b n w p q) r1
    obtain ⟨f0, f1, f2, f3, f4, f5⟩ := nc_frac (a := nc_b n w p q) r1
    have b1 := nc_BB36 hS.2.1
    have b2 := nc_Lab hG hS.2.2.1 p
    refine ⟨?_, f3, nc_low r1 r2, by omega, by omega⟩
    exact Int.ediv_nonneg (by have := hS.1; omega) (by omega)
section
variable {n : Nat} {w : Nat → Nat → Int} {xn sc dr : Int32} {bo tn bn : Int64} {a1 a2 : Nat → Int32} {a3 : Nat → Int64} {a4 : Nat → Int32} {a5 : Nat → Int64}
theorem nc_rE {post : Int32 → St2 → Prop} (hG : nc_G n w) (hM : nc_M w a1) (hC : nc_CN n w) {p q : Nat} (hp : p < n) (hq : q < n)
    (H : ∀ bo' a2' a3' a4' a5', post 0 (nI n, sc, dr, bo', nc_l (nc_RX n w p q), nc_l (nc_RY n w p q), a1, a2', a3', a4', a5')) :
    wpX_resistance post (nI n, sc, dr, bo, tn, bn, a1, a2, a3, a4, a5) (nI p) (nI q) := by
  have h6 := hG.2.1
  unfold wpX_resistance
  refine nc_iP h6 hp (br_f (by decide) (nc_iP h6 hq (br_f (by decide) (pk_eq p q (fun c => ?_) (fun c => ?_)))))
  · unfold nc_RX nc_RY at H
    rw [if_pos c, if_pos c] at H
    exact H bo a2 a3 a4 a5
  · unfold nc_RX nc_RY at H
    rw [if_neg c, if_neg c] at H
    have hS := nc_solved hG hp hq c
    obtain ⟨r1, _⟩ := nc_res hG hC hp hq c hS
    refine nc_sV hG hM hp hq c (fun z => absurd (nc_Ct (hC p hp) (nc_Cs (hC q hq))) z) (fun _ a2' l a3' a4' a5' hl e2 h5 => br_f (by decide) ?_)
    refine nc_cF hG hM (show p < 6 by omega) h5 ?_
    have e : nc_sm (fun v => w p v * (nc_b n w p q - nc_t n w p q v)) 6 = nc_La w (nc_t n w p q) p := by
      unfold nc_La
      rw [hS.2.2.2.1]
    rw [e]
    exact nc_sH r1 (nc_BB36 hS.2.1) (nc_Lab hG hS.2.2.1 p) (H _ a2' a3' a4' a5')
theorem nc_sT {post : St2 → Prop} (hn : n ≤ 6) (hM : nc_M w a1) {p q : Nat} (hp : p < n) (hq : q < n) (hpq : p ≠ q) {v : Int}
    (H : ∀ a1', nc_M (nc_put w p q v) a1' → post (xn, sc, dr, bo, tn, bn, a1', a2, a3, a4, a5)) :
    wpX_set post (xn, sc, dr, bo, tn, bn, a1, a2, a3, a4, a5) (nI p) (nI q) (nI v.toNat) := by
  refine pk_eq p q (fun z => absurd z hpq) (fun _ => ⟨pk_in (6 * p + q) 36 (by omega) (nc_ix6 p q), nm_e ⟨pk_in (6 * q + p) 36 (by omega) (nc_ix6 q p), nm_e (H _ (fun a b ha hb => ?_))⟩⟩)
  rw [nc_ix6, nc_ix6, nI_clamp (show 6 * p + q < 2 ^ 31 by omega), nI_clamp (show 6 * q + p < 2 ^ 31 by omega)]
  unfold nc_put
  by_cases c1 : a = q ∧ b = p
  · rw [c1.1, c1.2, pk_us, if_pos (Or.inr ⟨rfl, rfl⟩)]
  · rw [pk_un (by omega)]
    by_cases c2 : a = p ∧ b = q
    · rw [c2.1, c2.2, pk_us, if_pos (Or.inl ⟨rfl, rfl⟩)]
    · rw [pk_un (by omega), if_neg (by omega)]
      exact hM a b ha hb
theorem nc_jN {post : Int32 → St2 → Prop} (hG : nc_G n w) (hM : nc_M w a1) {p q : Nat} (hp : p < n) (hq : q < n) {v : Int} (h0 : 0 ≤ v) (h9 : v ≤ 9)
    (He : p = q → ∀ r, post r (nI n, sc, dr, bo, tn, bn, a1, a2, a3, a4, a5))
    (H : p ≠ q → ∀ r a1', nc_M (nc_put w p q v) a1' → post r (nI n, sc, dr, bo, tn, bn, a1', a2, a3, a4, a5)) :
    wpX_join post (nI n, sc, dr, bo, tn, bn, a1, a2, a3, a4, a5) (nI p) (nI q) (nI v.toNat) := by
  have h6 := hG.2.1
  unfold wpX_join
  refine nc_iP h6 hp (br_f (by decide) (nc_iP h6 hq (br_f (by decide) (pk_eq p q (fun c => He c _) (fun c => br_f (nI_pos (by omega)) (pk_le v.toNat 9 (fun _ => ⟨pk_in (6 * p + q) 36 (by omega) (nc_ix6 p q), nm_e ?_⟩) (fun z => absurd z (by omega))))))))
  exact nc_sT h6 hM hp hq c (fun a1' h1 => H c _ a1' h1)
theorem nc_cD {post : Int32 → Prop} (hG : nc_G n w) (hM : nc_M w a1) {p q : Nat} (hp : p < n) (hq : q < n) (H : post (nI (w p q).toNat)) :
    wpX_conductance post (nI n, sc, dr, bo, tn, bn, a1, a2, a3, a4, a5) (nI p) (nI q) := by
  have h6 := hG.2.1
  unfold wpX_conductance
  refine nc_iP h6 hp (br_f (by decide) (nc_iP h6 hq (br_f (by decide) ⟨pk_in (6 * p + q) 36 (by omega) (nc_ix6 p q), ?_⟩)))
  rw [nc_ix6, nI_clamp (show 6 * p + q < 2 ^ 31 by omega), hM p q (by omega) (by omega)]
  exact H
theorem nc_tW {post : Int64 → St2 → Prop} (hG : nc_G n w) (hM : nc_M w a1) {p q : Nat} (hp : p < n) (hq : q < n) (hpq : p ≠ q)
    (H : ∀ a1' a3', nc_M w a1' → post (nc_l (nc_TR n w) - nc_l (nc_TR n (nc_put w p q 0))) (nI n, sc, dr, bo, tn, bn, a1', a2, a3', a4, a5)) :
    wpX_treesWith post (nI n, sc, dr, bo, tn, bn, a1, a2, a3, a4, a5) (nI p) (nI q) := by
  have h6 := hG.2.1
  unfold wpX_treesWith
  refine nc_iP h6 hp (br_f (by decide) (nc_iP h6 hq (br_f (by decide) (pk_eq p q (fun c => absurd c hpq) (fun _ => ?_)))))
  refine nc_tP hG hM (fun a3' => ⟨pk_in (6 * p + q) 36 (by omega) (nc_ix6 p q), nm_r (e' := nI (w p q).toNat) ?_ ?_⟩)
  · rw [nc_ix6, nI_clamp (show 6 * p + q < 2 ^ 31 by omega), hM p q (by omega) (by omega)]
  · refine nc_sT (v := 0) h6 hM hp hq hpq (fun a1' h1 => ?_)
    refine nc_tP (nc_putG hG hp hq hpq (by omega) (by omega)) h1 (fun a3'' => ?_)
    refine nc_sT (v := w p q) h6 h1 hp hq hpq (fun a1'' h2 => ?_)
    rw [nc_pp hG.2.2.2.1] at h2
    exact H a1'' a3'' h2
theorem nc_pR {post : Int32 → St2 → Prop} (hn : n ≤ 6) {p q : Nat} (hp : p < n) (hq : q < n)
    (H0 : p ≠ q → post 0 (nI n, nI p, nI q, bo, tn, bn, a1, a2, a3, a4, a5)) (H1 : p = q → post (-2) (nI n, sc, dr, bo, tn, bn, a1, a2, a3, a4, a5)) :
    wpX_probe post (nI n, sc, dr, bo, tn, bn, a1, a2, a3, a4, a5) (nI p) (nI q) := by
  unfold wpX_probe
  exact nc_iP hn hp (br_f (by decide) (nc_iP hn hq (br_f (by decide) (pk_eq p q (fun c => H1 c) (fun c => H0 c)))))
theorem nc_cH {post : Int32 → St2 → Prop} (hG : nc_G n w) (hM : nc_M w a1) {p cnt : Nat} (hp : p < n) (hc1 : 1 ≤ cnt) (hc6 : cnt ≤ 6) {v : Int} (h0 : 0 ≤ v) (h9 : v ≤ 9)
    (H : ∀ w' a1', nc_G n w' → nc_M w' a1' → post 0 (nI n, sc, dr, bo, tn, bn, a1', a2, a3, a4, a5)) :
    wpX_chain post (nI n, sc, dr, bo, tn, bn, a1, a2, a3, a4, a5) (nI p) (nI cnt) (nI v.toNat) := by
  have h6 := hG.2.1
  have h2 := hG.1
  unfold wpX_chain
  refine nc_iP h6 hp (br_f (by decide) (pk_lt cnt 1 (fun z => absurd z (by omega)) (fun _ => pk_le cnt 6 (fun _ => br_f (nI_pos (by omega)) (pk_le v.toNat 9 (fun _ => ?_) (fun z => absurd z (by omega)))) (fun z => absurd z (by omega)))))
  refine pk_loop (fun f k (s : Nat × (Nat → Int32)) => wX_chain_43 post (nI cnt) (nI v.toNat) f (nI s.1) (nI k) (nI n) sc dr bo tn bn s.2 a2 a3 a4 a5)
    (fun _ s => s.1 < n ∧ ∃ w', nc_G n w' ∧ nc_M w' s.2) cnt 0 (p, a1) (by omega) ⟨hp, w, hG, hM⟩ ?_ ?_
  · intro f s hI
    obtain ⟨_, w', hG', hM'⟩ := hI
    exact pk_le cnt cnt (fun _ => H w' s.2 hG' hM') (fun z => absurd z (by omega))
  · intro f k s hk hI hw
    obtain ⟨at', b1⟩ := s
    obtain ⟨ha, w', hG', hM'⟩ := hI
    have ha' : at' < n := ha
    refine pk_le cnt k (fun z => absurd z (by omega)) (fun _ => ?_)
    have e : nI at' + 1 = nI (at' + 1) := nI_1 at'
    refine pk_le n (at' + 1) (fun z => ?_) (fun z => ?_) rfl e
    · refine nc_sT (p := at') (q := 0) h6 hM' ha' (by omega) (by omega) (fun a1' h1 => nm_r (nI_1 k) (hw (0, a1') ⟨by show 0 < n; omega, _, nc_putG hG' ha' (by omega) (by omega) h0 h9, h1⟩))
    · show wX_chain_68 post _ (nI cnt) (nI v.toNat) (nI at') (nI k) (nI at' + 1) (nI n) sc dr bo tn bn b1 a2 a3 a4 a5
      rw [e]
      refine nc_sT (p := at') (q := at' + 1) h6 hM' ha' (by omega) (by omega) (fun a1' h1 => nm_r (nI_1 k) (hw (at' + 1, a1') ⟨by show at' + 1 < n; omega, _, nc_putG hG' ha' (by omega) (by omega) h0 h9, h1⟩))
end
end
section
theorem nc_TRb {n : Nat} {w : Nat → Nat → Int} (hG : nc_G n w) : (nc_TR n w).natAbs ≤ 2 ^ 35 := by
  have h6 := hG.2.1
  have h2 := hG.1
  have A45 : ∀ i j, i < 5 → j < 5 → (nc_AL w i j).natAbs ≤ 45 := fun i j _ _ => nc_AL45 hG i j
  unfold nc_TR
  split
  · obtain ⟨k, hk⟩ : ∃ k, n - 1 = k + 1 := ⟨n - 2, by omega⟩
    rw [hk, nc_Dsucc _ k (by omega)]
    exact nc_bJm A45 (by omega) (Nat.le_refl k) (by omega) (by omega)
  · exact Nat.zero_le _
/-- no current is lost -/
theorem nc_K0 {n : Nat} {w : Nat → Nat → Int} (hG : nc_G n w) {s d : Nat} {b : Int} {t : Nat → Int} (hS : nc_Sol n w s d b t) {r : Nat} (hr : r < n) (hrs : r ≠ s) (hrd : r ≠ d) : nc_La w t r = 0 := by
  by_cases c : nc_Conn w r s
  · exact hS.2.2.2.2.2.1 r hr hrs hrd c
  · refine nc_sm0 (fun v _ => ?_)
    by_cases hv : v < n
    · exact nc_F0 hG hS hr hv (fun z => c z.1)
    · show w r v * _ = 0
      rw [hG.2.2.2.1 r v, hG.2.2.2.2.2 v r (by omega), Int.zero_mul]
section
variable {n : Nat} {w : Nat → Nat → Int} {sc dr : Int32} {bo tn bn : Int64} {a1 a2 : Nat → Int32} {a3 : Nat → Int64} {a4 : Nat → Int32} {a5 : Nat → Int64}
theorem nc_h257 {post : Int32 → St2 → Prop} (hG : nc_G n w) (hM : nc_M w a1)
    (H : ∀ bo' tn' bn' a1' a2' a3' a4' a5', nc_M w a1' → post 1 (nI n, sc, dr, bo', tn', bn', a1', a2', a3', a4', a5')) :
    wL_holds_257 post (nc_l (nc_TR n w)) (nI n) sc dr bo tn bn a1 a2 a3 a4 a5 := by
  have T := nc_TRok hG
  have Tb := nc_TRb hG
  by_cases c : nc_TR n w = 0
  · have nC := T.2.1.mp c
    refine br_t ((nc_lz (by omega)).mpr c) ?_
    refine nc_cP hG hM (fun a2' m h1 h6 hm => pk_le m 1 (fun z => absurd (hm.mp (by omega)) nC) (fun _ => ?_))
    exact br_t rfl (H _ _ _ a1 a2' a3 a4 a5 hM)
  · have C : nc_CN n w := Classical.byContradiction (fun z => c (T.2.1.mpr z))
    refine br_f (fun z => c ((nc_lz (by omega)).mp z)) ?_
    refine nc_cP hG hM (fun a2' m h1 h6 hm => pk_le m 1 (fun _ => ?_) (fun z => absurd (hm.mpr C) (by omega)))
    exact br_t rfl (H _ _ _ a1 a2' a3 a4 a5 hM)
theorem nc_h145 {post : Int32 → St2 → Prop} (hG : nc_G n w) (hM : nc_M w a1) {p q : Nat} (hp : p < n) (hq : q < n)
    (H : ∀ bo' tn' bn' a1' a2' a3' a4' a5', nc_M w a1' → post 1 (nI n, sc, dr, bo', tn', bn', a1', a2', a3', a4', a5')) :
    wL_holds_145 post (nI p) (nI q) (nc_l (nc_TR n w)) (nI n) sc dr bo tn bn a1 a2 a3 a4 a5 := by
  have h6 := hG.2.1
  have T := nc_TRok hG
  have Tb := nc_TRb hG
  have w9 := hG.2.2.1 p q
  refine pk_eq p q (fun _ => nc_h257 hG hM H) (fun hpq => ?_)
  have hG0 : nc_G n (nc_put w p q 0) := nc_putG hG hp hq hpq (by omega) (by omega)
  have T0 := nc_TRok hG0
  have Tb0 := nc_TRb hG0
  refine nc_cD hG hM hp hq (pk_le (w p q).toNat 0 (fun _ => nc_h257 hG hM H) (fun hc => ?_))
  refine nc_cP hG hM (fun b2 m m1 m6 hm => ?_)
  refine nc_cD hG hM hp hq ?_
  refine nc_jN (v := 0) hG hM hp hq (by omega) (by omega) (fun z => absurd z hpq) (fun _ r b1 hM1 => ?_)
  refine nc_cP hG0 hM1 (fun c2 m' m1' m6' hm' => ?_)
  have back : ∀ z0 : Int32, (∀ b1 b2 b3 b4 b5, nc_M w b1 → ((nc_l (nc_TR n w) - nc_l (nc_TR n (nc_put w p q 0)) = nc_l (nc_TR n w) → wL_holds_235 post (nc_l (nc_TR n w)) z0 1 (nI n) sc dr bo tn bn b1 b2 b3 b4 b5) ∧ (¬ nc_l (nc_TR n w) - nc_l (nc_TR n (nc_put w p q 0)) = nc_l (nc_TR n w) → wL_holds_235 post (nc_l (nc_TR n w)) z0 0 (nI n) sc dr bo tn bn b1 b2 b3 b4 b5))) →
      wL_holds_203 post (nI p) (nI q) (nc_l (nc_TR n w)) (nI (w p q).toNat) z0 (nI n) sc dr bo tn bn b1 c2 a3 a4 a5 := fun z0 h => by
    unfold wL_holds_203
    refine nc_jN (v := w p q) hG0 hM1 hp hq w9.1 w9.2 (fun z => absurd z hpq) (fun _ r d1 hM2 => ?_)
    rw [nc_pp hG.2.2.2.1] at hM2
    refine nc_tW hG hM2 hp hq hpq (fun e1 e3 hM3 => h _ _ _ _ _ hM3)
  have go : ∀ b1 b2 b3 b4 b5, nc_M w b1 → wL_holds_257 post (nc_l (nc_TR n w)) (nI n) sc dr bo tn bn b1 b2 b3 b4 b5 := fun b1 b2 b3 b4 b5 hb => nc_h257 hG hb H
  have zz : ∀ {x : Int}, x = 0 → nc_l (nc_TR n w) - nc_l x = nc_l (nc_TR n w) := fun {x} hx => by
    rw [hx, nc_ls, Int.sub_zero]
  have nz : nc_TR n (nc_put w p q 0) ≠ 0 → ¬ nc_l (nc_TR n w) - nc_l (nc_TR n (nc_put w p q 0)) = nc_l (nc_TR n w) := fun h z => by
    rw [nc_ls] at z
    have := (nc_lE (by omega) (by omega)).mp z
    omega
  have mono : nc_CN n (nc_put w p q 0) → nc_CN n w := fun h v hv => nc_putC (h v hv)
  by_cases c : nc_TR n w = 0
  · have t0 : nc_TR n (nc_put w p q 0) = 0 := T0.2.1.mpr (fun z => T.2.1.mp c (mono z))
    have fin : ∀ z0 : Int32, wL_holds_203 post (nI p) (nI q) (nc_l (nc_TR n w)) (nI (w p q).toNat) z0 (nI n) sc dr bo tn bn b1 c2 a3 a4 a5 := fun z0 =>
      back z0 (fun b1 b2 b3 b4 b5 hb => br_t (zz t0) (br_t ((nc_lz (by omega)).mpr c) (br_t rfl (go b1 b2 b3 b4 b5 hb))))
    exact pk_le m' m (fun _ => fin 0) (fun _ => fin 1)
  · have C : nc_CN n w := Classical.byContradiction (fun z => c (T.2.1.mpr z))
    have em : m = 1 := hm.mpr C
    refine pk_le m' m (fun z => ?_) (fun z => ?_)
    · have C0 : nc_CN n (nc_put w p q 0) := hm'.mp (by omega)
      have t0 : nc_TR n (nc_put w p q 0) ≠ 0 := fun e => T0.2.1.mp e C0
      exact back 0 (fun b1 b2 b3 b4 b5 hb => br_f (nz t0) (br_f (fun e => c ((nc_lz (by omega)).mp e)) (br_t rfl (br_t rfl (go b1 b2 b3 b4 b5 hb)))))
    · have t0 : nc_TR n (nc_put w p q 0) = 0 := T0.2.1.mpr (fun e => by have := hm'.mpr e; omega)
      exact back 1 (fun b1 b2 b3 b4 b5 hb => br_t (zz t0) (br_f (fun e => c ((nc_lz (by omega)).mp e)) (br_f (by decide) (br_t rfl (go b1 b2 b3 b4 b5 hb)))))
theorem nc_h84 {post : Int32 → St2 → Prop} (hG : nc_G n w) (hM : nc_M w a1) {p q : Nat} (hp : p < n) (hq : q < n)
    (H : ∀ bo' tn' bn' a1' a2' a3' a4' a5', nc_M w a1' → post 1 (nI n, sc, dr, bo', tn', bn', a1', a2', a3', a4', a5')) :
    wL_holds_84 post (nI p) (nI q) (nc_l (nc_TR n w)) (nI n) sc dr bo tn bn a1 a2 a3 a4 a5 := by
  have T := nc_TRok hG
  have Tb := nc_TRb hG
  refine nc_cP hG hM (fun b2 m m1 m6 hm => pk_eq m 1 (fun z => ?_) (fun _ => nc_h145 hG hM hp hq H))
  have C := hm.mp z
  have Tn : nc_TR n w ≠ 0 := fun e => T.2.1.mp e C
  obtain ⟨R1, R2, R3, R4, R5⟩ := nc_Rok hG C hp hq
  unfold wpX_resistanceTop
  refine nc_rE hG hM C hp hq (fun bo1 c2 c3 c4 c5 => br_t (by decide) ?_)
  unfold wpX_resistanceBottom
  refine nc_rE hG hM C hp hq (fun bo2 d2 d3 d4 d5 => br_t (by decide) ?_)
  refine br_f (fun e => ?_) (br_f (fun e => ?_) ⟨fun e => ?_, br_t ?_ (br_t ?_ (nc_h145 hG hM hp hq H))⟩)
  · have := (nc_lLT (b := 1) R5 (by decide)).mp e
    omega
  · have := (nc_lLT (b := 1) (by omega) (by decide)).mp e
    have := T.1
    omega
  · have := (nc_lz R5).mp e
    omega
  · obtain ⟨k, hk⟩ := R3
    rw [hk]
    rw [nc_lD (by omega) (by rw [← hk]; omega) R5, nc_lm, nc_ls, Int.mul_comm k, Int.sub_self]
    rfl
  · exact (nc_lLE (a := 0) (by decide) R4).mpr R1
/-- the law's check -/
theorem nc_hD {post : Int32 → St2 → Prop} (hG : nc_G n w) (hM : nc_M w a1) {s d p q : Nat} (hs : s < n) (hd : d < n) (hsd : s ≠ d) (hp : p < n) (hq : q < n)
    (H : ∀ bo' tn' bn' a1' a2' a3' a4' a5', nc_M w a1' → post 1 (nI n, nI s, nI d, bo', tn', bn', a1', a2', a3', a4', a5')) :
    wpL_holds post (nI n, nI s, nI d, bo, tn, bn, a1, a2, a3, a4, a5) (nI n) (nI s) (nI d) (nI p) (nI q) := by
  have h6 := hG.2.1
  have hS := nc_solved hG hs hd hsd
  unfold wpL_holds wpX_trees
  refine nc_tP hG hM (fun b3 => ?_)
  refine nc_jD hG hM hs hd (fun hc b2 => br_t rfl ?_) (fun _ b2 => br_f (by decide) (nc_h84 hG hM hp hq H))
  unfold wpX_currentTop
  refine nc_cU hG hM hs hd hsd hc (fun c2 c3 c4 c5 => ?_)
  unfold wpX_currentBottom
  refine nc_cU hG hM hs hd hsd hc (fun d2 d3 d4 d5 => ?_)
  refine nc_fS hG hM hs hd hsd hc hs ?_ (fun bo1 tn1 bn1 e2 e3 e4 e5 => br_f (by decide) ?_)
  · have := (nc_frac (a := nc_La w (nc_t n w s d) s) hS.1).2.2.2.2.2
    show _ * nc_fb _ _ = nc_ft _ _ * _
    unfold nc_ft nc_fb
    rw [this, Int.mul_comm]
  · refine pk_loop (fun f r (σ : Int64 × Int64 × Int64 × (Nat → Int32) × (Nat → Int64) × (Nat → Int32) × (Nat → Int64)) => wL_holds_46 post (nI n) (nI s) (nI d) (nI p) (nI q) (nc_l (nc_TR n w)) f (nI r) (nI n) (nI s) (nI d) σ.1 σ.2.1 σ.2.2.1 a1 σ.2.2.2.1 σ.2.2.2.2.1 σ.2.2.2.2.2.1 σ.2.2.2.2.2.2)
      (fun _ _ => True) n 0 (bo1, tn1, bn1, e2, e3, e4, e5) (by omega) trivial ?_ ?_
    · intro f σ _
      exact pk_le n n (fun _ => nc_h84 hG hM hp hq H) (fun z => absurd z (by omega))
    · intro f r σ hr _ hw
      obtain ⟨bo2, tn2, bn2, g2, g3, g4, g5⟩ := σ
      refine pk_le n r (fun z => absurd z (by omega)) (fun _ => pk_eq r s (fun _ => nm_r (nI_1 r) (hw (bo2, tn2, bn2, g2, g3, g4, g5) trivial)) (fun hrs => pk_eq r d (fun _ => nm_r (nI_1 r) (hw (bo2, tn2, bn2, g2, g3, g4, g5) trivial)) (fun hrd => ?_)))
      refine nc_fS (tp := 0) (be := 1) hG hM hs hd hsd hc hr ?_ (fun bo3 tn3 bn3 k2 k3 k4 k5 => br_f (by decide) (nm_r (nI_1 r) (hw (bo3, tn3, bn3, k2, k3, k4, k5) trivial)))
      rw [nc_K0 hG hS hr hrs hrd]
      omega
end
end
section
theorem nc_ce {post : Int32 → Prop} {L : Nat} {xs : Nat → Int32} (k : Nat) {x : Int32} (hx : x = nI k) (hL : L < 2 ^ 31) (hk : k < 2 ^ 31) (H : ∀ r, post r) : wpL_cell post L xs () x := by
  subst hx
  exact pk_le L k (fun _ => H 0) (fun h => ⟨pk_in k L h, H _⟩)
theorem nc_md (x : Int32) {n : Nat} (hn : 0 < n) (hn2 : n < 2 ^ 31) {m : Int32} (k : Nat) (hm : m.toBitVec.toNat = 2 ^ k - 1) (hk : k ≤ 31) : ∃ j, j < n ∧ (x &&& m) - (x &&& m) / nI n * nI n = nI j := by
  obtain ⟨j, hj, e⟩ := pk_andE x k hm
  have h2 : 2 ^ k ≤ 2 ^ 31 := Nat.pow_le_pow_right (by omega) hk
  exact ⟨j % n, Nat.mod_lt _ hn, by rw [e, pk_rem (by omega) hn hn2]⟩
section
variable {n : Nat} {w : Nat → Nat → Int} {bo tn bn : Int64} {a1 a2 : Nat → Int32} {a3 : Nat → Int64} {a4 : Nat → Int32} {a5 : Nat → Int64}
theorem nc_l167 {post : Int32 → Prop} {L : Nat} {xs : Nat → Int32} {J : Int32 → Int32 → Int32 → Int32 → Int32 → Int32 → Int64 → Int64 → Int64 → (Nat → Int32) → (Nat → Int32) → (Nat → Int64) → (Nat → Int32) → (Nat → Int64) → Prop}
    {x6 x7 : Int32} {kc ks k : Nat} (hG : nc_G n w) (hM : nc_M w a1) {s d : Nat} (hs : s < n) (hd : d < n) (hsd : s ≠ d)
    (H : ∀ bo' tn' bn' a1' a2' a3' a4' a5', nc_M w a1' → J (nI s) (nI d) (nI (k + 2)) (nI n) (nI s) (nI d) bo' tn' bn' a1' a2' a3' a4' a5') :
    wL_law_167 post L xs J (nI n) (nI s) (nI d) (nI k) x6 x7 kc ks (nI n) (nI s) (nI d) bo tn bn a1 a2 a3 a4 a5 := by
  have h2 := hG.1
  have h6 := hG.2.1
  have n0 : ¬ nI n = 0 := nI_ne0 (by omega) (by omega)
  obtain ⟨p, hp, ep⟩ := nc_md (x7 >>> ((7 : Int32) &&& 31)) (n := n) (m := 7) (by omega) (by omega) 3 (by decide) (by omega)
  obtain ⟨q, hq, eq⟩ := nc_md (x7 >>> ((10 : Int32) &&& 31)) (n := n) (m := 7) (by omega) (by omega) 3 (by decide) (by omega)
  unfold wL_law_167
  rw [ep, eq]
  refine br_c (fun _ => ⟨n0, n0, ?_⟩) (fun _ => nm_r (nI_add k 2) (H _ _ _ _ _ _ _ _ hM))
  exact nc_hD hG hM hs hd hsd hp hq (fun bo' tn' bn' a1' a2' a3' a4' a5' h => br_f (by decide) (nm_r (nI_add k 2) (H _ _ _ _ _ _ _ _ h)))
end
theorem i_vc (xs : Nat → Int32) (L : Nat) (hL : L ≤ 260) : wpL_law (fun r => r = 1) L xs := by
  unfold wpL_law
  refine nc_ce 0 rfl (by omega) (by omega) (fun r => ⟨by decide, ?_⟩)
  obtain ⟨j, hj, ej⟩ := nc_md r (n := 5) (m := 2147483647) (by omega) (by omega) 31 (by decide) (by omega)
  have e1 : (2 : Int32) + ((r &&& 2147483647) - (r &&& 2147483647) / 5 * 5) = nI (2 + j) := by
    have : (r &&& 2147483647) - (r &&& 2147483647) / 5 * 5 = nI j := ej
    rw [this]
    exact nI_add 2 j
  refine nm_r e1 ⟨5, 96, by omega, by omega, ?_⟩
  generalize hn : 2 + j = n
  have h2 : 2 ≤ n := by omega
  have h6 : n ≤ 6 := by omega
  have n0 : ¬ nI n = 0 := nI_ne0 (by omega) (by omega)
  refine ⟨by omega, by omega, by omega, by omega, by omega, by omega, by omega, by omega, by omega, by omega, pk_le 2 n (fun _ => ?_) (fun z => absurd z (by omega))⟩
  refine pk_le n 6 (fun _ => ?_) (fun z => absurd z (by omega))
  have G0 : nc_G n (fun _ _ => 0) := ⟨h2, h6, fun _ _ => ⟨by show (0 : Int) ≤ 0; decide, by show (0 : Int) ≤ 9; decide⟩, fun _ _ => rfl, fun _ => rfl, fun _ _ _ => rfl⟩
  have M0 : nc_M (fun _ _ => 0) (fun _ => 0) := fun _ _ _ _ => rfl
  refine pk_loop (fun f i (σ : Nat × Nat × Int64 × Int64 × Int64 × (Nat → Int32) × (Nat → Int32) × (Nat → Int64) × (Nat → Int32) × (Nat → Int64)) => wL_law_30 (fun r => r = 1) L xs (nI n) (1 + 5) (11 + 96) f (nI σ.1) (nI σ.2.1) (nI (1 + 2 * i)) (nI n) (nI σ.1) (nI σ.2.1) σ.2.2.1 σ.2.2.2.1 σ.2.2.2.2.1 σ.2.2.2.2.2.1 σ.2.2.2.2.2.2.1 σ.2.2.2.2.2.2.2.1 σ.2.2.2.2.2.2.2.2.1 σ.2.2.2.2.2.2.2.2.2)
    (fun _ σ => σ.1 < n ∧ σ.2.1 < n ∧ σ.1 ≠ σ.2.1 ∧ ∃ w, nc_G n w ∧ nc_M w σ.2.2.2.2.2.1) (L / 2) 0 (0, 1, 0, 0, 0, (fun _ => 0), (fun _ => 0), (fun _ => 0), (fun _ => 0), (fun _ => 0)) (by omega)
    ⟨by show 0 < n; omega, by show 1 < n; omega, by show 0 ≠ 1; omega, _, G0, M0⟩ ?_ ?_
  · intro f σ hI
    obtain ⟨s, d, bo, tn, bn, a1, a2, a3, a4, a5⟩ := σ
    obtain ⟨hs, hd, hsd, w, hG, hM⟩ := hI
    refine pk_le L (1 + 2 * (L / 2)) (fun _ => ?_) (fun z => absurd z (by omega))
    have e : nI n - 1 = nI (n - 1) := pk_sub (a := n) (b := 1) (by omega)
    rw [e]
    exact nc_hD (p := 0) hG hM hs hd hsd (by omega) (by omega) (fun _ _ _ _ _ _ _ _ _ => rfl)
  · intro f i σ hi hI hw
    obtain ⟨s, d, bo, tn, bn, a1, a2, a3, a4, a5⟩ := σ
    obtain ⟨hs, hd, hsd, w, hG, hM⟩ := hI
    have hs' : s < n := hs
    have hd' : d < n := hd
    have hsd' : s ≠ d := hsd
    have hM' : nc_M w a1 := hM
    refine pk_le L (1 + 2 * i) (fun z => absurd z (by omega)) (fun _ => ?_)
    refine nc_ce (1 + 2 * i) rfl (by omega) (by omega) (fun c => ?_)
    refine nc_ce (1 + 2 * i + 1) (nI_1 _) (by omega) (by omega) (fun e => ?_)
    obtain ⟨p, hp, ep⟩ := nc_md (c >>> ((4 : Int32) &&& 31)) (n := n) (m := 7) (by omega) (by omega) 3 (by decide) (by omega)
    obtain ⟨q, hq, eq⟩ := nc_md (c >>> ((7 : Int32) &&& 31)) (n := n) (m := 7) (by omega) (by omega) 3 (by decide) (by omega)
    have nx : ∀ {w' : Nat → Nat → Int} {s' d' : Nat} {bo' tn' bn' : Int64} {b1 b2 : Nat → Int32} {b3 : Nat → Int64} {b4 : Nat → Int32} {b5 : Nat → Int64}, nc_G n w' → nc_M w' b1 → s' < n → d' < n → s' ≠ d' →
        wL_law_167 (fun r => r = 1) L xs (wL_law_30 (fun r => r = 1) L xs (nI n) (1 + 5) (11 + 96) f) (nI n) (nI s') (nI d') (nI (1 + 2 * i)) c e (1 + 5) (11 + 96) (nI n) (nI s') (nI d') bo' tn' bn' b1 b2 b3 b4 b5 := fun {w'} {s'} {d'} {_} {_} {_} {_} {_} {_} {_} {_} g1 g2 g3 g4 g5 =>
      nc_l167 g1 g2 g3 g4 g5 (fun bo2 tn2 bn2 c1 c2 c3 c4 c5 h => by
        have := hw (s', d', bo2, tn2, bn2, c1, c2, c3, c4, c5) ⟨g3, g4, g5, w', g1, h⟩
        rw [show 1 + 2 * (i + 1) = 1 + 2 * i + 2 by omega] at this
        exact this)
    refine nm_e ⟨n0, nm_r ep ⟨n0, nm_r eq (br_c (fun _ => br_c (fun _ => ?_) (fun _ => ⟨by decide, by decide, ?_⟩)) (fun _ => ⟨by decide, ?_⟩))⟩⟩
    · refine nc_pR h6 hp hq (fun h => br_t rfl (nx hG hM' hp hq h)) (fun h => br_f (by decide) (nx hG hM' hs' hd' hsd'))
    · obtain ⟨cn, hcn, ecn⟩ := nc_md e (n := 6) (m := 7) (by omega) (by omega) 3 (by decide) (by omega)
      obtain ⟨v, hv, ev⟩ := nc_md (e >>> ((3 : Int32) &&& 31)) (n := 10) (m := 15) (by omega) (by omega) 4 (by decide) (by omega)
      have e2 : (1 : Int32) + ((e &&& 7) - (e &&& 7) / 6 * 6) = nI (1 + cn) := by
        have : (e &&& 7) - (e &&& 7) / 6 * 6 = nI cn := ecn
        rw [this]
        exact nI_add 1 cn
      have e3 : ((e >>> ((3 : Int32) &&& 31)) &&& 15) - ((e >>> ((3 : Int32) &&& 31)) &&& 15) / 10 * 10 = nI ((v : Int).toNat) := ev
      rw [e2, e3]
      exact nc_cH hG hM' hp (by omega) (by omega) (by omega) (by omega) (fun w' b1 g1 g2 => nx g1 g2 hs' hd' hsd')
    · obtain ⟨v, hv, ev⟩ := nc_md e (n := 10) (m := 15) (by omega) (by omega) 4 (by decide) (by omega)
      have e3 : (e &&& 15) - (e &&& 15) / 10 * 10 = nI ((v : Int).toNat) := ev
      rw [e3]
      exact nc_jN hG hM' hp hq (by omega) (by omega) (fun _ _ => nx hG hM' hs' hd' hsd') (fun hpq _ b1 g => nx (nc_putG hG hp hq hpq (by omega) (by omega)) g hs' hd' hsd')
end
