section
/-- an int by its whole number -/
def zi_ (z : Int) : Int32 := Int32.ofInt z
/-- a long by its whole number -/
def zl_ (z : Int) : Int64 := Int64.ofInt z
abbrev zr_ (z : Int) : Prop := -2147483648 ≤ z ∧ z ≤ 2147483647
abbrev zrl_ (z : Int) : Prop := -9223372036854775808 ≤ z ∧ z ≤ 9223372036854775807
theorem zi_of (x : Int32) : x = zi_ x.toInt := (Int32.ofInt_toInt x).symm
theorem zi_rg (x : Int32) : zr_ x.toInt := by
  have h1 := x.le_toInt
  have h2 := x.toInt_lt
  constructor <;> omega
theorem zi_toInt {z : Int} (h : zr_ z) : (zi_ z).toInt = z :=
  Int32.toInt_ofInt_of_le (by have := h.1; omega) (by have := h.2; omega)
theorem zl_toInt {z : Int} (h : zrl_ z) : (zl_ z).toInt = z :=
  Int64.toInt_ofInt_of_le (by have := h.1; omega) (by have := h.2; omega)
theorem zi_add (a b : Int) : zi_ a + zi_ b = zi_ (a + b) := (Int32.ofInt_add a b).symm
theorem zi_sub (a b : Int) : zi_ a - zi_ b = zi_ (a - b) := (Int32.ofInt_sub a b).symm
theorem zi_mul (a b : Int) : zi_ a * zi_ b = zi_ (a * b) := (Int32.ofInt_mul a b).symm
theorem zi_neg (a : Int) : -zi_ a = zi_ (-a) := (Int32.ofInt_neg a).symm
theorem zl_add (a b : Int) : zl_ a + zl_ b = zl_ (a + b) := (Int64.ofInt_add a b).symm
theorem zl_sub (a b : Int) : zl_ a - zl_ b = zl_ (a - b) := (Int64.ofInt_sub a b).symm
theorem zl_mul (a b : Int) : zl_ a * zl_ b = zl_ (a * b) := (Int64.ofInt_mul a b).symm
theorem zl_i (a : Int) : (zl_ a).toInt32 = zi_ a := Int64.toInt32_ofInt
theorem zi_l {a : Int} (h : zr_ a) : (zi_ a).toInt64 = zl_ a :=
  Int32.toInt64_ofInt (by have := h.1; exact this) (by have := h.2; exact this)
theorem zi_le {a b : Int} (ha : zr_ a) (hb : zr_ b) : zi_ a ≤ zi_ b ↔ a ≤ b := by
  rw [Int32.le_iff_toInt_le, zi_toInt ha, zi_toInt hb]
theorem zi_lt {a b : Int} (ha : zr_ a) (hb : zr_ b) : zi_ a < zi_ b ↔ a < b := by
  rw [Int32.lt_iff_toInt_lt, zi_toInt ha, zi_toInt hb]
theorem zi_eq {a b : Int} (ha : zr_ a) (hb : zr_ b) : zi_ a = zi_ b ↔ a = b := by
  rw [← Int32.toInt_inj, zi_toInt ha, zi_toInt hb]
theorem zl_lt {a b : Int} (ha : zrl_ a) (hb : zrl_ b) : zl_ a < zl_ b ↔ a < b := by
  rw [Int64.lt_iff_toInt_lt, zl_toInt ha, zl_toInt hb]
theorem zi_div {a b : Int} (ha : zr_ a) (hb : zr_ b) : zi_ a / zi_ b = zi_ (a.tdiv b) :=
  (Int32.ofInt_tdiv (by have := ha.1; exact this) (by have := ha.2; exact this) (by have := hb.1; exact this) (by have := hb.2; exact this)).symm
theorem zb_le {a b : Int} {A B : Prop} (ha : zr_ a) (hb : zr_ b) (f : a ≤ b → A) (g : b < a → B) : (zi_ a ≤ zi_ b → A) ∧ (¬ zi_ a ≤ zi_ b → B) := by
  rw [zi_le ha hb]; exact ⟨f, fun h => g (Int.not_le.mp h)⟩
theorem zb_lt {a b : Int} {A B : Prop} (ha : zr_ a) (hb : zr_ b) (f : a < b → A) (g : b ≤ a → B) : (zi_ a < zi_ b → A) ∧ (¬ zi_ a < zi_ b → B) := by
  rw [zi_lt ha hb]; exact ⟨f, fun h => g (Int.not_lt.mp h)⟩
theorem zb_eq {a b : Int} {A B : Prop} (ha : zr_ a) (hb : zr_ b) (f : a = b → A) (g : a ≠ b → B) : (zi_ a = zi_ b → A) ∧ (¬ zi_ a = zi_ b → B) := by
  rw [zi_eq ha hb]; exact ⟨f, g⟩
theorem zb_ltl {a b : Int} {A B : Prop} (ha : zrl_ a) (hb : zrl_ b) (f : a < b → A) (g : b ≤ a → B) : (zl_ a < zl_ b → A) ∧ (¬ zl_ a < zl_ b → B) := by
  rw [zl_lt ha hb]; exact ⟨f, fun h => g (Int.not_lt.mp h)⟩
theorem zi_0 : (0 : Int32) = zi_ 0 := by decide +kernel
theorem zi_1 : (1 : Int32) = zi_ 1 := by decide +kernel
theorem zi_2 : (2 : Int32) = zi_ 2 := by decide +kernel
theorem zi_30 : (30 : Int32) = zi_ 30 := by decide +kernel
theorem zi_40 : (40 : Int32) = zi_ 40 := by decide +kernel
theorem zi_43 : (43 : Int32) = zi_ 43 := by decide +kernel
theorem zi_900 : (900 : Int32) = zi_ 900 := by decide +kernel
theorem zi_1000 : (1000 : Int32) = zi_ 1000 := by decide +kernel
theorem zi_1900 : (1900 : Int32) = zi_ 1900 := by decide +kernel
theorem zi_10000 : (10000 : Int32) = zi_ 10000 := by decide +kernel
theorem zi_100000 : (100000 : Int32) = zi_ 100000 := by decide +kernel
theorem zi_32768 : (32768 : Int32) = zi_ 32768 := by decide +kernel
theorem zi_max : (2147483647 : Int32) = zi_ 2147483647 := by decide +kernel
theorem zl_0 : (0 : Int64) = zl_ 0 := by decide +kernel
theorem zn_10 : ¬ zi_ 1 = zi_ 0 := by decide +kernel
theorem zn_20 : ¬ zi_ 2 = zi_ 0 := by decide +kernel
/-- a loop that counts up from lo to hi, by an invariant -/
theorem lz_loop {S : Type} (W : Nat → S → Int → Prop) (I : S → Int → Prop) (lo hi : Int)
    (hx : ∀ n s, I s (hi + 1) → W (n + 1) s (hi + 1))
    (hs : ∀ n s y, lo ≤ y → y ≤ hi → I s y → (∀ s', I s' (y + 1) → W n s' (y + 1)) → W (n + 1) s y)
    (s : S) (hl : lo ≤ hi + 1) (h0 : I s lo) : ∃ n, W n s lo := by
  have key : ∀ (k : Nat) (y : Int) (s : S), lo ≤ y → y + k = hi + 1 → I s y → W (k + 1) s y := by
    intro k
    induction k with
    | zero =>
      intro y s h1 h2 h3
      have e : y = hi + 1 := by omega
      subst e
      exact hx 0 s h3
    | succ k ih =>
      intro y s h1 h2 h3
      exact hs (k + 1) s y h1 (by omega) h3 (fun s' h => ih (y + 1) s' (by omega) (by omega) h)
  exact ⟨(hi + 1 - lo).toNat + 1, key (hi + 1 - lo).toNat lo s (Int.le_refl _) (by omega) h0⟩
/-- 1 or 0 -/
noncomputable def zc_ (p : Prop) : Int := @ite Int p (Classical.propDecidable p) 1 0
theorem zc_t {p : Prop} (h : p) : zc_ p = 1 := by unfold zc_; rw [if_pos h]
theorem zc_f {p : Prop} (h : ¬ p) : zc_ p = 0 := by unfold zc_; rw [if_neg h]
theorem zc_iff {p q : Prop} (h : p ↔ q) : zc_ p = zc_ q := by rw [propext h]
/-- the sum of f over lo .. lo + n - 1 -/
def sm_ (f : Int → Int) (lo : Int) : Nat → Int
  | 0 => 0
  | k + 1 => sm_ f lo k + f (lo + k)
theorem sm_congr {f g : Int → Int} {lo : Int} : ∀ {n : Nat}, (∀ x, lo ≤ x → x < lo + n → f x = g x) → sm_ f lo n = sm_ g lo n
  | 0, _ => rfl
  | n + 1, h => by
    show sm_ f lo n + f (lo + n) = sm_ g lo n + g (lo + n)
    rw [sm_congr (n := n) (fun x h1 h2 => h x h1 (by omega)), h (lo + n) (by omega) (by omega)]
theorem sm_zero {f : Int → Int} {lo : Int} : ∀ {n : Nat}, (∀ x, lo ≤ x → x < lo + n → f x = 0) → sm_ f lo n = 0
  | 0, _ => rfl
  | n + 1, h => by
    show sm_ f lo n + f (lo + n) = 0
    rw [sm_zero (n := n) (fun x h1 h2 => h x h1 (by omega)), h (lo + n) (by omega) (by omega)]
    rfl
theorem sm_add (f g : Int → Int) (lo : Int) : ∀ n : Nat, sm_ (fun x => f x + g x) lo n = sm_ f lo n + sm_ g lo n
  | 0 => rfl
  | n + 1 => by
    show sm_ (fun x => f x + g x) lo n + (f (lo + n) + g (lo + n)) = (sm_ f lo n + f (lo + n)) + (sm_ g lo n + g (lo + n))
    rw [sm_add f g lo n]
    omega
theorem sm_comm (f : Int → Int → Int) (l1 l2 : Int) (n2 : Nat) : ∀ n1 : Nat,
    sm_ (fun x => sm_ (fun y => f x y) l2 n2) l1 n1 = sm_ (fun y => sm_ (fun x => f x y) l1 n1) l2 n2
  | 0 => by
    show (0 : Int) = sm_ (fun y => 0) l2 n2
    rw [sm_zero]
    intro x _ _
    rfl
  | n1 + 1 => by
    show sm_ (fun x => sm_ (fun y => f x y) l2 n2) l1 n1 + sm_ (fun y => f (l1 + n1) y) l2 n2
      = sm_ (fun y => sm_ (fun x => f x y) l1 n1 + f (l1 + n1) y) l2 n2
    rw [sm_comm f l1 l2 n2 n1, sm_add (fun y => sm_ (fun x => f x y) l1 n1) (fun y => f (l1 + n1) y)]
theorem sm_one {f : Int → Int} {lo u : Int} : ∀ {n : Nat}, lo ≤ u → u < lo + n → (∀ x, x ≠ u → f x = 0) → sm_ f lo n = f u
  | 0, h1, h2, _ => by omega
  | n + 1, h1, h2, h => by
    show sm_ f lo n + f (lo + n) = f u
    rcases Classical.em (u = lo + n) with e | e
    · rw [sm_zero (n := n) (fun x h3 h4 => h x (by omega)), e]
      omega
    · rw [sm_one (n := n) h1 (by omega) h, h (lo + n) (fun z => e z.symm)]
      omega
theorem sm_iv (A B lo : Int) (hA : lo ≤ A) (hAB : A ≤ B + 1) : ∀ n : Nat,
    sm_ (fun i => zc_ (A ≤ i ∧ i ≤ B)) lo n = if lo + n ≤ A then 0 else if lo + n ≤ B + 1 then lo + n - A else B + 1 - A
  | 0 => by
    rw [if_pos (by omega)]
    rfl
  | n + 1 => by
    show sm_ (fun i => zc_ (A ≤ i ∧ i ≤ B)) lo n + zc_ (A ≤ lo + n ∧ lo + n ≤ B) = _
    rw [sm_iv A B lo hA hAB n]
    rcases Classical.em (A ≤ lo + n ∧ lo + n ≤ B) with e | e
    · rw [zc_t e]
      split <;> split <;> (try split) <;> (try split) <;> omega
    · rw [zc_f e]
      split <;> split <;> (try split) <;> (try split) <;> omega
end
section
theorem sq_nn (x : Int) : 0 ≤ x * x := by
  rcases Int.le_total 0 x with h | h
  · exact Int.mul_nonneg h h
  · have h2 : 0 ≤ -x := by omega
    have h3 := Int.mul_nonneg h2 h2
    rwa [Int.neg_mul_neg] at h3
theorem sq_pos {x : Int} (h : x ≠ 0) : 1 ≤ x * x := by
  rcases Int.le_total 0 x with h1 | h1
  · have h3 : 0 < x * x := Int.mul_pos (by omega) (by omega)
    omega
  · have h3 : 0 < -x * -x := Int.mul_pos (by omega) (by omega)
    rw [Int.neg_mul_neg] at h3
    omega
theorem sq_le {x N M : Int} (hN : 0 ≤ N) (h : x * x < M) (hM : M ≤ (N + 1) * (N + 1)) : -N ≤ x ∧ x ≤ N := by
  constructor
  · apply Int.not_lt.mp
    intro hx
    have h3 : (N + 1) * (N + 1) ≤ -x * -x := Int.mul_le_mul (by omega) (by omega) (by omega) (by omega)
    rw [Int.neg_mul_neg] at h3
    omega
  · apply Int.not_lt.mp
    intro hx
    have h3 : (N + 1) * (N + 1) ≤ x * x := Int.mul_le_mul (by omega) (by omega) (by omega) (by omega)
    omega
theorem zm_b {u v U V : Int} (hu : -U ≤ u ∧ u ≤ U) (hv : -V ≤ v ∧ v ≤ V) : -(U * V) ≤ u * v ∧ u * v ≤ U * V := by
  have h1 : 0 ≤ (U - u) * (V - v) := Int.mul_nonneg (by omega) (by omega)
  have h2 : 0 ≤ (U + u) * (V + v) := Int.mul_nonneg (by omega) (by omega)
  have h3 : 0 ≤ (U - u) * (V + v) := Int.mul_nonneg (by omega) (by omega)
  have h4 : 0 ≤ (U + u) * (V - v) := Int.mul_nonneg (by omega) (by omega)
  have e1 : (U - u) * (V - v) = U * V - U * v - u * V + u * v := by grind
  have e2 : (U + u) * (V + v) = U * V + U * v + u * V + u * v := by grind
  have e3 : (U - u) * (V + v) = U * V + U * v - u * V - u * v := by grind
  have e4 : (U + u) * (V - v) = U * V - U * v + u * V - u * v := by grind
  constructor <;> omega
/-- the steps that a call may set -/
def ll_ok (a b c d : Int) : Prop := (-30 ≤ a ∧ a ≤ 30) ∧ (-30 ≤ b ∧ b ≤ 30) ∧ (-30 ≤ c ∧ c ≤ 30) ∧ (-30 ≤ d ∧ d ≤ 30) ∧ a * d - b * c ≠ 0
/-- a point of the grid -/
def ll_lat (a b c d x y : Int) : Prop := ∃ m n : Int, x = m * a + n * c ∧ y = m * b + n * d
def ll_gd (px py qx qy : Int) : Prop := px * qy - py * qx ≠ 0 ∧ px * px + py * py ≤ 1800 ∧ qx * qx + qy * qy ≤ 1800
def ll_rd (px py qx qy : Int) : Prop := px * px + py * py ≤ qx * qx + qy * qy ∧ -(px * px + py * py) ≤ 2 * (px * qx + py * qy) ∧ 2 * (px * qx + py * qy) ≤ px * px + py * py
def ll_sm (a b c d px py qx qy : Int) : Prop := ∀ x y, ll_lat a b c d x y ↔ ll_lat px py qx qy x y
theorem ll_det {a b c d : Int} (h : ll_ok a b c d) : -1800 ≤ a * d - b * c ∧ a * d - b * c ≤ 1800 := by
  obtain ⟨ha, hb, hc, hd, _⟩ := h
  have h1 := zm_b (U := 30) (V := 30) ha hd
  have h2 := zm_b (U := 30) (V := 30) hb hc
  omega
theorem ll_iff {a b c d x y : Int} (hD : a * d - b * c ≠ 0) : ((a * d - b * c) ∣ (x * d - y * c) ∧ (a * d - b * c) ∣ (y * a - x * b)) ↔ ll_lat a b c d x y := by
  constructor
  · rintro ⟨⟨m, hm⟩, ⟨n, hn⟩⟩
    refine ⟨m, n, ?_, ?_⟩
    · apply Int.eq_of_mul_eq_mul_left hD
      have e : (a * d - b * c) * x = a * (x * d - y * c) + c * (y * a - x * b) := by grind
      rw [e, hm, hn]
      grind
    · apply Int.eq_of_mul_eq_mul_left hD
      have e : (a * d - b * c) * y = b * (x * d - y * c) + d * (y * a - x * b) := by grind
      rw [e, hm, hn]
      grind
  · rintro ⟨m, n, rfl, rfl⟩
    exact ⟨⟨m, by grind⟩, ⟨n, by grind⟩⟩
theorem ll_uq {px py qx qy i j k l : Int} (hD : px * qy - py * qx ≠ 0) (h1 : i * px + j * qx = k * px + l * qx) (h2 : i * py + j * qy = k * py + l * qy) : i = k ∧ j = l := by
  constructor
  · apply Int.eq_of_mul_eq_mul_right hD
    have e : i * (px * qy - py * qx) = (i * px + j * qx) * qy - (i * py + j * qy) * qx := by grind
    rw [e, h1, h2]
    grind
  · apply Int.eq_of_mul_eq_mul_right hD
    have e : j * (px * qy - py * qx) = (i * py + j * qy) * px - (i * px + j * qx) * py := by grind
    rw [e, h1, h2]
    grind
theorem ll_form (px py qx qy m n : Int) : (m * px + n * qx) * (m * px + n * qx) + (m * py + n * qy) * (m * py + n * qy) = m * m * (px * px + py * py) + 2 * (m * n) * (px * qx + py * qy) + n * n * (qx * qx + qy * qy) := by grind
theorem ll_gram (px py qx qy : Int) : (px * px + py * py) * (qx * qx + qy * qy) - (px * qx + py * qy) * (px * qx + py * qy) = (px * qy - py * qx) * (px * qy - py * qx) := by grind
theorem ll_pos {px py qx qy : Int} (hD : px * qy - py * qx ≠ 0) : 1 ≤ px * px + py * py ∧ 1 ≤ qx * qx + qy * qy := by
  have a1 := sq_nn px
  have a2 := sq_nn py
  have a3 := sq_nn qx
  have a4 := sq_nn qy
  constructor
  · apply Int.not_lt.mp
    intro h
    have e1 : px = 0 := by
      apply Classical.byContradiction
      intro z
      have := sq_pos z
      omega
    have e2 : py = 0 := by
      apply Classical.byContradiction
      intro z
      have := sq_pos z
      omega
    apply hD
    rw [e1, e2]
    grind
  · apply Int.not_lt.mp
    intro h
    have e1 : qx = 0 := by
      apply Classical.byContradiction
      intro z
      have := sq_pos z
      omega
    have e2 : qy = 0 := by
      apply Classical.byContradiction
      intro z
      have := sq_pos z
      omega
    apply hD
    rw [e1, e2]
    grind
theorem ll_cd {x y : Int} (h : x * x + y * y ≤ 1800) : (-42 ≤ x ∧ x ≤ 42) ∧ (-42 ≤ y ∧ y ≤ 42) := by
  have a1 := sq_nn x
  have a2 := sq_nn y
  exact ⟨sq_le (M := 1849) (by omega) (by omega) (by omega), sq_le (M := 1849) (by omega) (by omega) (by omega)⟩
/-- the form of a reduced pair from below -/
theorem fm_T {P Q R : Int} (m n : Int) (h1 : -P ≤ 2 * R) (h2 : 2 * R ≤ P) :
    ∃ T : Int, T * P + n * n * (Q - P) ≤ m * m * P + 2 * (m * n) * R + n * n * Q ∧ 3 * (n * n) ≤ 4 * T ∧ 3 * (m * m) ≤ 4 * T := by
  rcases Int.le_total 0 (m * n) with h | h
  · refine ⟨m * m - m * n + n * n, ?_, ?_, ?_⟩
    · have a := Int.mul_nonneg h (show 0 ≤ 2 * R + P by omega)
      have e : m * m * P + 2 * (m * n) * R + n * n * Q = (m * m - m * n + n * n) * P + n * n * (Q - P) + m * n * (2 * R + P) := by grind
      omega
    · have a := sq_nn (2 * m - n)
      have e : (2 * m - n) * (2 * m - n) = 4 * (m * m) - 4 * (m * n) + n * n := by grind
      omega
    · have a := sq_nn (2 * n - m)
      have e : (2 * n - m) * (2 * n - m) = 4 * (n * n) - 4 * (m * n) + m * m := by grind
      omega
  · refine ⟨m * m + m * n + n * n, ?_, ?_, ?_⟩
    · have a := Int.mul_nonneg (show 0 ≤ -(m * n) by omega) (show 0 ≤ P - 2 * R by omega)
      have e : m * m * P + 2 * (m * n) * R + n * n * Q = (m * m + m * n + n * n) * P + n * n * (Q - P) + -(m * n) * (P - 2 * R) := by grind
      omega
    · have a := sq_nn (2 * m + n)
      have e : (2 * m + n) * (2 * m + n) = 4 * (m * m) + 4 * (m * n) + n * n := by grind
      omega
    · have a := sq_nn (2 * n + m)
      have e : (2 * n + m) * (2 * n + m) = 4 * (n * n) + 4 * (m * n) + m * m := by grind
      omega
theorem fm_P {P Q R m n : Int} (hP : 0 < P) (hPQ : P ≤ Q) (h1 : -P ≤ 2 * R) (h2 : 2 * R ≤ P) (hz : m ≠ 0 ∨ n ≠ 0) :
    P ≤ m * m * P + 2 * (m * n) * R + n * n * Q := by
  obtain ⟨T, a, b, c⟩ := fm_T (Q := Q) m n h1 h2
  have hT : 1 ≤ T := by
    rcases hz with z | z
    · have := sq_pos z
      omega
    · have := sq_pos z
      omega
  have d := Int.mul_nonneg (show 0 ≤ T - 1 by omega) (show 0 ≤ P by omega)
  have e : (T - 1) * P = T * P - P := by grind
  have f := Int.mul_nonneg (sq_nn n) (show 0 ≤ Q - P by omega)
  omega
theorem fm_Q {P Q R m n : Int} (hP : 0 < P) (hPQ : P ≤ Q) (h1 : -P ≤ 2 * R) (h2 : 2 * R ≤ P) (hz : n ≠ 0) :
    Q ≤ m * m * P + 2 * (m * n) * R + n * n * Q := by
  obtain ⟨T, a, b, c⟩ := fm_T (Q := Q) m n h1 h2
  have hn := sq_pos hz
  have hT : 1 ≤ T := by omega
  have d := Int.mul_nonneg (show 0 ≤ T - 1 by omega) (show 0 ≤ P by omega)
  have e : (T - 1) * P = T * P - P := by grind
  have f := Int.mul_nonneg (show 0 ≤ n * n - 1 by omega) (show 0 ≤ Q - P by omega)
  have g : (n * n - 1) * (Q - P) = n * n * (Q - P) - (Q - P) := by grind
  omega
theorem fm_1 {P Q R m n : Int} (hP : 0 < P) (hPQ : P ≤ Q) (h1 : -P ≤ 2 * R) (h2 : 2 * R ≤ P)
    (hz : m * m * P + 2 * (m * n) * R + n * n * Q = P) : (-1 ≤ m ∧ m ≤ 1) ∧ (-1 ≤ n ∧ n ≤ 1) := by
  obtain ⟨T, a, b, c⟩ := fm_T (Q := Q) m n h1 h2
  have f := Int.mul_nonneg (sq_nn n) (show 0 ≤ Q - P by omega)
  have hT : T ≤ 1 := by
    apply Int.not_lt.mp
    intro z
    have d := Int.mul_nonneg (show 0 ≤ T - 2 by omega) (show 0 ≤ P by omega)
    have e : (T - 2) * P = T * P - 2 * P := by grind
    omega
  exact ⟨sq_le (M := 4) (by omega) (by omega) (by omega), sq_le (M := 4) (by omega) (by omega) (by omega)⟩
theorem fm_9 {P Q R m n : Int} (hP : 0 < P) (hPQ : P ≤ Q) (h1 : -P ≤ 2 * R) (h2 : 2 * R ≤ P)
    (hz : m * m * P + 2 * (m * n) * R + n * n * Q ≤ 900) : (-40 ≤ m ∧ m ≤ 40) ∧ (-40 ≤ n ∧ n ≤ 40) := by
  obtain ⟨T, a, b, c⟩ := fm_T (Q := Q) m n h1 h2
  have f := Int.mul_nonneg (sq_nn n) (show 0 ≤ Q - P by omega)
  have hn := sq_nn n
  have d := Int.mul_nonneg (show 0 ≤ P - 1 by omega) (show 0 ≤ T by omega)
  have e : (P - 1) * T = T * P - T := by grind
  exact ⟨sq_le (M := 1681) (by omega) (by omega) (by omega), sq_le (M := 1681) (by omega) (by omega) (by omega)⟩
/-- every point but the null point is at least as long as the first of a reduced pair -/
theorem ll_P {px py qx qy x y : Int} (hg : ll_gd px py qx qy) (hr : ll_rd px py qx qy) (hl : ll_lat px py qx qy x y) (h0 : 0 < x * x + y * y) :
    px * px + py * py ≤ x * x + y * y := by
  obtain ⟨m, n, rfl, rfl⟩ := hl
  have hp := (ll_pos hg.1).1
  rw [ll_form] at h0 ⊢
  apply fm_P (by omega) hr.1 hr.2.1 hr.2.2
  apply Classical.byContradiction
  intro z
  have e1 : m = 0 := by omega
  have e2 : n = 0 := by omega
  subst e1
  subst e2
  simp at h0
/-- a point that isn't on the line of a shortest one is at least as long as the second of a reduced pair -/
theorem ll_Q {px py qx qy u v x y : Int} (hg : ll_gd px py qx qy) (hr : ll_rd px py qx qy) (hu : ll_lat px py qx qy u v)
    (hs : u * u + v * v = px * px + py * py) (hl : ll_lat px py qx qy x y) (h0 : x * v ≠ y * u) : qx * qx + qy * qy ≤ x * x + y * y := by
  obtain ⟨m, n, rfl, rfl⟩ := hl
  obtain ⟨k, l, rfl, rfl⟩ := hu
  have hp := (ll_pos hg.1).1
  rw [ll_form] at hs ⊢
  rcases Classical.em (n = 0) with hn | hn
  · rcases Classical.em (l = 0) with hl | hl
    · exfalso
      apply h0
      subst hn
      subst hl
      grind
    · have h1 := fm_Q (m := k) (n := l) (by omega) hr.1 hr.2.1 hr.2.2 hl
      have hm : m ≠ 0 := by
        intro z
        apply h0
        subst hn
        subst z
        grind
      have h2 := fm_P (m := m) (n := n) (by omega) hr.1 hr.2.1 hr.2.2 (Or.inl hm)
      omega
  · exact fm_Q (by omega) hr.1 hr.2.1 hr.2.2 hn
/-- and one such point is exactly so long -/
theorem ll_Qx {px py qx qy u v : Int} (hg : ll_gd px py qx qy) (hr : ll_rd px py qx qy) (hu : ll_lat px py qx qy u v)
    (hs : u * u + v * v = px * px + py * py) : ∃ x y, ll_lat px py qx qy x y ∧ x * v ≠ y * u ∧ x * x + y * y = qx * qx + qy * qy := by
  obtain ⟨k, l, rfl, rfl⟩ := hu
  have hp := (ll_pos hg.1).1
  rw [ll_form] at hs
  rcases Classical.em (l = 0) with hl | hl
  · refine ⟨qx, qy, ⟨0, 1, by omega, by omega⟩, ?_, rfl⟩
    subst hl
    intro z
    have e : k * (px * qy - py * qx) = 0 := by grind
    rcases Int.mul_eq_zero.mp e with h | h
    · subst h
      simp at hs
      omega
    · exact hg.1 h
  · have h1 := fm_Q (m := k) (n := l) (by omega) hr.1 hr.2.1 hr.2.2 hl
    have h2 := hr.1
    refine ⟨px, py, ⟨1, 0, by omega, by omega⟩, ?_, by omega⟩
    intro z
    have e : l * (px * qy - py * qx) = 0 := by grind
    rcases Int.mul_eq_zero.mp e with h | h
    · exact hl h
    · exact hg.1 h
end
section
theorem ll_sw {a b c d px py qx qy : Int} (h : ll_sm a b c d px py qx qy) : ll_sm a b c d qx qy px py := by
  intro x y
  rw [h x y]
  constructor
  · rintro ⟨m, n, e1, e2⟩
    exact ⟨n, m, by omega, by omega⟩
  · rintro ⟨m, n, e1, e2⟩
    exact ⟨n, m, by omega, by omega⟩
theorem ll_sh {a b c d px py qx qy : Int} (k : Int) (h : ll_sm a b c d px py qx qy) : ll_sm a b c d px py (qx - k * px) (qy - k * py) := by
  intro x y
  rw [h x y]
  constructor
  · rintro ⟨m, n, e1, e2⟩
    exact ⟨m + n * k, n, by grind, by grind⟩
  · rintro ⟨m, n, e1, e2⟩
    exact ⟨m - n * k, n, by grind, by grind⟩
theorem rd_k {P : Int} (R : Int) (hP : 0 < P) : (2 * R + P) / (2 * P) * (2 * P) ≤ 2 * R + P ∧ 2 * R + P < ((2 * R + P) / (2 * P) + 1) * (2 * P) :=
  ⟨Int.ediv_mul_le _ (by omega), Int.lt_ediv_add_one_mul_self _ (by omega)⟩
theorem rd_sz (px py qx qy k : Int) : (qx - k * px) * (qx - k * px) + (qy - k * py) * (qy - k * py) = qx * qx + qy * qy - k * (2 * (px * qx + py * qy) - k * (px * px + py * py)) := by grind
theorem rd_ip (px py qx qy k : Int) : px * (qx - k * px) + py * (qy - k * py) = (px * qx + py * qy) - k * (px * px + py * py) := by grind
theorem rd_dt (px py qx qy k : Int) : px * (qy - k * py) - py * (qx - k * px) = px * qy - py * qx := by grind
theorem rd_le {P R k : Int} (hP : 0 < P) (h1 : k * (2 * P) ≤ 2 * R + P) (h2 : 2 * R + P < (k + 1) * (2 * P)) : 0 ≤ k * (2 * R - k * P) := by
  have e1 : k * (2 * P) = 2 * (k * P) := by grind
  have e2 : (k + 1) * (2 * P) = 2 * (k * P) + 2 * P := by grind
  rcases Int.lt_trichotomy k 0 with h | h | h
  · have a := Int.mul_nonneg (show 0 ≤ -k - 1 by omega) (show 0 ≤ P by omega)
    have e3 : (-k - 1) * P = -(k * P) - P := by grind
    have b := Int.mul_nonneg (show 0 ≤ -k by omega) (show 0 ≤ k * P - 2 * R by omega)
    have e4 : -k * (k * P - 2 * R) = k * (2 * R - k * P) := by grind
    omega
  · subst h
    simp
  · have a := Int.mul_nonneg (show 0 ≤ k - 1 by omega) (show 0 ≤ P by omega)
    have e3 : (k - 1) * P = k * P - P := by grind
    exact Int.mul_nonneg (by omega) (by omega)
theorem rd_st {P R k : Int} (hP : 0 < P) (h1 : k * (2 * P) ≤ 2 * R + P) (h2 : 2 * R + P < (k + 1) * (2 * P)) (h3 : k * (2 * R - k * P) ≤ 0) : -P ≤ 2 * R ∧ 2 * R ≤ P := by
  have e1 : k * (2 * P) = 2 * (k * P) := by grind
  have e2 : (k + 1) * (2 * P) = 2 * (k * P) + 2 * P := by grind
  rcases Int.lt_trichotomy k 0 with h | h | h
  · exfalso
    have a := Int.mul_nonneg (show 0 ≤ -k - 1 by omega) (show 0 ≤ P by omega)
    have e3 : (-k - 1) * P = -(k * P) - P := by grind
    have b := Int.mul_pos (show 0 < -k by omega) (show 0 < k * P - 2 * R by omega)
    have e4 : -k * (k * P - 2 * R) = k * (2 * R - k * P) := by grind
    omega
  · subst h
    omega
  · have a := Int.mul_nonneg (show 0 ≤ k - 1 by omega) (show 0 ≤ P by omega)
    have e3 : (k - 1) * P = k * P - P := by grind
    have b : 2 * R - k * P ≤ 0 := by
      apply Int.not_lt.mp
      intro z
      have := Int.mul_pos h z
      omega
    omega
theorem rd_fx {P R k : Int} (hP : 0 < P) (h1 : k * (2 * P) ≤ 2 * R + P) (h2 : 2 * R + P < (k + 1) * (2 * P)) (h3 : -P ≤ 2 * R ∧ 2 * R ≤ P) : k * (2 * R - k * P) = 0 := by
  have e1 : k * (2 * P) = 2 * (k * P) := by grind
  have e2 : (k + 1) * (2 * P) = 2 * (k * P) + 2 * P := by grind
  have k0 : 0 ≤ k := by
    apply Int.not_lt.mp
    intro z
    have a := Int.mul_nonneg (show 0 ≤ -k - 1 by omega) (show 0 ≤ P by omega)
    have e3 : (-k - 1) * P = -(k * P) - P := by grind
    omega
  have k1 : k ≤ 1 := by
    apply Int.not_lt.mp
    intro z
    have a := Int.mul_nonneg (show 0 ≤ k - 2 by omega) (show 0 ≤ P by omega)
    have e3 : (k - 2) * P = k * P - 2 * P := by grind
    omega
  rcases (show k = 0 ∨ k = 1 by omega) with h | h
  · subst h
    simp
  · subst h
    omega
/-- the square of how far the point m p + n q lies from (x, y) -/
def nr_sz (px py qx qy x y m n : Int) : Int := (x - (m * px + n * qx)) * (x - (m * px + n * qx)) + (y - (m * py + n * qy)) * (y - (m * py + n * qy))
def nr_vo (px py qx qy x y m n : Int) : Prop := nr_sz px py qx qy x y m n ≤ nr_sz px py qx qy x y (m + 1) n ∧ nr_sz px py qx qy x y m n ≤ nr_sz px py qx qy x y (m - 1) n ∧ nr_sz px py qx qy x y m n ≤ nr_sz px py qx qy x y m (n + 1) ∧ nr_sz px py qx qy x y m n ≤ nr_sz px py qx qy x y m (n - 1)
theorem nr_nn (px py qx qy x y m n : Int) : 0 ≤ nr_sz px py qx qy x y m n := by
  unfold nr_sz
  exact Int.add_nonneg (sq_nn _) (sq_nn _)
theorem nr_ds (px py qx qy x y : Int) : ∀ (k : Nat) (m n : Int), nr_sz px py qx qy x y m n < k →
    ∃ m' n', nr_vo px py qx qy x y m' n' ∧ (nr_sz px py qx qy x y m' n' < nr_sz px py qx qy x y m n ∨ (m' = m ∧ n' = n)) := by
  intro k
  induction k with
  | zero =>
    intro m n h
    have := nr_nn px py qx qy x y m n
    omega
  | succ k ih =>
    intro m n h
    have step : ∀ m1 n1 : Int, nr_sz px py qx qy x y m1 n1 < nr_sz px py qx qy x y m n →
        ∃ m' n', nr_vo px py qx qy x y m' n' ∧ (nr_sz px py qx qy x y m' n' < nr_sz px py qx qy x y m n ∨ (m' = m ∧ n' = n)) := by
      intro m1 n1 h1
      obtain ⟨m', n', hv, hd⟩ := ih m1 n1 (by omega)
      refine ⟨m', n', hv, Or.inl ?_⟩
      rcases hd with hd | ⟨rfl, rfl⟩
      · omega
      · exact h1
    rcases Int.lt_or_le (nr_sz px py qx qy x y (m + 1) n) (nr_sz px py qx qy x y m n) with h1 | h1
    · exact step _ _ h1
    rcases Int.lt_or_le (nr_sz px py qx qy x y (m - 1) n) (nr_sz px py qx qy x y m n) with h2 | h2
    · exact step _ _ h2
    rcases Int.lt_or_le (nr_sz px py qx qy x y m (n + 1)) (nr_sz px py qx qy x y m n) with h3 | h3
    · exact step _ _ h3
    rcases Int.lt_or_le (nr_sz px py qx qy x y m (n - 1)) (nr_sz px py qx qy x y m n) with h4 | h4
    · exact step _ _ h4
    exact ⟨m, n, ⟨h1, h2, h3, h4⟩, Or.inr ⟨rfl, rfl⟩⟩
theorem vo_bd {P Q R D a b δ : Int} (hP : 0 < P) (hPQ : P ≤ Q) (hR1 : -P ≤ 2 * R) (hR2 : 2 * R ≤ P) (hG : P * Q - R * R = D * D)
    (ha : -P ≤ 2 * a ∧ 2 * a ≤ P) (hb : -Q ≤ 2 * b ∧ 2 * b ≤ Q) (hδ : δ * D = a * Q - b * R ∨ δ * D = b * P - a * R) : -(D * D) ≤ δ * D ∧ δ * D ≤ D * D := by
  have s1 := zm_b (U := P) (V := Q) ha (show -Q ≤ Q ∧ Q ≤ Q by omega)
  have s2 := zm_b (U := Q) (V := P) hb (show -P ≤ 2 * R ∧ 2 * R ≤ P from ⟨hR1, hR2⟩)
  have s3 := zm_b (U := Q) (V := P) hb (show -P ≤ P ∧ P ≤ P by omega)
  have s4 := zm_b (U := P) (V := P) ha (show -P ≤ 2 * R ∧ 2 * R ≤ P from ⟨hR1, hR2⟩)
  have s5 := zm_b (U := P) (V := P) (show -P ≤ 2 * R ∧ 2 * R ≤ P from ⟨hR1, hR2⟩) (show -P ≤ 2 * R ∧ 2 * R ≤ P from ⟨hR1, hR2⟩)
  have s6 := Int.mul_nonneg (show 0 ≤ P by omega) (show 0 ≤ Q - P by omega)
  have e1 : 2 * a * Q = 2 * (a * Q) := by grind
  have e2 : 2 * b * (2 * R) = 4 * (b * R) := by grind
  have e3 : 2 * b * P = 2 * (b * P) := by grind
  have e4 : 2 * a * (2 * R) = 4 * (a * R) := by grind
  have e5 : 2 * R * (2 * R) = 4 * (R * R) := by grind
  have e6 : P * (Q - P) = P * Q - P * P := by grind
  have e7 : Q * P = P * Q := by grind
  rw [e1] at s1
  rw [e2, e7] at s2
  rw [e3, e7] at s3
  rw [e4] at s4
  rw [e5] at s5
  rcases hδ with h | h <;> constructor <;> omega
theorem vo_cn {δ E : Int} (hE : 0 < E) (h : -(E * E) ≤ δ * E ∧ δ * E ≤ E * E) : -E ≤ δ ∧ δ ≤ E := by
  constructor
  · apply Int.not_lt.mp
    intro z
    have a := Int.mul_pos (show 0 < -E - δ by omega) hE
    have e : (-E - δ) * E = -(E * E) - δ * E := by grind
    omega
  · apply Int.not_lt.mp
    intro z
    have a := Int.mul_pos (show 0 < δ - E by omega) hE
    have e : (δ - E) * E = δ * E - E * E := by grind
    omega
/-- what a nearest point's neighbours say: by inner products -/
theorem vo_ip {px py qx qy x y m n : Int} (h : nr_vo px py qx qy x y m n) :
    (-(px * px + py * py) ≤ 2 * ((m * px + n * qx - x) * px + (m * py + n * qy - y) * py) ∧ 2 * ((m * px + n * qx - x) * px + (m * py + n * qy - y) * py) ≤ px * px + py * py) ∧
    (-(qx * qx + qy * qy) ≤ 2 * ((m * px + n * qx - x) * qx + (m * py + n * qy - y) * qy) ∧ 2 * ((m * px + n * qx - x) * qx + (m * py + n * qy - y) * qy) ≤ qx * qx + qy * qy) := by
  obtain ⟨h1, h2, h3, h4⟩ := h
  have e1 : nr_sz px py qx qy x y (m + 1) n = nr_sz px py qx qy x y m n + 2 * ((m * px + n * qx - x) * px + (m * py + n * qy - y) * py) + (px * px + py * py) := by unfold nr_sz; grind
  have e2 : nr_sz px py qx qy x y (m - 1) n = nr_sz px py qx qy x y m n - 2 * ((m * px + n * qx - x) * px + (m * py + n * qy - y) * py) + (px * px + py * py) := by unfold nr_sz; grind
  have e3 : nr_sz px py qx qy x y m (n + 1) = nr_sz px py qx qy x y m n + 2 * ((m * px + n * qx - x) * qx + (m * py + n * qy - y) * qy) + (qx * qx + qy * qy) := by unfold nr_sz; grind
  have e4 : nr_sz px py qx qy x y m (n - 1) = nr_sz px py qx qy x y m n - 2 * ((m * px + n * qx - x) * qx + (m * py + n * qy - y) * qy) + (qx * qx + qy * qy) := by unfold nr_sz; grind
  omega
theorem vo_de {px py qx qy x y m n s : Int} (hg : ll_gd px py qx qy) (hr : ll_rd px py qx qy) (hs : s * s = 1) (hE : 0 < s * (px * qy - py * qx)) (h : nr_vo px py qx qy x y m n) :
    (-(s * (px * qy - py * qx)) ≤ m * (s * (px * qy - py * qx)) - s * (x * qy - y * qx) ∧ m * (s * (px * qy - py * qx)) - s * (x * qy - y * qx) ≤ s * (px * qy - py * qx)) ∧
    (-(s * (px * qy - py * qx)) ≤ n * (s * (px * qy - py * qx)) - s * (px * y - py * x) ∧ n * (s * (px * qy - py * qx)) - s * (px * y - py * x) ≤ s * (px * qy - py * qx)) := by
  obtain ⟨ha, hb⟩ := vo_ip h
  have hp := (ll_pos hg.1).1
  have G : (px * px + py * py) * (qx * qx + qy * qy) - (px * qx + py * qy) * (px * qx + py * qy) = s * (px * qy - py * qx) * (s * (px * qy - py * qx)) := by
    rw [ll_gram]
    grind
  constructor
  · refine vo_cn hE (vo_bd (by omega) hr.1 hr.2.1 hr.2.2 G ha hb (Or.inl ?_))
    grind
  · refine vo_cn hE (vo_bd (by omega) hr.1 hr.2.1 hr.2.2 G ha hb (Or.inr ?_))
    grind
/-- a nearest point lies among the sixteen -/
theorem vo_ij {E m A i : Int} (hE : 0 < E) (h : -E ≤ m * E - A ∧ m * E - A ≤ E) (h1 : i * E ≤ A) (h2 : A < (i + 1) * E) : i - 1 ≤ m ∧ m ≤ i + 2 := by
  constructor
  · apply Int.not_lt.mp
    intro z
    have a := Int.mul_nonneg (show 0 ≤ i - 2 - m by omega) (show 0 ≤ E by omega)
    have e : (i - 2 - m) * E = i * E - 2 * E - m * E := by grind
    omega
  · apply Int.not_lt.mp
    intro z
    have a := Int.mul_nonneg (show 0 ≤ m - i - 3 by omega) (show 0 ≤ E by omega)
    have e : (m - i - 3) * E = m * E - i * E - 3 * E := by grind
    have e2 : (i + 1) * E = i * E + E := by grind
    omega
/-- and is no further than 1800 -/
theorem vo_sz {px py qx qy x y m n : Int} (hg : ll_gd px py qx qy) (hr : ll_rd px py qx qy) (h : nr_vo px py qx qy x y m n) : nr_sz px py qx qy x y m n ≤ 1800 := by
  obtain ⟨ha, hb⟩ := vo_ip h
  have key : ∀ s : Int, s * s = 1 → 0 < s * (px * qy - py * qx) → nr_sz px py qx qy x y m n ≤ 1800 := by
    intro s hs hE
    obtain ⟨hd, he⟩ := vo_de hg hr hs hE h
    have e : s * (px * qy - py * qx) * nr_sz px py qx qy x y m n
      = (m * (s * (px * qy - py * qx)) - s * (x * qy - y * qx)) * ((m * px + n * qx - x) * px + (m * py + n * qy - y) * py)
      + (n * (s * (px * qy - py * qx)) - s * (px * y - py * x)) * ((m * px + n * qx - x) * qx + (m * py + n * qy - y) * qy) := by
      unfold nr_sz
      grind
    have b1 := zm_b (U := s * (px * qy - py * qx)) (V := 900) hd (v := (m * px + n * qx - x) * px + (m * py + n * qy - y) * py) (by have := hg.2.1; omega)
    have b2 := zm_b (U := s * (px * qy - py * qx)) (V := 900) he (v := (m * px + n * qx - x) * qx + (m * py + n * qy - y) * qy) (by have := hg.2.2; omega)
    apply Int.not_lt.mp
    intro z
    have c := Int.mul_pos hE (show 0 < nr_sz px py qx qy x y m n - 1800 by omega)
    have e2 : s * (px * qy - py * qx) * (nr_sz px py qx qy x y m n - 1800) = s * (px * qy - py * qx) * nr_sz px py qx qy x y m n - 1800 * (s * (px * qy - py * qx)) := by grind
    omega
  rcases Int.lt_or_le (px * qy - py * qx) 0 with h1 | h1
  · exact key (-1) (by omega) (by omega)
  · exact key 1 (by omega) (by have := hg.1; omega)
/-- ordered by size, then by u, then by v -/
def lx_ (S U V s u v : Int) : Prop := S < s ∨ (S = s ∧ (U < u ∨ (U = u ∧ V ≤ v)))
theorem ex_min {α : Type} (le : α → α → Prop) (tot : ∀ x y, le x y ∨ le y x) (tr : ∀ x y z, le x y → le y z → le x z) : ∀ l : List α, l ≠ [] → ∃ x, x ∈ l ∧ ∀ y, y ∈ l → le x y
  | [], h => absurd rfl h
  | [a], _ => ⟨a, List.mem_singleton.mpr rfl, fun y hy => by
      rw [List.mem_singleton.mp hy]
      exact (tot a a).elim id id⟩
  | a :: b :: l, _ => by
    obtain ⟨x, hx, h⟩ := ex_min le tot tr (b :: l) (by simp)
    rcases tot a x with t | t
    · refine ⟨a, List.mem_cons_self, fun y hy => ?_⟩
      rcases List.mem_cons.mp hy with e | e
      · rw [e]
        exact (tot a a).elim id id
      · exact tr _ _ _ t (h y e)
    · refine ⟨x, List.mem_cons_of_mem _ hx, fun y hy => ?_⟩
      rcases List.mem_cons.mp hy with e | e
      · rw [e]
        exact t
      · exact h y e
/-- the nearest point, the first by u and v among the nearest: of all points of the grid -/
def nn_ (px py qx qy x y U V S : Int) : Prop := S = (x - U) * (x - U) + (y - V) * (y - V) ∧ S ≤ 1800 ∧ ∀ u v, ll_lat px py qx qy u v → lx_ S U V ((x - u) * (x - u) + (y - v) * (y - v)) u v
def nr_le (px py qx qy x y : Int) (a b : Int × Int) : Prop :=
  lx_ (nr_sz px py qx qy x y a.1 a.2) (a.1 * px + a.2 * qx) (a.1 * py + a.2 * qy) (nr_sz px py qx qy x y b.1 b.2) (b.1 * px + b.2 * qx) (b.1 * py + b.2 * qy)
/-- there is a nearest point among the sixteen -/
theorem nn_ex {px py qx qy s : Int} (x y i j : Int) (hg : ll_gd px py qx qy) (hr : ll_rd px py qx qy) (hs : s * s = 1) (hE : 0 < s * (px * qy - py * qx))
    (hi1 : i * (s * (px * qy - py * qx)) ≤ s * (x * qy - y * qx)) (hi2 : s * (x * qy - y * qx) < (i + 1) * (s * (px * qy - py * qx)))
    (hj1 : j * (s * (px * qy - py * qx)) ≤ s * (px * y - py * x)) (hj2 : s * (px * y - py * x) < (j + 1) * (s * (px * qy - py * qx))) :
    ∃ m n, (i - 1 ≤ m ∧ m ≤ i + 2) ∧ (j - 1 ≤ n ∧ n ≤ j + 2) ∧ nn_ px py qx qy x y (m * px + n * qx) (m * py + n * qy) (nr_sz px py qx qy x y m n) := by
  obtain ⟨w, hw, hm⟩ := ex_min (nr_le px py qx qy x y) (fun a b => by unfold nr_le lx_; omega) (fun a b c => by unfold nr_le lx_; omega)
    [(i - 1, j - 1), (i - 1, j), (i - 1, j + 1), (i - 1, j + 2), (i, j - 1), (i, j), (i, j + 1), (i, j + 2), (i + 1, j - 1), (i + 1, j), (i + 1, j + 1), (i + 1, j + 2), (i + 2, j - 1), (i + 2, j), (i + 2, j + 1), (i + 2, j + 2)] (by simp)
  have hc : (i - 1 ≤ w.1 ∧ w.1 ≤ i + 2) ∧ (j - 1 ≤ w.2 ∧ w.2 ≤ j + 2) := by
    simp only [List.mem_cons, List.not_mem_nil, or_false] at hw
    rcases hw with h | h | h | h | h | h | h | h | h | h | h | h | h | h | h | h <;> rw [h] <;> dsimp only <;> omega
  have hm2 : ∀ m n : Int, (i - 1 ≤ m ∧ m ≤ i + 2) → (j - 1 ≤ n ∧ n ≤ j + 2) → nr_le px py qx qy x y w (m, n) := by
    intro m n h1 h2
    apply hm
    rcases (show m = i - 1 ∨ m = i ∨ m = i + 1 ∨ m = i + 2 by omega) with e | e | e | e <;> rcases (show n = j - 1 ∨ n = j ∨ n = j + 1 ∨ n = j + 2 by omega) with f | f | f | f <;> rw [e, f] <;> simp
  have hall : ∀ m n : Int, nr_le px py qx qy x y w (m, n) := by
    intro m n
    have hnn := nr_nn px py qx qy x y m n
    obtain ⟨m', n', hv, hd⟩ := nr_ds px py qx qy x y ((nr_sz px py qx qy x y m n).toNat + 1) m n (by omega)
    obtain ⟨d1, d2⟩ := vo_de hg hr hs hE hv
    have hin := hm2 m' n' (vo_ij hE d1 hi1 hi2) (vo_ij hE d2 hj1 hj2)
    rcases hd with hd | ⟨rfl, rfl⟩
    · unfold nr_le lx_ at hin ⊢
      dsimp only at hin ⊢
      omega
    · exact hin
  refine ⟨w.1, w.2, hc.1, hc.2, rfl, ?_, ?_⟩
  · have hnn := nr_nn px py qx qy x y w.1 w.2
    apply vo_sz hg hr
    refine ⟨?_, ?_, ?_, ?_⟩
    · have := hall (w.1 + 1) w.2
      unfold nr_le lx_ at this
      dsimp only at this
      omega
    · have := hall (w.1 - 1) w.2
      unfold nr_le lx_ at this
      dsimp only at this
      omega
    · have := hall w.1 (w.2 + 1)
      unfold nr_le lx_ at this
      dsimp only at this
      omega
    · have := hall w.1 (w.2 - 1)
      unfold nr_le lx_ at this
      dsimp only at this
      omega
  · rintro u v ⟨m, n, rfl, rfl⟩
    exact hall m n
/-- the sixteen lie near enough -/
theorem nn_bd {E m A i : Int} (hE : 0 < E) (h : i - 1 ≤ m ∧ m ≤ i + 2) (h1 : i * E ≤ A) (h2 : A < (i + 1) * E) : -(2 * E) ≤ m * E - A ∧ m * E - A ≤ 2 * E := by
  have a := Int.mul_nonneg (show 0 ≤ m - i + 1 by omega) (show 0 ≤ E by omega)
  have e : (m - i + 1) * E = m * E - i * E + E := by grind
  have b := Int.mul_nonneg (show 0 ≤ i + 2 - m by omega) (show 0 ≤ E by omega)
  have f : (i + 2 - m) * E = i * E + 2 * E - m * E := by grind
  have g : (i + 1) * E = i * E + E := by grind
  constructor <;> omega
theorem nn_cn {E w δ ε p q : Int} (hE : 0 < E) (hw : E * w = δ * p + ε * q) (hd : -(2 * E) ≤ δ ∧ δ ≤ 2 * E) (he : -(2 * E) ≤ ε ∧ ε ≤ 2 * E) (hp : -42 ≤ p ∧ p ≤ 42) (hq : -42 ≤ q ∧ q ≤ 42) : -168 ≤ w ∧ w ≤ 168 := by
  have b1 := zm_b (U := 2 * E) (V := 42) hd hp
  have b2 := zm_b (U := 2 * E) (V := 42) he hq
  constructor
  · apply Int.not_lt.mp
    intro z
    have c := Int.mul_pos hE (show 0 < -168 - w by omega)
    have e2 : E * (-168 - w) = -(168 * E) - E * w := by grind
    omega
  · apply Int.not_lt.mp
    intro z
    have c := Int.mul_pos hE (show 0 < w - 168 by omega)
    have e2 : E * (w - 168) = E * w - 168 * E := by grind
    omega
theorem nn_ds {px py qx qy s : Int} {x y i j m n : Int} (hg : ll_gd px py qx qy) (hs : s * s = 1) (hE : 0 < s * (px * qy - py * qx))
    (hi1 : i * (s * (px * qy - py * qx)) ≤ s * (x * qy - y * qx)) (hi2 : s * (x * qy - y * qx) < (i + 1) * (s * (px * qy - py * qx)))
    (hj1 : j * (s * (px * qy - py * qx)) ≤ s * (px * y - py * x)) (hj2 : s * (px * y - py * x) < (j + 1) * (s * (px * qy - py * qx)))
    (hm : i - 1 ≤ m ∧ m ≤ i + 2) (hn : j - 1 ≤ n ∧ n ≤ j + 2) : (-168 ≤ m * px + n * qx - x ∧ m * px + n * qx - x ≤ 168) ∧ (-168 ≤ m * py + n * qy - y ∧ m * py + n * qy - y ≤ 168) := by
  have hd := nn_bd hE hm hi1 hi2
  have he := nn_bd hE hn hj1 hj2
  obtain ⟨p1, p2⟩ := ll_cd hg.2.1
  obtain ⟨q1, q2⟩ := ll_cd hg.2.2
  constructor
  · exact nn_cn hE (by grind) hd he p1 q1
  · exact nn_cn hE (by grind) hd he p2 q2
theorem un_ {k l : Int} (h : k * l = 1) : l = 1 ∨ l = -1 := by
  have hl : l ≠ 0 := by
    intro z
    rw [z] at h
    simp at h
  have hk : k ≠ 0 := by
    intro z
    rw [z] at h
    simp at h
  have a := sq_pos hk
  have c : l * l ≤ 1 := by
    apply Int.not_lt.mp
    intro z
    have d := Int.mul_nonneg (show 0 ≤ k * k - 1 by omega) (show 0 ≤ l * l by omega)
    have e : (k * k - 1) * (l * l) = k * l * (k * l) - l * l := by grind
    rw [h] at e
    omega
  have := sq_le (x := l) (N := 1) (M := 2) (by omega) (by omega) (by omega)
  omega
/-- two grids, the second within the first: the same if and only if their cells are equally large -/
theorem sa_iff {a b c d e f g h : Int} (hD : a * d - b * c ≠ 0) (hE : e * h - f * g ≠ 0) (h1 : ll_lat a b c d e f) (h2 : ll_lat a b c d g h) :
    (ll_lat e f g h a b ∧ ll_lat e f g h c d) ↔ (a * d - b * c = e * h - f * g ∨ a * d - b * c = -(e * h - f * g)) := by
  obtain ⟨m1, n1, rfl, rfl⟩ := h1
  obtain ⟨m2, n2, rfl, rfl⟩ := h2
  have e1 : (m1 * a + n1 * c) * (m2 * b + n2 * d) - (m1 * b + n1 * d) * (m2 * a + n2 * c) = (m1 * n2 - n1 * m2) * (a * d - b * c) := by grind
  constructor
  · rintro ⟨⟨k1, l1, e2, e3⟩, ⟨k2, l2, e4, e5⟩⟩
    have e6 : a * d - b * c = (k1 * l2 - l1 * k2) * ((m1 * n2 - n1 * m2) * (a * d - b * c)) := by
      rw [← e1]
      grind
    have e7 : (k1 * l2 - l1 * k2) * (m1 * n2 - n1 * m2) = 1 := by
      apply Int.eq_of_mul_eq_mul_right hD
      rw [Int.mul_assoc, ← e6, Int.one_mul]
    rw [e1]
    rcases un_ e7 with z | z
    · left
      rw [z, Int.one_mul]
    · right
      rw [z]
      omega
  · intro hh
    rw [e1] at hh
    have e7 : (m1 * n2 - n1 * m2) = 1 ∨ (m1 * n2 - n1 * m2) = -1 := by
      rcases hh with z | z
      · left
        apply Int.eq_of_mul_eq_mul_right hD
        omega
      · right
        apply Int.eq_of_mul_eq_mul_right hD
        omega
    rcases e7 with z | z
    · exact ⟨⟨n2, -n1, by grind, by grind⟩, ⟨-m2, m1, by grind, by grind⟩⟩
    · exact ⟨⟨-n2, n1, by grind, by grind⟩, ⟨m2, -m1, by grind, by grind⟩⟩
end
section
noncomputable def ct_g (px py qx qy : Int) (Pr : Int → Int → Prop) (x y i j : Int) : Int := zc_ (Pr x y ∧ x = i * px + j * qx ∧ y = i * py + j * qy)
theorem ct_A {px py qx qy : Int} (hD : px * qy - py * qx ≠ 0) (Pr : Int → Int → Prop) (l2 : Int) (M : Nat)
    (h : ∀ i j, Pr (i * px + j * qx) (i * py + j * qy) → (l2 ≤ i ∧ i < l2 + M) ∧ (l2 ≤ j ∧ j < l2 + M)) (x y : Int) :
    zc_ (Pr x y ∧ ll_lat px py qx qy x y) = sm_ (fun j => sm_ (fun i => ct_g px py qx qy Pr x y i j) l2 M) l2 M := by
  rcases Classical.em (Pr x y ∧ ll_lat px py qx qy x y) with hh | hh
  · rw [zc_t hh]
    obtain ⟨hp, i, j, rfl, rfl⟩ := hh
    obtain ⟨hi, hj⟩ := h i j hp
    have e1 : ∀ l, l ≠ j → (fun j' => sm_ (fun i' => ct_g px py qx qy Pr (i * px + j * qx) (i * py + j * qy) i' j') l2 M) l = 0 := by
      intro l hl
      apply sm_zero
      intro k _ _
      exact zc_f (fun z => hl (ll_uq hD z.2.1 z.2.2).2.symm)
    have e2 : ∀ k, k ≠ i → (fun i' => ct_g px py qx qy Pr (i * px + j * qx) (i * py + j * qy) i' j) k = 0 := by
      intro k hk
      exact zc_f (fun z => hk (ll_uq hD z.2.1 z.2.2).1.symm)
    rw [sm_one hj.1 hj.2 e1]
    rw [sm_one hi.1 hi.2 e2]
    exact (zc_t ⟨hp, rfl, rfl⟩).symm
  · rw [zc_f hh]
    symm
    apply sm_zero
    intro j _ _
    apply sm_zero
    intro i _ _
    exact zc_f (fun z => hh ⟨z.1, i, j, z.2.1, z.2.2⟩)
theorem ct_B {px py qx qy : Int} (Pr : Int → Int → Prop) (lo : Int) (N : Nat) (i j : Int)
    (h : Pr (i * px + j * qx) (i * py + j * qy) → (lo ≤ i * px + j * qx ∧ i * px + j * qx < lo + N) ∧ (lo ≤ i * py + j * qy ∧ i * py + j * qy < lo + N)) :
    sm_ (fun x => sm_ (fun y => ct_g px py qx qy Pr x y i j) lo N) lo N = zc_ (Pr (i * px + j * qx) (i * py + j * qy)) := by
  rcases Classical.em (Pr (i * px + j * qx) (i * py + j * qy)) with hh | hh
  · rw [zc_t hh]
    obtain ⟨hx, hy⟩ := h hh
    have e1 : ∀ x, x ≠ i * px + j * qx → (fun x' => sm_ (fun y' => ct_g px py qx qy Pr x' y' i j) lo N) x = 0 := by
      intro x hl
      apply sm_zero
      intro k _ _
      exact zc_f (fun z => hl z.2.1)
    have e2 : ∀ y, y ≠ i * py + j * qy → (fun y' => ct_g px py qx qy Pr (i * px + j * qx) y' i j) y = 0 := by
      intro k hk
      exact zc_f (fun z => hk z.2.2)
    rw [sm_one hx.1 hx.2 e1]
    rw [sm_one hy.1 hy.2 e2]
    exact zc_t ⟨hh, rfl, rfl⟩
  · rw [zc_f hh]
    apply sm_zero
    intro x _ _
    apply sm_zero
    intro y _ _
    apply zc_f
    rintro ⟨z1, z2, z3⟩
    rw [z2, z3] at z1
    exact hh z1
/-- the points of the grid in a box, counted by their multiples -/
theorem ct_tr {px py qx qy : Int} (hD : px * qy - py * qx ≠ 0) (Pr : Int → Int → Prop) (lo l2 : Int) (N M : Nat)
    (h : ∀ i j, Pr (i * px + j * qx) (i * py + j * qy) → (l2 ≤ i ∧ i < l2 + M) ∧ (l2 ≤ j ∧ j < l2 + M))
    (h' : ∀ i j, Pr (i * px + j * qx) (i * py + j * qy) → (lo ≤ i * px + j * qx ∧ i * px + j * qx < lo + N) ∧ (lo ≤ i * py + j * qy ∧ i * py + j * qy < lo + N)) :
    sm_ (fun x => sm_ (fun y => zc_ (Pr x y ∧ ll_lat px py qx qy x y)) lo N) lo N = sm_ (fun j => sm_ (fun i => zc_ (Pr (i * px + j * qx) (i * py + j * qy))) l2 M) l2 M :=
  calc
    sm_ (fun x => sm_ (fun y => zc_ (Pr x y ∧ ll_lat px py qx qy x y)) lo N) lo N
      = sm_ (fun x => sm_ (fun y => sm_ (fun j => sm_ (fun i => ct_g px py qx qy Pr x y i j) l2 M) l2 M) lo N) lo N :=
        sm_congr (fun x _ _ => sm_congr (fun y _ _ => ct_A hD Pr l2 M h x y))
    _ = sm_ (fun x => sm_ (fun j => sm_ (fun y => sm_ (fun i => ct_g px py qx qy Pr x y i j) l2 M) lo N) l2 M) lo N :=
        sm_congr (fun x _ _ => sm_comm (fun y j => sm_ (fun i => ct_g px py qx qy Pr x y i j) l2 M) lo l2 M N)
    _ = sm_ (fun j => sm_ (fun x => sm_ (fun y => sm_ (fun i => ct_g px py qx qy Pr x y i j) l2 M) lo N) lo N) l2 M :=
        sm_comm (fun x j => sm_ (fun y => sm_ (fun i => ct_g px py qx qy Pr x y i j) l2 M) lo N) lo l2 M N
    _ = sm_ (fun j => sm_ (fun x => sm_ (fun i => sm_ (fun y => ct_g px py qx qy Pr x y i j) lo N) l2 M) lo N) l2 M :=
        sm_congr (fun j _ _ => sm_congr (fun x _ _ => sm_comm (fun y i => ct_g px py qx qy Pr x y i j) lo l2 M N))
    _ = sm_ (fun j => sm_ (fun i => sm_ (fun x => sm_ (fun y => ct_g px py qx qy Pr x y i j) lo N) lo N) l2 M) l2 M :=
        sm_congr (fun j _ _ => sm_comm (fun x i => sm_ (fun y => ct_g px py qx qy Pr x y i j) lo N) lo l2 M N)
    _ = sm_ (fun j => sm_ (fun i => zc_ (Pr (i * px + j * qx) (i * py + j * qy))) l2 M) l2 M :=
        sm_congr (fun j _ _ => sm_congr (fun i _ _ => ct_B Pr lo N i j (h' i j)))
/-- how many points are as short as the shortest -/
theorem ct_many {px py qx qy : Int} (hg : ll_gd px py qx qy) (hr : ll_rd px py qx qy) :
    sm_ (fun x => sm_ (fun y => zc_ (x * x + y * y = px * px + py * py ∧ ll_lat px py qx qy x y)) (-43) 87) (-43) 87
      = 2 + 2 * zc_ (qx * qx + qy * qy = px * px + py * py) + 2 * zc_ ((px + qx) * (px + qx) + (py + qy) * (py + qy) = px * px + py * py)
        + 2 * zc_ ((px - qx) * (px - qx) + (py - qy) * (py - qy) = px * px + py * py) := by
  have hp := (ll_pos hg.1).1
  have hp2 := hg.2.1
  rw [ct_tr hg.1 (fun x y => x * x + y * y = px * px + py * py) (-43) (-1) 87 3]
  · have f1 : zc_ ((-1 * px + -1 * qx) * (-1 * px + -1 * qx) + (-1 * py + -1 * qy) * (-1 * py + -1 * qy) = px * px + py * py) = zc_ ((px + qx) * (px + qx) + (py + qy) * (py + qy) = px * px + py * py) :=
      zc_iff (by rw [show (-1 * px + -1 * qx) * (-1 * px + -1 * qx) + (-1 * py + -1 * qy) * (-1 * py + -1 * qy) = (px + qx) * (px + qx) + (py + qy) * (py + qy) by grind])
    have f2 : zc_ ((0 * px + -1 * qx) * (0 * px + -1 * qx) + (0 * py + -1 * qy) * (0 * py + -1 * qy) = px * px + py * py) = zc_ (qx * qx + qy * qy = px * px + py * py) :=
      zc_iff (by rw [show (0 * px + -1 * qx) * (0 * px + -1 * qx) + (0 * py + -1 * qy) * (0 * py + -1 * qy) = qx * qx + qy * qy by grind])
    have f3 : zc_ ((1 * px + -1 * qx) * (1 * px + -1 * qx) + (1 * py + -1 * qy) * (1 * py + -1 * qy) = px * px + py * py) = zc_ ((px - qx) * (px - qx) + (py - qy) * (py - qy) = px * px + py * py) :=
      zc_iff (by rw [show (1 * px + -1 * qx) * (1 * px + -1 * qx) + (1 * py + -1 * qy) * (1 * py + -1 * qy) = (px - qx) * (px - qx) + (py - qy) * (py - qy) by grind])
    have f4 : zc_ ((-1 * px + 0 * qx) * (-1 * px + 0 * qx) + (-1 * py + 0 * qy) * (-1 * py + 0 * qy) = px * px + py * py) = 1 := zc_t (by grind)
    have f5 : zc_ ((0 * px + 0 * qx) * (0 * px + 0 * qx) + (0 * py + 0 * qy) * (0 * py + 0 * qy) = px * px + py * py) = 0 := zc_f (by
      rw [show (0 * px + 0 * qx) * (0 * px + 0 * qx) + (0 * py + 0 * qy) * (0 * py + 0 * qy) = 0 by grind]
      omega)
    have f6 : zc_ ((1 * px + 0 * qx) * (1 * px + 0 * qx) + (1 * py + 0 * qy) * (1 * py + 0 * qy) = px * px + py * py) = 1 := zc_t (by grind)
    have f7 : zc_ ((-1 * px + 1 * qx) * (-1 * px + 1 * qx) + (-1 * py + 1 * qy) * (-1 * py + 1 * qy) = px * px + py * py) = zc_ ((px - qx) * (px - qx) + (py - qy) * (py - qy) = px * px + py * py) :=
      zc_iff (by rw [show (-1 * px + 1 * qx) * (-1 * px + 1 * qx) + (-1 * py + 1 * qy) * (-1 * py + 1 * qy) = (px - qx) * (px - qx) + (py - qy) * (py - qy) by grind])
    have f8 : zc_ ((0 * px + 1 * qx) * (0 * px + 1 * qx) + (0 * py + 1 * qy) * (0 * py + 1 * qy) = px * px + py * py) = zc_ (qx * qx + qy * qy = px * px + py * py) :=
      zc_iff (by rw [show (0 * px + 1 * qx) * (0 * px + 1 * qx) + (0 * py + 1 * qy) * (0 * py + 1 * qy) = qx * qx + qy * qy by grind])
    have f9 : zc_ ((1 * px + 1 * qx) * (1 * px + 1 * qx) + (1 * py + 1 * qy) * (1 * py + 1 * qy) = px * px + py * py) = zc_ ((px + qx) * (px + qx) + (py + qy) * (py + qy) = px * px + py * py) :=
      zc_iff (by rw [show (1 * px + 1 * qx) * (1 * px + 1 * qx) + (1 * py + 1 * qy) * (1 * py + 1 * qy) = (px + qx) * (px + qx) + (py + qy) * (py + qy) by grind])
    have g : ∀ f : Int → Int → Int, sm_ (fun j => sm_ (fun i => f i j) (-1) 3) (-1) 3 = f (-1) (-1) + f 0 (-1) + f 1 (-1) + (f (-1) 0 + f 0 0 + f 1 0) + (f (-1) 1 + f 0 1 + f 1 1) := by
      intro f
      show 0 + (0 + f (-1) (-1) + f 0 (-1) + f 1 (-1)) + (0 + f (-1) 0 + f 0 0 + f 1 0) + (0 + f (-1) 1 + f 0 1 + f 1 1) = _
      omega
    rw [g (fun i j => zc_ ((i * px + j * qx) * (i * px + j * qx) + (i * py + j * qy) * (i * py + j * qy) = px * px + py * py))]
    rw [f1, f2, f3, f4, f5, f6, f7, f8, f9]
    omega
  · intro i j e
    rw [ll_form] at e
    have := fm_1 (by omega) hr.1 hr.2.1 hr.2.2 e
    omega
  · intro i j e
    have := ll_cd (x := i * px + j * qx) (y := i * py + j * qy) (by omega)
    omega
theorem ct_PF (P Q R i j : Int) : P * (i * i * P + 2 * (i * j) * R + j * j * Q) = (i * P + j * R) * (i * P + j * R) + j * j * (P * Q - R * R) := by grind
theorem ct_c {P Q R D i j M : Int} (hP : 0 < P) (hG : P * Q - R * R = D * D) :
    i * i * P + 2 * (i * j) * R + j * j * Q ≤ M ↔ (i * P + j * R) * (i * P + j * R) ≤ P * M - j * D * (j * D) := by
  have e := ct_PF P Q R i j
  rw [hG] at e
  have e2 : j * j * (D * D) = j * D * (j * D) := by grind
  constructor
  · intro h
    have := Int.mul_le_mul_of_nonneg_left h (Int.le_of_lt hP)
    omega
  · intro h
    refine Int.le_of_mul_le_mul_left (a := P) ?_ hP
    omega
theorem ct_r0 {P Q R D j M : Int} (hP : 0 < P) (hG : P * Q - R * R = D * D) (h : P * M - j * D * (j * D) < 0) :
    sm_ (fun i => zc_ (i * i * P + 2 * (i * j) * R + j * j * Q ≤ M)) (-40) 81 = 0 := by
  apply sm_zero
  intro i _ _
  apply zc_f
  rw [ct_c hP hG]
  have := sq_nn (i * P + j * R)
  omega
theorem ct_ri {P R s X i j : Int} (hP : 0 < P) (h0 : 0 ≤ s) (h1 : s * s ≤ X) (h2 : X < (s + 1) * (s + 1)) :
    (i * P + j * R) * (i * P + j * R) ≤ X ↔ ((-j * R - s + P - 1) / P ≤ i ∧ i ≤ (-j * R + s) / P) := by
  have e1 : -j * R = -(j * R) := by grind
  have e2 : (i + 1) * P = i * P + P := by grind
  rw [Int.le_ediv_iff_mul_le hP, ← Int.lt_add_one_iff (a := (-j * R - s + P - 1) / P), Int.ediv_lt_iff_lt_mul hP, e1, e2]
  constructor
  · intro h
    have := sq_le (x := i * P + j * R) (N := s) h0 (Int.lt_of_le_of_lt h h2) (Int.le_refl _)
    omega
  · intro h
    have := zm_b (u := i * P + j * R) (v := i * P + j * R) (U := s) (V := s) (by omega) (by omega)
    omega
theorem ct_r1 {P Q R D s j M : Int} (hP : 0 < P) (hPQ : P ≤ Q) (hR1 : -P ≤ 2 * R) (hR2 : 2 * R ≤ P) (hM : M ≤ 900) (hG : P * Q - R * R = D * D) (h0 : 0 ≤ s) (h1 : s * s ≤ P * M - j * D * (j * D)) (h2 : P * M - j * D * (j * D) < (s + 1) * (s + 1)) :
    sm_ (fun i => zc_ (i * i * P + 2 * (i * j) * R + j * j * Q ≤ M)) (-40) 81 = if (-j * R + s) / P < (-j * R - s + P - 1) / P then 0 else (-j * R + s) / P - (-j * R - s + P - 1) / P + 1 := by
  have hi : ∀ i, i * i * P + 2 * (i * j) * R + j * j * Q ≤ M ↔ ((-j * R - s + P - 1) / P ≤ i ∧ i ≤ (-j * R + s) / P) := by
    intro i
    rw [ct_c hP hG]
    exact ct_ri hP h0 h1 h2
  have hb : ∀ i, ((-j * R - s + P - 1) / P ≤ i ∧ i ≤ (-j * R + s) / P) → -40 ≤ i ∧ i ≤ 40 := by
    intro i h
    have h3 := (hi i).mpr h
    exact (fm_9 hP hPQ hR1 hR2 (Int.le_trans h3 hM)).1
  rw [sm_congr (g := fun i => zc_ ((-j * R - s + P - 1) / P ≤ i ∧ i ≤ (-j * R + s) / P)) (fun i _ _ => zc_iff (hi i))]
  revert hb
  generalize (-j * R - s + P - 1) / P = A
  generalize (-j * R + s) / P = B
  intro hb
  split
  · apply sm_zero
    intro x _ _
    apply zc_f
    omega
  · have b1 := hb A (by omega)
    have b2 := hb B (by omega)
    rw [sm_iv A B (-40) (by omega) (by omega) 81]
    split
    · omega
    · split <;> omega
/-- within: the box by rows of multiples -/
theorem ct_within {px py qx qy M : Int} (hg : ll_gd px py qx qy) (hr : ll_rd px py qx qy) (hM : M ≤ 900) :
    sm_ (fun x => sm_ (fun y => zc_ (x * x + y * y ≤ M ∧ ll_lat px py qx qy x y)) (-30) 61) (-30) 61
      = sm_ (fun j => sm_ (fun i => zc_ (i * i * (px * px + py * py) + 2 * (i * j) * (px * qx + py * qy) + j * j * (qx * qx + qy * qy) ≤ M)) (-40) 81) (-40) 81 := by
  have hp := (ll_pos hg.1).1
  rw [ct_tr hg.1 (fun x y => x * x + y * y ≤ M) (-30) (-40) 61 81]
  · apply sm_congr
    intro j _ _
    apply sm_congr
    intro i _ _
    rw [ll_form]
  · intro i j e
    rw [ll_form] at e
    have := fm_9 (by omega) hr.1 hr.2.1 hr.2.2 (Int.le_trans e hM)
    omega
  · intro i j e
    have a1 := sq_nn (i * px + j * qx)
    have a2 := sq_nn (i * py + j * qy)
    have b1 := sq_le (x := i * px + j * qx) (N := 30) (M := 901) (by omega) (by omega) (by omega)
    have b2 := sq_le (x := i * py + j * qy) (N := 30) (M := 901) (by omega) (by omega) (by omega)
    omega
end
section
theorem zb_iff {c c' A B : Prop} (e : c ↔ c') (f : c' → A) (g : ¬ c' → B) : (c → A) ∧ (¬ c → B) := ⟨fun h => f (e.mp h), fun h => g (fun z => h (e.mpr z))⟩
theorem fd_q {A D : Int} (hD : 0 < D) : (A.tdiv D = A / D ∧ 0 ≤ A - A.tdiv D * D ∧ A - A.tdiv D * D < D) ∨ (A.tdiv D = A / D + 1 ∧ A - A.tdiv D * D < 0 ∧ -D ≤ A - A.tdiv D * D) := by
  have h1 := Int.ediv_mul_le A (b := D) (by omega)
  have h2 := Int.lt_ediv_add_one_mul_self A hD
  have e : (A / D + 1) * D = A / D * D + D := by grind
  rw [Int.tdiv_eq_ediv]
  split
  · left
    rw [Int.add_zero]
    omega
  · right
    rw [Int.sign_eq_one_of_pos hD]
    omega
theorem xx_fd {post : Int32 → Prop} {A D : Int} (hA : zr_ A) (hD : 0 < D) (hD2 : D ≤ 2147483647) (h : post (zi_ (A / D))) : wpX_floorDivide post (zi_ A) (zi_ D) := by
  have hDr : zr_ D := by omega
  have n0 : ¬ zi_ D = zi_ 0 := by
    rw [zi_eq hDr (by omega)]
    omega
  unfold wpX_floorDivide
  simp only [zi_div hA hDr, zi_mul, zi_sub, zi_0, zi_1]
  refine ⟨n0, nm_e ⟨n0, ?_⟩⟩
  rcases fd_q (A := A) hD with ⟨q1, q2, q3⟩ | ⟨q1, q2, q3⟩
  · refine zb_le (by omega) (by omega) (fun _ => ?_) (fun z => by omega)
    rw [q1]
    exact h
  · refine zb_le (by omega) (by omega) (fun z => by omega) (fun _ => ?_)
    simp only [zi_sub]
    rw [q1, Int.add_sub_cancel]
    exact h
theorem rm_iff {A D : Int} (hA : -2000000 ≤ A ∧ A ≤ 2000000) (hD : zr_ D) : zi_ A - zi_ A / zi_ D * zi_ D = zi_ 0 ↔ D ∣ A := by
  have e : A - A.tdiv D * D = A.tmod D := by rw [Int.tmod_def, Int.mul_comm]
  have hm : (A.tmod D).natAbs ≤ A.natAbs := by
    rw [Int.natAbs_tmod]
    exact Nat.mod_le _ _
  rw [zi_div (by omega) hD, zi_mul, zi_sub, e, zi_eq (by omega) (by omega), Int.dvd_iff_tmod_eq_zero]
theorem in_bd {a b c d x y : Int} (hk : ll_ok a b c d) (hx : -2000 ≤ x ∧ x ≤ 2000) (hy : -2000 ≤ y ∧ y ≤ 2000) :
    (-2000000 ≤ x * d - y * c ∧ x * d - y * c ≤ 2000000) ∧ (-2000000 ≤ y * a - x * b ∧ y * a - x * b ≤ 2000000) := by
  obtain ⟨ha, hb, hc, hd, _⟩ := hk
  have h1 := zm_b hx hd
  have h2 := zm_b hy hc
  have h3 := zm_b hy ha
  have h4 := zm_b hx hb
  omega
theorem yy_in {post : Int32 → Prop} {a b c d x y : Int} (hk : ll_ok a b c d) (hx : -2000 ≤ x ∧ x ≤ 2000) (hy : -2000 ≤ y ∧ y ≤ 2000)
    (h1 : ll_lat a b c d x y → post (zi_ 1)) (h0 : ¬ ll_lat a b c d x y → post (zi_ 0)) : wpY_in post (zi_ x) (zi_ y) (zi_ a) (zi_ b) (zi_ c) (zi_ d) := by
  have hD := ll_det hk
  have hD0 : a * d - b * c ≠ 0 := hk.2.2.2.2
  obtain ⟨b1, b2⟩ := in_bd hk hx hy
  have n0 : ¬ zi_ (a * d - b * c) = zi_ 0 := by
    rw [zi_eq (by omega) (by omega)]
    exact hD0
  unfold wpY_in
  simp only [zi_mul, zi_sub, zi_0, zi_1]
  refine nm_e (br_f n0 ⟨n0, zb_iff (rm_iff b1 (by omega)) (fun d1 => ⟨n0, zb_iff (rm_iff b2 (by omega)) (fun d2 => h1 ((ll_iff hD0).mp ⟨d1, d2⟩)) (fun d2 => h0 (fun z => d2 ((ll_iff hD0).mpr z).2))⟩) (fun d1 => h0 (fun z => d1 ((ll_iff hD0).mpr z).1))⟩)
theorem zb_n1 : narrow .boolean (.int (zi_ 1)) = .int (zi_ 1) := by
  rw [← zi_1]
  exact narrow_b1
theorem zb_n0 : narrow .boolean (.int (zi_ 0)) = .int (zi_ 0) := by
  rw [← zi_0]
  exact narrow_b0
theorem yy_pt {post : Int32 → Prop} {a b c d x y : Int} {nu nv aw : Int32} (hk : ll_ok a b c d) (hx : -2000 ≤ x ∧ x ≤ 2000) (hy : -2000 ≤ y ∧ y ≤ 2000)
    (h1 : ll_lat a b c d x y → post (zi_ 1)) (h0 : ¬ ll_lat a b c d x y → post (zi_ 0)) : wpY_isPoint post (zi_ a, zi_ b, zi_ c, zi_ d, nu, nv, aw) (zi_ x) (zi_ y) := by
  unfold wpY_isPoint
  exact yy_in hk hx hy (fun h => ⟨zb_n1, h1 h⟩) (fun h => ⟨zb_n0, h0 h⟩)
theorem xx_pt {post : Int32 → Prop} {a b c d x y : Int} {f1 f2 f3 f4 f5 f6 f7 : Int32} (hk : ll_ok a b c d) (hx : -2000 ≤ x ∧ x ≤ 2000) (hy : -2000 ≤ y ∧ y ≤ 2000)
    (h1 : ll_lat a b c d x y → post (zi_ 1)) (h0 : ¬ ll_lat a b c d x y → post (zi_ 0)) : wpX_isPoint post (zi_ a, zi_ b, zi_ c, zi_ d, f1, f2, f3, f4, f5, f6, f7) (zi_ x) (zi_ y) := by
  have hD := ll_det hk
  have hD0 : a * d - b * c ≠ 0 := hk.2.2.2.2
  obtain ⟨b1, b2⟩ := in_bd hk hx hy
  have n0 : ¬ zi_ (a * d - b * c) = zi_ 0 := by
    rw [zi_eq (by omega) (by omega)]
    exact hD0
  have e : a * y - b * x = y * a - x * b := by grind
  unfold wpX_isPoint
  simp only [zi_mul, zi_sub, zi_0, zi_1]
  rw [e]
  refine nm_e (br_f n0 ⟨n0, zb_iff (rm_iff b1 (by omega)) (fun d1 => ⟨n0, zb_iff (rm_iff b2 (by omega)) (fun d2 => h1 ((ll_iff hD0).mp ⟨d1, d2⟩)) (fun d2 => h0 (fun z => d2 ((ll_iff hD0).mpr z).2))⟩) (fun d1 => h0 (fun z => d1 ((ll_iff hD0).mpr z).1))⟩)
theorem xx_as {post : Int32 → Prop} {a b c d : Int} (ra : zr_ a) (rb : zr_ b) (rc : zr_ c) (rd : zr_ d)
    (h1 : ll_ok a b c d → post (zi_ 1)) (h0 : ¬ ll_ok a b c d → post (zi_ 0)) : wpX_areSteps post (zi_ a) (zi_ b) (zi_ c) (zi_ d) := by
  unfold wpX_areSteps wX_areSteps_28 wX_areSteps_29 wX_areSteps_64 wX_areSteps_65
  simp only [zi_mul, zi_sub, zi_0, zi_1, zi_30, zi_neg]
  rcases Classical.em ((-30 ≤ a ∧ a ≤ 30) ∧ (-30 ≤ b ∧ b ≤ 30) ∧ (-30 ≤ c ∧ c ≤ 30) ∧ (-30 ≤ d ∧ d ≤ 30)) with hk | hk
  · have m1 := zm_b (U := 30) (V := 30) hk.1 hk.2.2.2
    have m2 := zm_b (U := 30) (V := 30) hk.2.1 hk.2.2.1
    have n30 : ∀ {z : Int}, (-30 ≤ z ∧ z ≤ 30) → ¬ zi_ z < zi_ (-30) := by
      intro z hz
      rw [zi_lt (by omega) (by omega)]
      omega
    have p30 : ∀ {z : Int}, (-30 ≤ z ∧ z ≤ 30) → ¬ zi_ 30 < zi_ z := by
      intro z hz
      rw [zi_lt (by omega) (by omega)]
      omega
    refine br_f (n30 hk.1) (br_f (p30 hk.1) (br_f (n30 hk.2.1) (br_f (p30 hk.2.1) (br_f zn_10 (br_f (n30 hk.2.2.1) (br_f (p30 hk.2.2.1) (br_f (n30 hk.2.2.2) (br_f (p30 hk.2.2.2) (br_f zn_10 (zb_eq (by omega) (by omega) (fun z => ?_) (fun z => ?_)))))))))))
    · exact h0 (fun h => h.2.2.2.2 z)
    · exact h1 ⟨hk.1, hk.2.1, hk.2.2.1, hk.2.2.2, z⟩
  · have hn : post (zi_ 0) := h0 (fun h => hk ⟨h.1, h.2.1, h.2.2.1, h.2.2.2.1⟩)
    have z0 : (True → post (zi_ 0)) ∧ (¬ True → ((zi_ (a * d - b * c) = zi_ 0 → post (zi_ 0)) ∧ (¬ zi_ (a * d - b * c) = zi_ 0 → post (zi_ 1)))) := br_t trivial hn
    refine zb_lt ra (by omega) (fun _ => br_t trivial z0) (fun a1 => ?_)
    refine zb_lt (by omega) ra (fun _ => br_t trivial z0) (fun a2 => ?_)
    refine zb_lt rb (by omega) (fun _ => br_t trivial z0) (fun b1 => ?_)
    refine zb_lt (by omega) rb (fun _ => br_t trivial z0) (fun b2 => br_f zn_10 ?_)
    refine zb_lt rc (by omega) (fun _ => z0) (fun c1 => ?_)
    refine zb_lt (by omega) rc (fun _ => z0) (fun c2 => ?_)
    refine zb_lt rd (by omega) (fun _ => z0) (fun d1 => ?_)
    refine zb_lt (by omega) rd (fun _ => z0) (fun d2 => ?_)
    exact absurd ⟨⟨a1, a2⟩, ⟨b1, b2⟩, ⟨c1, c2⟩, ⟨d1, d2⟩⟩ hk
theorem yy_bad {post : Int32 → Prop} {a : Int} (ra : zr_ a) (h0 : (-30 ≤ a ∧ a ≤ 30) → post (zi_ 0)) (h1 : ¬ (-30 ≤ a ∧ a ≤ 30) → post (zi_ 1)) : wpY_bad post (zi_ a) := by
  unfold wpY_bad
  simp only [zi_0, zi_1, zi_30, zi_neg]
  exact zb_lt ra (by omega) (fun _ => h1 (by omega)) (fun _ => zb_le ra (by omega) (fun _ => h0 (by omega)) (fun _ => h1 (by omega)))
/-- what the reference asks before it takes steps -/
theorem yy_as {A B : Prop} {a b c d : Int} (ra : zr_ a) (rb : zr_ b) (rc : zr_ c) (rd : zr_ d) (h1 : ll_ok a b c d → A) (h0 : ¬ ll_ok a b c d → B) :
    wpY_bad (fun r_1 => ((r_1 = 0 → wpY_bad (fun r_3 => ((r_3 = 0 → wpY_bad (fun r_5 => ((r_5 = 0 → wpY_bad (fun r_7 => ((r_7 = 0 → ((((zi_ a * zi_ d) - (zi_ b * zi_ c)) = 0 → B) ∧ (¬ ((zi_ a * zi_ d) - (zi_ b * zi_ c)) = 0 → A))) ∧ (¬ r_7 = 0 → B))) (zi_ d)) ∧ (¬ r_5 = 0 → B))) (zi_ c)) ∧ (¬ r_3 = 0 → B))) (zi_ b)) ∧ (¬ r_1 = 0 → B))) (zi_ a) := by
  simp only [zi_mul, zi_sub, zi_0]
  refine yy_bad ra (fun ha => br_t rfl ?_) (fun ha => br_f zn_10 (h0 (fun h => ha h.1)))
  refine yy_bad rb (fun hb => br_t rfl ?_) (fun hb => br_f zn_10 (h0 (fun h => hb h.2.1)))
  refine yy_bad rc (fun hc => br_t rfl ?_) (fun hc => br_f zn_10 (h0 (fun h => hc h.2.2.1)))
  refine yy_bad rd (fun hd => br_t rfl ?_) (fun hd => br_f zn_10 (h0 (fun h => hd h.2.2.2.1)))
  have m1 := zm_b (U := 30) (V := 30) ha hd
  have m2 := zm_b (U := 30) (V := 30) hb hc
  exact zb_eq (by omega) (by omega) (fun z => h0 (fun h => h.2.2.2.2 z)) (fun z => h1 ⟨ha, hb, hc, hd, z⟩)
theorem xx_rg {post : Int32 → Prop} {x y : Int} (rx : zr_ x) (ry : zr_ y) (h1 : (-1000 ≤ x ∧ x ≤ 1000) ∧ (-1000 ≤ y ∧ y ≤ 1000) → post (zi_ 1)) (h0 : ¬ ((-1000 ≤ x ∧ x ≤ 1000) ∧ (-1000 ≤ y ∧ y ≤ 1000)) → post (zi_ 0)) : wpX_inRange post (zi_ x) (zi_ y) := by
  unfold wpX_inRange
  simp only [zi_0, zi_1, zi_1000, zi_neg]
  exact zb_lt rx (by omega) (fun _ => h0 (by omega)) (fun _ => zb_lt (by omega) rx (fun _ => h0 (by omega)) (fun _ => zb_lt ry (by omega) (fun _ => h0 (by omega)) (fun _ => zb_lt (by omega) ry (fun _ => h0 (by omega)) (fun _ => h1 (by omega)))))
theorem yy_far {post : Int32 → Prop} {x y : Int} (rx : zr_ x) (ry : zr_ y) (h1 : (-1000 ≤ x ∧ x ≤ 1000) ∧ (-1000 ≤ y ∧ y ≤ 1000) → post (zi_ 0)) (h0 : ¬ ((-1000 ≤ x ∧ x ≤ 1000) ∧ (-1000 ≤ y ∧ y ≤ 1000)) → post (zi_ 1)) : wpY_far post (zi_ x) (zi_ y) := by
  unfold wpY_far
  simp only [zi_0, zi_1, zi_1000, zi_neg]
  exact zb_lt rx (by omega) (fun _ => h0 (by omega)) (fun _ => zb_lt (by omega) rx (fun _ => h0 (by omega)) (fun _ => zb_lt ry (by omega) (fun _ => h0 (by omega)) (fun _ => zb_le ry (by omega) (fun _ => h1 (by omega)) (fun _ => h0 (by omega)))))
theorem ro_lp {post : Int32 → Prop} {X : Int} (hX : 0 ≤ X ∧ X ≤ 2147483647) (h : ∀ s : Int, 0 ≤ s → s ≤ 65536 → s * s ≤ X → X < (s + 1) * (s + 1) → post (zi_ s)) :
    ∀ (k : Nat) (r B : Int), B = 2 ^ k → 0 ≤ r → r + B ≤ 65536 → r * r ≤ X → X < (r + B) * (r + B) → ∀ n, k < n → wX_rootOf_5 post (zi_ X) n (zi_ r) (zi_ (B / 2)) := by
  intro k
  induction k with
  | zero =>
    intro r B hB h0 h1 h2 h3 n hn
    obtain ⟨n, rfl⟩ : ∃ n', n = n' + 1 := ⟨n - 1, by omega⟩
    have e : B = 1 := hB
    subst e
    rw [wX_rootOf_5]
    simp only [zi_0]
    exact zb_le (by omega) (by omega) (fun _ => h r h0 (by omega) h2 h3) (fun z => by omega)
  | succ k ih =>
    intro r B hB h0 h1 h2 h3 n hn
    obtain ⟨n, rfl⟩ : ∃ n', n = n' + 1 := ⟨n - 1, by omega⟩
    have hC : ∃ C : Int, C = 2 ^ k ∧ B = 2 * C := ⟨2 ^ k, rfl, by rw [hB, Int.pow_succ]; omega⟩
    obtain ⟨C, hC1, hC2⟩ := hC
    have hC0 : 0 < C := by
      rw [hC1]
      exact Int.pow_pos (by omega)
    have hB2 : B / 2 = C := by omega
    have hd : C.tdiv 2 = C / 2 := Int.tdiv_eq_ediv_of_nonneg (by omega)
    rw [hB2]
    have t1 := zm_b (U := 65536) (V := 65536) (u := r + C) (v := r + C) (by omega) (by omega)
    rw [wX_rootOf_5]
    simp only [zi_0, zi_2, zi_add]
    refine zb_le (by omega) (by omega) (fun z => by omega) (fun _ => ?_)
    rw [zi_l (a := r + C) (by omega), zi_l (a := X) (by omega), zi_div (a := C) (b := 2) (by omega) (by omega), hd]
    refine nm_e ?_
    simp only [zl_mul]
    refine zb_ltl (by omega) (by omega) (fun z => ⟨zn_20, nm_e ?_⟩) (fun z => nm_e ⟨zn_20, nm_e ?_⟩)
    · exact ih r C hC1 h0 (by omega) h2 z n (by omega)
    · exact ih (r + C) C hC1 (by omega) (by omega) z (by rw [show r + C + C = r + B by omega]; exact h3) n (by omega)
theorem xx_root {post : Int32 → Prop} {X : Int} (hX : 0 ≤ X ∧ X ≤ 2147483647) (h : ∀ s : Int, 0 ≤ s → s ≤ 65536 → s * s ≤ X → X < (s + 1) * (s + 1) → post (zi_ s)) : wpX_rootOf post (zi_ X) := by
  unfold wpX_rootOf
  simp only [zi_0, zi_32768]
  exact ⟨17, ro_lp hX h 16 0 65536 (by decide) (by omega) (by omega) (by omega) (by omega) 17 (by omega)⟩
end
section
theorem xr_0 {post : SX → Prop} {J : Int32 → Int32 → Int32 → Int32 → Int32 → Int32 → Int32 → Int32 → Int32 → Int32 → Int32 → Int32 → Int32 → Prop} {r : Int} {x5 x6 a b c d p1 p2 q1 q2 bs bu bv : Int32}
    (h : J (zi_ 0) (zi_ (r + 1)) a b c d p1 p2 q1 q2 bs bu bv) : wX_reduce_173 post J (zi_ r) x5 x6 (zi_ 0) a b c d p1 p2 q1 q2 bs bu bv :=
  br_t zi_0.symm (nm_r (by rw [zi_1, zi_add]) h)
theorem xr_1 {post : SX → Prop} {J : Int32 → Int32 → Int32 → Int32 → Int32 → Int32 → Int32 → Int32 → Int32 → Int32 → Int32 → Int32 → Int32 → Prop} {r : Int} {x5 x6 a b c d p1 p2 q1 q2 bs bu bv : Int32}
    (h : J (zi_ 1) (zi_ (r + 1)) a b c d p1 p2 x5 x6 bs bu bv) : wX_reduce_173 post J (zi_ r) x5 x6 (zi_ 1) a b c d p1 p2 q1 q2 bs bu bv :=
  br_f (by rw [zi_0]; exact zn_10) (nm_r (by rw [zi_1, zi_add]) h)
theorem xr_R {px py qx qy : Int} (hg : ll_gd px py qx qy) : -3528 ≤ px * qx + py * qy ∧ px * qx + py * qy ≤ 3528 := by
  obtain ⟨p1, p2⟩ := ll_cd hg.2.1
  obtain ⟨q1, q2⟩ := ll_cd hg.2.2
  have h1 := zm_b p1 q1
  have h2 := zm_b p2 q2
  omega
theorem xr_76 {post : SX → Prop} {J : Int32 → Int32 → Int32 → Int32 → Int32 → Int32 → Int32 → Int32 → Int32 → Int32 → Int32 → Int32 → Int32 → Prop} {px py qx qy r : Int} {a b c d bs bu bv : Int32} (hg : ll_gd px py qx qy)
    (k : Int) (hk : k = (2 * (px * qx + py * qy) + (px * px + py * py)) / (2 * (px * px + py * py)))
    (h0 : qx * qx + qy * qy ≤ (qx - k * px) * (qx - k * px) + (qy - k * py) * (qy - k * py) → J (zi_ 0) (zi_ (r + 1)) a b c d (zi_ px) (zi_ py) (zi_ qx) (zi_ qy) bs bu bv)
    (h1 : (qx - k * px) * (qx - k * px) + (qy - k * py) * (qy - k * py) < qx * qx + qy * qy → J (zi_ 1) (zi_ (r + 1)) a b c d (zi_ px) (zi_ py) (zi_ (qx - k * px)) (zi_ (qy - k * py)) bs bu bv) :
    wX_reduce_76 post J (zi_ r) a b c d (zi_ px) (zi_ py) (zi_ qx) (zi_ qy) bs bu bv := by
  have hp := (ll_pos hg.1).1
  have hp2 := hg.2.1
  have hq2 := hg.2.2
  have hR := xr_R hg
  have hn1 := sq_nn qx
  have hn2 := sq_nn qy
  have hn3 := sq_nn (qx - k * px)
  have hn4 := sq_nn (qy - k * py)
  obtain ⟨k1, k2⟩ := rd_k (P := px * px + py * py) (px * qx + py * qy) (by omega)
  rw [← hk] at k1 k2
  have hle := rd_le (by omega) k1 k2
  have hsz := rd_sz px py qx qy k
  unfold wX_reduce_76 wpX_size
  simp only [zi_mul, zi_add, zi_sub, zi_2, zi_0, zi_1]
  refine xx_fd (by omega) (by omega) (by omega) ?_
  rw [← hk]
  simp only [zi_mul, zi_add, zi_sub, forall_eq]
  exact zb_le (by omega) (by omega) (fun z => xr_0 (h0 z)) (fun z => xr_1 (h1 z))
theorem xr_ex {post : SX → Prop} {r : Int} {a b c d p1 p2 q1 q2 bs bu bv : Int32} (h : post (a, b, c, d, p1, p2, q1, q2, bs, bu, bv)) (n : Nat) : wX_reduce_36 post (n + 1) (zi_ 0) (zi_ r) a b c d p1 p2 q1 q2 bs bu bv :=
  br_c (fun _ => h) (fun _ => br_t zi_0.symm h)
theorem xr_hd {post : SX → Prop} {n : Nat} {px py qx qy r : Int} {a b c d bs bu bv : Int32} (hg : ll_gd px py qx qy) (hr : 0 ≤ r ∧ r < 1900)
    (h1 : px * px + py * py ≤ qx * qx + qy * qy → wX_reduce_76 post (wX_reduce_36 post n) (zi_ r) a b c d (zi_ px) (zi_ py) (zi_ qx) (zi_ qy) bs bu bv)
    (h2 : qx * qx + qy * qy < px * px + py * py → wX_reduce_76 post (wX_reduce_36 post n) (zi_ r) a b c d (zi_ qx) (zi_ qy) (zi_ px) (zi_ py) bs bu bv) :
    wX_reduce_36 post (n + 1) (zi_ 1) (zi_ r) a b c d (zi_ px) (zi_ py) (zi_ qx) (zi_ qy) bs bu bv := by
  have hp := ll_pos hg.1
  have hp2 := hg.2.1
  have hq2 := hg.2.2
  rw [wX_reduce_36]
  refine br_f (by rw [zi_1900, zi_le (by omega) (by omega)]; omega) (br_f (by rw [zi_0]; exact zn_10) ?_)
  unfold wpX_size wpX_exchange
  simp only [zi_mul, zi_add]
  exact zb_le (by omega) (by omega) h1 h2
theorem xr_rd {post : SX → Prop} {n : Nat} {px py qx qy r a b c d : Int} {bs bu bv : Int32} (hg : ll_gd px py qx qy) (hs : ll_sm a b c d px py qx qy) (hPQ : px * px + py * py ≤ qx * qx + qy * qy)
    (hpost : ∀ px py qx qy, ll_gd px py qx qy → ll_rd px py qx qy → ll_sm a b c d px py qx qy → post (zi_ a, zi_ b, zi_ c, zi_ d, zi_ px, zi_ py, zi_ qx, zi_ qy, bs, bu, bv))
    (hnext : ∀ x y, ll_gd px py x y → ll_sm a b c d px py x y → (-(px * px + py * py) ≤ 2 * (px * x + py * y) ∧ 2 * (px * x + py * y) ≤ px * px + py * py) → ¬ (-(px * px + py * py) ≤ 2 * (px * qx + py * qy) ∧ 2 * (px * qx + py * qy) ≤ px * px + py * py) →
      wX_reduce_36 post (n + 1) (zi_ 1) (zi_ (r + 1)) (zi_ a) (zi_ b) (zi_ c) (zi_ d) (zi_ px) (zi_ py) (zi_ x) (zi_ y) bs bu bv) :
    wX_reduce_76 post (wX_reduce_36 post (n + 1)) (zi_ r) (zi_ a) (zi_ b) (zi_ c) (zi_ d) (zi_ px) (zi_ py) (zi_ qx) (zi_ qy) bs bu bv := by
  have hp := (ll_pos hg.1).1
  have hsz := fun k => rd_sz px py qx qy k
  have hip := fun k => rd_ip px py qx qy k
  obtain ⟨k1, k2⟩ := rd_k (P := px * px + py * py) (px * qx + py * qy) (by omega)
  refine xr_76 hg _ rfl ?_ ?_
  · intro z
    rw [hsz] at z
    have hst := rd_st (by omega) k1 k2 (by omega)
    exact xr_ex (hpost px py qx qy hg ⟨hPQ, hst⟩ hs) n
  · intro z
    have z2 := z
    rw [hsz] at z2
    refine hnext _ _ ⟨?_, hg.2.1, ?_⟩ (ll_sh _ hs) ?_ ?_
    · rw [rd_dt]
      exact hg.1
    · have := hg.2.2
      omega
    · rw [hip]
      revert k1 k2
      generalize (2 * (px * qx + py * qy) + (px * px + py * py)) / (2 * (px * px + py * py)) = k
      intro k1 k2
      have e1 : k * (2 * (px * px + py * py)) = 2 * (k * (px * px + py * py)) := by grind
      have e2 : (k + 1) * (2 * (px * px + py * py)) = 2 * (k * (px * px + py * py)) + 2 * (px * px + py * py) := by grind
      omega
    · intro h
      have := rd_fx (by omega) k1 k2 h
      omega
theorem xr_fx {post : SX → Prop} {n : Nat} {px py qx qy r a b c d : Int} {bs bu bv : Int32} (hg : ll_gd px py qx qy) (hs : ll_sm a b c d px py qx qy) (hd : ll_rd px py qx qy)
    (hpost : ∀ px py qx qy, ll_gd px py qx qy → ll_rd px py qx qy → ll_sm a b c d px py qx qy → post (zi_ a, zi_ b, zi_ c, zi_ d, zi_ px, zi_ py, zi_ qx, zi_ qy, bs, bu, bv))
    (hr : 0 ≤ r ∧ r < 1900) : wX_reduce_36 post (n + 2) (zi_ 1) (zi_ r) (zi_ a) (zi_ b) (zi_ c) (zi_ d) (zi_ px) (zi_ py) (zi_ qx) (zi_ qy) bs bu bv :=
  xr_hd hg hr (fun h => xr_rd hg hs h hpost (fun x y _ _ _ h4 => absurd hd.2 h4)) (fun h => absurd hd.1 (Int.not_le.mpr h))
theorem xr_gs {px py qx qy : Int} (hg : ll_gd px py qx qy) : ll_gd qx qy px py := ⟨by have := hg.1; intro z; apply this; grind, hg.2.2, hg.2.1⟩
theorem xr_lp {post : SX → Prop} {a b c d : Int} {bs bu bv : Int32}
    (hpost : ∀ px py qx qy, ll_gd px py qx qy → ll_rd px py qx qy → ll_sm a b c d px py qx qy → post (zi_ a, zi_ b, zi_ c, zi_ d, zi_ px, zi_ py, zi_ qx, zi_ qy, bs, bu, bv)) :
    ∀ (k : Nat) (px py qx qy r : Int), ll_gd px py qx qy → ll_sm a b c d px py qx qy → (px * px + py * py ≤ k ∨ qx * qx + qy * qy ≤ k) → 0 ≤ r → r + k + 2 ≤ 1900 →
      wX_reduce_36 post (k + 3) (zi_ 1) (zi_ r) (zi_ a) (zi_ b) (zi_ c) (zi_ d) (zi_ px) (zi_ py) (zi_ qx) (zi_ qy) bs bu bv := by
  intro k
  induction k with
  | zero =>
    intro px py qx qy r hg hs hm
    have := ll_pos hg.1
    omega
  | succ k ih =>
    have main : ∀ (px py qx qy r : Int), ll_gd px py qx qy → ll_sm a b c d px py qx qy → px * px + py * py ≤ qx * qx + qy * qy → px * px + py * py ≤ k + 1 → 0 ≤ r → r + k + 3 ≤ 1900 →
        wX_reduce_76 post (wX_reduce_36 post (k + 3)) (zi_ r) (zi_ a) (zi_ b) (zi_ c) (zi_ d) (zi_ px) (zi_ py) (zi_ qx) (zi_ qy) bs bu bv := by
      intro px py qx qy r hg hs hPQ hm hr0 hr1
      refine xr_rd hg hs hPQ hpost (fun x y hg2 hs2 hR _ => ?_)
      rcases Int.lt_or_le (x * x + y * y) (px * px + py * py) with h | h
      · exact ih px py x y (r + 1) hg2 hs2 (Or.inr (by omega)) (by omega) (by omega)
      · exact xr_fx hg2 hs2 ⟨h, hR⟩ hpost (by omega)
    intro px py qx qy r hg hs hm hr0 hr1
    refine xr_hd hg (by omega) (fun h => ?_) (fun h => ?_)
    · exact main px py qx qy r hg hs h (by omega) hr0 (by omega)
    · exact main qx qy px py r (xr_gs hg) (ll_sw hs) (by omega) (by omega) hr0 (by omega)
theorem xx_reduce {post : SX → Prop} {a b c d : Int} {f1 f2 f3 f4 bs bu bv : Int32} (hk : ll_ok a b c d)
    (hpost : ∀ px py qx qy, ll_gd px py qx qy → ll_rd px py qx qy → ll_sm a b c d px py qx qy → post (zi_ a, zi_ b, zi_ c, zi_ d, zi_ px, zi_ py, zi_ qx, zi_ qy, bs, bu, bv)) :
    wpX_reduce post (zi_ a, zi_ b, zi_ c, zi_ d, f1, f2, f3, f4, bs, bu, bv) := by
  obtain ⟨ha, hb, hc, hd, hD⟩ := hk
  have h1 := zm_b ha ha
  have h2 := zm_b hb hb
  have h3 := zm_b hc hc
  have h4 := zm_b hd hd
  unfold wpX_reduce
  dsimp only
  rw [zi_1, zi_0]
  exact ⟨1803, xr_lp hpost 1800 a b c d 0 ⟨hD, by omega, by omega⟩ (fun _ _ => Iff.rfl) (Or.inl (by omega)) (by omega) (by omega)⟩
end
section
theorem ys_in {post : Int32 → Prop} {J : Int32 → Int32 → Prop} {a b c d S U V : Int} {nu nv aw : Int32} (hk : ll_ok a b c d)
    (hmin : ∀ x y, ll_lat a b c d x y → 0 < x * x + y * y → S ≤ x * x + y * y) (hS : 0 < S) (hV : -43 ≤ V ∧ V ≤ 43) (hsz : U * U + V * V = S) (hUV : ll_lat a b c d U V)
    (x w : Int) (hx : -43 ≤ x ∧ x ≤ 43) (hw : S ≤ w ∧ w ≤ 10000) (hsc : U < x → w = S)
    (hJ : ∀ w', (S ≤ w' ∧ w' ≤ 10000) → (U < x + 1 → w' = S) → J (zi_ w') (zi_ (x + 1))) :
    ∃ n, wY_shortest_16 post J (zi_ x) (zi_ a) (zi_ b) (zi_ c) (zi_ d) nu nv aw n (zi_ w) (zi_ (-43)) := by
  have b1 := zm_b hx hx
  have n1 := sq_nn x
  refine lz_loop (fun n s y => wY_shortest_16 post J (zi_ x) (zi_ a) (zi_ b) (zi_ c) (zi_ d) nu nv aw n s (zi_ y))
    (fun s y => ∃ w, s = zi_ w ∧ (S ≤ w ∧ w ≤ 10000) ∧ (U < x ∨ (U = x ∧ V < y) → w = S)) (-43) 43 ?_ ?_ (zi_ w) (by omega) ⟨w, rfl, hw, fun h => hsc (by omega)⟩
  · rintro n s ⟨w, rfl, hw, hs⟩
    simp only [wY_shortest_16, zi_43, zi_0, zi_1, zi_add, zi_mul, forall_eq]
    exact zb_lt (by omega) (by omega) (fun _ => hJ w hw (fun h => hs (by omega))) (fun z => by omega)
  · rintro n s y hy1 hy2 ⟨w, rfl, hw, hs⟩ ih
    have b2 := zm_b (U := 43) (V := 43) (u := y) (v := y) (by omega) (by omega)
    have n2 := sq_nn y
    simp only [wY_shortest_16, zi_43, zi_0, zi_1, zi_add, zi_mul, forall_eq]
    refine zb_lt (by omega) (by omega) (fun z => by omega) (fun _ => ?_)
    refine zb_le (by omega) (by omega) (fun z => ih _ ⟨w, rfl, hw, fun h => ?_⟩) (fun z => ?_)
    · rcases Classical.em (U = x ∧ V = y) with ⟨e1, e2⟩ | e
      · subst e1 e2
        omega
      · exact hs (by omega)
    refine zb_le (by omega) (by omega) (fun z2 => ih _ ⟨w, rfl, hw, fun h => ?_⟩) (fun z2 => ?_)
    · rcases Classical.em (U = x ∧ V = y) with ⟨e1, e2⟩ | e
      · subst e1 e2
        omega
      · exact hs (by omega)
    refine yy_pt hk (by omega) (by omega) (fun hl => br_f zn_10 (ih _ ⟨_, rfl, ?_, fun h => ?_⟩)) (fun hl => br_t rfl (ih _ ⟨w, rfl, hw, fun h => ?_⟩))
    · have := hmin x y hl z
      omega
    · have h3 := hmin x y hl z
      rcases Classical.em (U = x ∧ V = y) with ⟨e1, e2⟩ | e
      · subst e1 e2
        exact hsz
      · have := hs (by omega)
        omega
    · rcases Classical.em (U = x ∧ V = y) with ⟨e1, e2⟩ | e
      · subst e1 e2
        exact absurd hUV hl
      · exact hs (by omega)
theorem yy_shortest {post : Int32 → Prop} {a b c d S U V : Int} {nu nv aw : Int32} (hk : ll_ok a b c d)
    (hmin : ∀ x y, ll_lat a b c d x y → 0 < x * x + y * y → S ≤ x * x + y * y) (hS : 0 < S ∧ S ≤ 1800) (hsz : U * U + V * V = S) (hUV : ll_lat a b c d U V)
    (h : post (zi_ S)) : wpY_shortest post (zi_ a, zi_ b, zi_ c, zi_ d, nu, nv, aw) := by
  obtain ⟨hU, hV⟩ := ll_cd (x := U) (y := V) (by omega)
  unfold wpY_shortest
  simp only [zi_10000, zi_43, zi_neg]
  refine lz_loop (fun n s x => wY_shortest_7 post (zi_ a) (zi_ b) (zi_ c) (zi_ d) nu nv aw n s (zi_ x))
    (fun s x => ∃ w, s = zi_ w ∧ (S ≤ w ∧ w ≤ 10000) ∧ (U < x → w = S)) (-43) 43 ?_ ?_ (zi_ 10000) (by omega) ⟨10000, rfl, by omega, fun h => by omega⟩
  · rintro n s ⟨w, rfl, hw, hs⟩
    simp only [wY_shortest_7, zi_43, zi_neg]
    refine zb_lt (by omega) (by omega) (fun _ => ?_) (fun z => by omega)
    rw [hs (by omega)]
    exact h
  · rintro n s x hx1 hx2 ⟨w, rfl, hw, hs⟩ ih
    simp only [wY_shortest_7, zi_43, zi_neg]
    refine zb_lt (by omega) (by omega) (fun z => by omega) (fun _ => ?_)
    exact ys_in hk hmin hS.1 (by omega) hsz hUV x w (by omega) hw hs (fun w' h1 h2 => ih (zi_ w') ⟨w', rfl, h1, h2⟩)
theorem sm_s0 {f : Int → Int} {lo : Int} {k : Nat} (h : f (lo + k) = 0) : sm_ f lo (k + 1) = sm_ f lo k := by
  show sm_ f lo k + f (lo + k) = sm_ f lo k
  omega
theorem sm_s1 {f : Int → Int} {lo : Int} {k : Nat} (h : f (lo + k) = 1) : sm_ f lo (k + 1) = sm_ f lo k + 1 := by
  show sm_ f lo k + f (lo + k) = sm_ f lo k + 1
  omega
theorem ym_in {post : Int32 → Prop} {J : Int32 → Int32 → Prop} {a b c d S : Int} {nu nv aw : Int32} (hk : ll_ok a b c d) (hS : 0 < S ∧ S ≤ 1800) (x c0 : Int) (hx : -43 ≤ x ∧ x ≤ 43)
    (hJ : J (zi_ (c0 + sm_ (fun y => zc_ (x * x + y * y = S ∧ ll_lat a b c d x y)) (-43) 87)) (zi_ (x + 1))) :
    ∃ n, wY_many_20 post J (zi_ S) (zi_ x) (zi_ a) (zi_ b) (zi_ c) (zi_ d) nu nv aw n (zi_ c0) (zi_ (-43)) := by
  have b1 := zm_b hx hx
  have n1 := sq_nn x
  refine lz_loop (fun n s y => wY_many_20 post J (zi_ S) (zi_ x) (zi_ a) (zi_ b) (zi_ c) (zi_ d) nu nv aw n s (zi_ y))
    (fun s y => ∃ k : Nat, y = -43 + k ∧ s = zi_ (c0 + sm_ (fun y => zc_ (x * x + y * y = S ∧ ll_lat a b c d x y)) (-43) k)) (-43) 43 ?_ ?_ (zi_ c0) (by omega) ⟨0, by omega, by rw [sm_, Int.add_zero]⟩
  · rintro n s ⟨k, hy, rfl⟩
    obtain rfl : k = 87 := by omega
    simp only [wY_many_20, zi_43, zi_1, zi_add, zi_mul, forall_eq]
    exact zb_lt (by omega) (by omega) (fun _ => hJ) (fun z => by omega)
  · rintro n s y hy1 hy2 ⟨k, hy, rfl⟩ ih
    have b2 := zm_b (U := 43) (V := 43) (u := y) (v := y) (by omega) (by omega)
    have n2 := sq_nn y
    have no : ¬ (x * x + y * y = S ∧ ll_lat a b c d x y) → zi_ (c0 + sm_ (fun y => zc_ (x * x + y * y = S ∧ ll_lat a b c d x y)) (-43) k) = zi_ (c0 + sm_ (fun y => zc_ (x * x + y * y = S ∧ ll_lat a b c d x y)) (-43) (k + 1)) := by
      intro h
      rw [sm_s0]
      rw [← hy]
      exact zc_f h
    simp only [wY_many_20, zi_43, zi_0, zi_1, zi_add, zi_mul, forall_eq]
    refine zb_lt (by omega) (by omega) (fun z => by omega) (fun _ => ?_)
    refine zb_eq (by omega) (by omega) (fun z => ?_) (fun z => ih _ ⟨k + 1, by omega, no (fun h => z h.1)⟩)
    refine yy_pt hk (by omega) (by omega) (fun hl => br_f zn_10 (ih _ ⟨k + 1, by omega, ?_⟩)) (fun hl => br_t rfl (ih _ ⟨k + 1, by omega, no (fun h => hl h.2)⟩))
    rw [sm_s1, Int.add_assoc]
    rw [← hy]
    exact zc_t ⟨z, hl⟩
theorem yy_many {post : Int32 → Prop} {a b c d S U V : Int} {nu nv aw : Int32} (hk : ll_ok a b c d)
    (hmin : ∀ x y, ll_lat a b c d x y → 0 < x * x + y * y → S ≤ x * x + y * y) (hS : 0 < S ∧ S ≤ 1800) (hsz : U * U + V * V = S) (hUV : ll_lat a b c d U V)
    (h : post (zi_ (sm_ (fun x => sm_ (fun y => zc_ (x * x + y * y = S ∧ ll_lat a b c d x y)) (-43) 87) (-43) 87))) : wpY_many post (zi_ a, zi_ b, zi_ c, zi_ d, nu, nv, aw) := by
  unfold wpY_many
  refine yy_shortest hk hmin hS hsz hUV ?_
  simp only [zi_0, zi_43, zi_neg]
  refine lz_loop (fun n s x => wY_many_10 post (zi_ S) (zi_ a) (zi_ b) (zi_ c) (zi_ d) nu nv aw n s (zi_ x))
    (fun s x => ∃ k : Nat, x = -43 + k ∧ s = zi_ (sm_ (fun x => sm_ (fun y => zc_ (x * x + y * y = S ∧ ll_lat a b c d x y)) (-43) 87) (-43) k)) (-43) 43 ?_ ?_ (zi_ 0) (by omega) ⟨0, by omega, rfl⟩
  · rintro n s ⟨k, hy, rfl⟩
    obtain rfl : k = 87 := by omega
    simp only [wY_many_10, zi_43, zi_neg]
    exact zb_lt (by omega) (by omega) (fun _ => h) (fun z => by omega)
  · rintro n s x hx1 hx2 ⟨k, hx, rfl⟩ ih
    simp only [wY_many_10, zi_43, zi_neg]
    refine zb_lt (by omega) (by omega) (fun z => by omega) (fun _ => ?_)
    refine ym_in hk hS x _ (by omega) (ih _ ⟨k + 1, by omega, ?_⟩)
    subst hx
    rfl
/-- the last point that is as short as the shortest -/
theorem yf_in {post : Int32 → Prop} {J : Int32 → Int32 → Int32 → Prop} {a b c d S U V : Int} {nu nv aw : Int32} (hk : ll_ok a b c d) (hS : 0 < S ∧ S ≤ 1800) (hV : -43 ≤ V ∧ V ≤ 43) (hsz : U * U + V * V = S) (hUV : ll_lat a b c d U V)
    (x p q : Int) (hx : -43 ≤ x ∧ x ≤ 43) (hp : (-43 ≤ p ∧ p ≤ 43) ∧ (-43 ≤ q ∧ q ≤ 43)) (hsc : U < x → ll_lat a b c d p q ∧ p * p + q * q = S)
    (hJ : ∀ p q : Int, (-43 ≤ p ∧ p ≤ 43) ∧ (-43 ≤ q ∧ q ≤ 43) → (U < x + 1 → ll_lat a b c d p q ∧ p * p + q * q = S) → J (zi_ p) (zi_ q) (zi_ (x + 1))) :
    ∃ n, wY_second_24 post J (zi_ S) (zi_ x) (zi_ a) (zi_ b) (zi_ c) (zi_ d) nu nv aw n (zi_ p) (zi_ q) (zi_ (-43)) := by
  have b1 := zm_b hx hx
  have n1 := sq_nn x
  refine lz_loop (fun n (s : Int32 × Int32) y => wY_second_24 post J (zi_ S) (zi_ x) (zi_ a) (zi_ b) (zi_ c) (zi_ d) nu nv aw n s.1 s.2 (zi_ y))
    (fun s y => ∃ p q : Int, s = (zi_ p, zi_ q) ∧ ((-43 ≤ p ∧ p ≤ 43) ∧ (-43 ≤ q ∧ q ≤ 43)) ∧ (U < x ∨ (U = x ∧ V < y) → ll_lat a b c d p q ∧ p * p + q * q = S)) (-43) 43 ?_ ?_ (zi_ p, zi_ q) (by omega) ⟨p, q, rfl, hp, fun h => hsc (by omega)⟩
  · rintro n s ⟨p, q, rfl, hp, hs⟩
    simp only [wY_second_24, zi_43, zi_0, zi_1, zi_add, zi_mul, forall_eq]
    exact zb_lt (by omega) (by omega) (fun _ => hJ p q hp (fun h => hs (by omega))) (fun z => by omega)
  · rintro n s y hy1 hy2 ⟨p, q, rfl, hp, hs⟩ ih
    have b2 := zm_b (U := 43) (V := 43) (u := y) (v := y) (by omega) (by omega)
    have n2 := sq_nn y
    simp only [wY_second_24, zi_43, zi_0, zi_1, zi_add, zi_mul, forall_eq]
    refine zb_lt (by omega) (by omega) (fun z => by omega) (fun _ => ?_)
    refine zb_eq (by omega) (by omega) (fun z => ?_) (fun z => ih (zi_ p, zi_ q) ⟨p, q, rfl, hp, fun h => ?_⟩)
    · refine yy_pt hk (by omega) (by omega) (fun hl => br_f zn_10 (ih (zi_ x, zi_ y) ⟨x, y, rfl, by omega, fun h => ⟨hl, z⟩⟩)) (fun hl => br_t rfl (ih (zi_ p, zi_ q) ⟨p, q, rfl, hp, fun h => ?_⟩))
      rcases Classical.em (U = x ∧ V = y) with ⟨e1, e2⟩ | e
      · subst e1 e2
        exact absurd hUV hl
      · exact hs (by omega)
    · rcases Classical.em (U = x ∧ V = y) with ⟨e1, e2⟩ | e
      · subst e1 e2
        exact absurd hsz z
      · exact hs (by omega)
/-- the least point that isn't on the line of (p, q) -/
theorem yg_in {post : Int32 → Prop} {J : Int32 → Int32 → Prop} {a b c d S U V p q : Int} {nu nv aw : Int32} (hk : ll_ok a b c d) (hp : (-43 ≤ p ∧ p ≤ 43) ∧ (-43 ≤ q ∧ q ≤ 43))
    (hmin : ∀ x y, ll_lat a b c d x y → x * q ≠ y * p → S ≤ x * x + y * y) (hS : 0 < S) (hV : -43 ≤ V ∧ V ≤ 43) (hsz : U * U + V * V = S) (hUV : ll_lat a b c d U V) (hpar : U * q ≠ V * p)
    (x w : Int) (hx : -43 ≤ x ∧ x ≤ 43) (hw : S ≤ w ∧ w ≤ 10000) (hsc : U < x → w = S)
    (hJ : ∀ w', (S ≤ w' ∧ w' ≤ 10000) → (U < x + 1 → w' = S) → J (zi_ w') (zi_ (x + 1))) :
    ∃ n, wY_second_95 post J (zi_ p) (zi_ q) (zi_ x) (zi_ a) (zi_ b) (zi_ c) (zi_ d) nu nv aw n (zi_ w) (zi_ (-43)) := by
  have b1 := zm_b hx hx
  have n1 := sq_nn x
  have c1 := zm_b hx hp.2
  refine lz_loop (fun n s y => wY_second_95 post J (zi_ p) (zi_ q) (zi_ x) (zi_ a) (zi_ b) (zi_ c) (zi_ d) nu nv aw n s (zi_ y))
    (fun s y => ∃ w, s = zi_ w ∧ (S ≤ w ∧ w ≤ 10000) ∧ (U < x ∨ (U = x ∧ V < y) → w = S)) (-43) 43 ?_ ?_ (zi_ w) (by omega) ⟨w, rfl, hw, fun h => hsc (by omega)⟩
  · rintro n s ⟨w, rfl, hw, hs⟩
    simp only [wY_second_95, zi_43, zi_0, zi_1, zi_add, zi_mul, forall_eq]
    exact zb_lt (by omega) (by omega) (fun _ => hJ w hw (fun h => hs (by omega))) (fun z => by omega)
  · rintro n s y hy1 hy2 ⟨w, rfl, hw, hs⟩ ih
    have b2 := zm_b (U := 43) (V := 43) (u := y) (v := y) (by omega) (by omega)
    have c2 := zm_b (U := 43) (V := 43) (u := y) (v := p) (by omega) (by omega)
    have n2 := sq_nn y
    simp only [wY_second_95, zi_43, zi_0, zi_1, zi_add, zi_mul, forall_eq]
    refine zb_lt (by omega) (by omega) (fun z => by omega) (fun _ => ?_)
    refine zb_eq (by omega) (by omega) (fun z => ih _ ⟨w, rfl, hw, fun h => ?_⟩) (fun z => ?_)
    · rcases Classical.em (U = x ∧ V = y) with ⟨e1, e2⟩ | e
      · subst e1 e2
        exact absurd z hpar
      · exact hs (by omega)
    refine zb_le (by omega) (by omega) (fun z2 => ih _ ⟨w, rfl, hw, fun h => ?_⟩) (fun z2 => ?_)
    · rcases Classical.em (U = x ∧ V = y) with ⟨e1, e2⟩ | e
      · subst e1 e2
        omega
      · exact hs (by omega)
    refine yy_pt hk (by omega) (by omega) (fun hl => br_f zn_10 (ih _ ⟨_, rfl, ?_, fun h => ?_⟩)) (fun hl => br_t rfl (ih _ ⟨w, rfl, hw, fun h => ?_⟩))
    · have := hmin x y hl z
      omega
    · have h3 := hmin x y hl z
      rcases Classical.em (U = x ∧ V = y) with ⟨e1, e2⟩ | e
      · subst e1 e2
        exact hsz
      · have := hs (by omega)
        omega
    · rcases Classical.em (U = x ∧ V = y) with ⟨e1, e2⟩ | e
      · subst e1 e2
        exact absurd hUV hl
      · exact hs (by omega)
theorem yg_out {post : Int32 → Prop} {a b c d S U V p q : Int} {nu nv aw : Int32} (hk : ll_ok a b c d) (hp : (-43 ≤ p ∧ p ≤ 43) ∧ (-43 ≤ q ∧ q ≤ 43))
    (hmin : ∀ x y, ll_lat a b c d x y → x * q ≠ y * p → S ≤ x * x + y * y) (hS : 0 < S ∧ S ≤ 1800) (hsz : U * U + V * V = S) (hUV : ll_lat a b c d U V) (hpar : U * q ≠ V * p)
    (h : post (zi_ S)) : ∃ n, wY_second_84 post (zi_ p) (zi_ q) (zi_ a) (zi_ b) (zi_ c) (zi_ d) nu nv aw n (zi_ 10000) (zi_ (-43)) := by
  obtain ⟨hU, hV⟩ := ll_cd (x := U) (y := V) (by omega)
  refine lz_loop (fun n s x => wY_second_84 post (zi_ p) (zi_ q) (zi_ a) (zi_ b) (zi_ c) (zi_ d) nu nv aw n s (zi_ x))
    (fun s x => ∃ w, s = zi_ w ∧ (S ≤ w ∧ w ≤ 10000) ∧ (U < x → w = S)) (-43) 43 ?_ ?_ (zi_ 10000) (by omega) ⟨10000, rfl, by omega, fun h => by omega⟩
  · rintro n s ⟨w, rfl, hw, hs⟩
    simp only [wY_second_84, zi_43, zi_neg]
    refine zb_lt (by omega) (by omega) (fun _ => ?_) (fun z => by omega)
    rw [hs (by omega)]
    exact h
  · rintro n s x hx1 hx2 ⟨w, rfl, hw, hs⟩ ih
    simp only [wY_second_84, zi_43, zi_neg]
    refine zb_lt (by omega) (by omega) (fun z => by omega) (fun _ => ?_)
    exact yg_in hk hp hmin hS.1 (by omega) hsz hUV hpar x w (by omega) hw hs (fun w' h1 h2 => ih (zi_ w') ⟨w', rfl, h1, h2⟩)
theorem yy_second {post : Int32 → Prop} {a b c d S T U V : Int} {nu nv aw : Int32} (hk : ll_ok a b c d)
    (hmin : ∀ x y, ll_lat a b c d x y → 0 < x * x + y * y → S ≤ x * x + y * y) (hS : 0 < S ∧ S ≤ 1800) (hsz : U * U + V * V = S) (hUV : ll_lat a b c d U V) (hT : 0 < T ∧ T ≤ 1800)
    (h2 : ∀ p q, ll_lat a b c d p q → p * p + q * q = S → (∀ x y, ll_lat a b c d x y → x * q ≠ y * p → T ≤ x * x + y * y) ∧ ∃ x y, ll_lat a b c d x y ∧ x * q ≠ y * p ∧ x * x + y * y = T)
    (h : post (zi_ T)) : wpY_second post (zi_ a, zi_ b, zi_ c, zi_ d, nu, nv, aw) := by
  obtain ⟨hU, hV⟩ := ll_cd (x := U) (y := V) (by omega)
  unfold wpY_second
  refine yy_shortest hk hmin hS hsz hUV ?_
  simp only [zi_0, zi_43, zi_neg]
  refine lz_loop (fun n (s : Int32 × Int32) x => wY_second_13 post (zi_ S) (zi_ a) (zi_ b) (zi_ c) (zi_ d) nu nv aw n s.1 s.2 (zi_ x))
    (fun s x => ∃ p q : Int, s = (zi_ p, zi_ q) ∧ ((-43 ≤ p ∧ p ≤ 43) ∧ (-43 ≤ q ∧ q ≤ 43)) ∧ (U < x → ll_lat a b c d p q ∧ p * p + q * q = S)) (-43) 43 ?_ ?_ (zi_ 0, zi_ 0) (by omega) ⟨0, 0, rfl, by omega, fun h => by omega⟩
  · rintro n s ⟨p, q, rfl, hp, hs⟩
    simp only [wY_second_13, zi_43, zi_10000, zi_neg]
    obtain ⟨l1, l2⟩ := hs (by omega)
    obtain ⟨m1, x, y, m2, m3, m4⟩ := h2 p q l1 l2
    exact zb_lt (by omega) (by omega) (fun _ => yg_out hk hp m1 hT m4 m2 m3 h) (fun z => by omega)
  · rintro n s x hx1 hx2 ⟨p, q, rfl, hp, hs⟩ ih
    simp only [wY_second_13, zi_43, zi_neg]
    refine zb_lt (by omega) (by omega) (fun z => by omega) (fun _ => ?_)
    exact yf_in hk hS (by omega) hsz hUV x p q (by omega) hp hs (fun p' q' h1 h2 => ih (zi_ p', zi_ q') ⟨p', q', rfl, h1, h2⟩)
end
section
theorem yq_in {post : SY → Prop} {J : Int32 → Int32 → Int32 → Int32 → Prop} {a b c d x y U V S : Int} (hk : ll_ok a b c d) (hx : -1000 ≤ x ∧ x ≤ 1000) (hy : -1000 ≤ y ∧ y ≤ 1000)
    (hS0 : 0 ≤ S) (hS : S = (x - U) * (x - U) + (y - V) * (y - V)) (hmin : ∀ u v, ll_lat a b c d u v → lx_ S U V ((x - u) * (x - u) + (y - v) * (y - v)) u v) (hUV : ll_lat a b c d U V) (hV : y - 43 ≤ V ∧ V ≤ y + 43)
    (u w : Int) (hu : x - 43 ≤ u ∧ u ≤ x + 43) (n1 n2 : Int32) (hw : S ≤ w ∧ w ≤ 100000) (hsc : U < u → n1 = zi_ U ∧ n2 = zi_ V ∧ w = S) (hns : u ≤ U → S < w)
    (hJ : ∀ m1 m2 w', (S ≤ w' ∧ w' ≤ 100000) → (U < u + 1 → m1 = zi_ U ∧ m2 = zi_ V ∧ w' = S) → (u + 1 ≤ U → S < w') → J (zi_ (u + 1)) m1 m2 (zi_ w')) :
    ∃ n, wY_search_25 post J (zi_ x) (zi_ y) (zi_ u) (zi_ a) (zi_ b) (zi_ c) (zi_ d) n (zi_ (y - 43)) n1 n2 (zi_ w) := by
  have b1 := zm_b (U := 43) (V := 43) (u := x - u) (v := x - u) (by omega) (by omega)
  have s1 := sq_nn (x - u)
  refine lz_loop (fun n (s : Int32 × Int32 × Int32) v => wY_search_25 post J (zi_ x) (zi_ y) (zi_ u) (zi_ a) (zi_ b) (zi_ c) (zi_ d) n (zi_ v) s.1 s.2.1 s.2.2)
    (fun s v => ∃ w, s.2.2 = zi_ w ∧ (S ≤ w ∧ w ≤ 100000) ∧ (U < u ∨ (U = u ∧ V < v) → s.1 = zi_ U ∧ s.2.1 = zi_ V ∧ w = S) ∧ (¬ (U < u ∨ (U = u ∧ V < v)) → S < w)) (y - 43) (y + 43) ?_ ?_ (n1, n2, zi_ w) (by omega) ⟨w, rfl, hw, fun h => hsc (by omega), fun h => hns (by omega)⟩
  · rintro n ⟨m1, m2, m3⟩ ⟨w, e3, hw, hs, hn⟩
    dsimp only at e3 hs hn ⊢
    subst e3
    simp only [wY_search_25, zi_43, zi_0, zi_1, zi_add, zi_sub, zi_mul, forall_eq]
    exact zb_lt (by omega) (by omega) (fun _ => hJ m1 m2 w hw (fun h => hs (by omega)) (fun h => hn (by omega))) (fun z => by omega)
  · rintro n ⟨m1, m2, m3⟩ v hv1 hv2 ⟨w, e3, hw, hs, hn⟩ ih
    dsimp only at e3 hs hn ⊢
    subst e3
    have b2 := zm_b (U := 43) (V := 43) (u := y - v) (v := y - v) (by omega) (by omega)
    have s2 := sq_nn (y - v)
    simp only [wY_search_25, zi_43, zi_0, zi_1, zi_add, zi_sub, zi_mul, forall_eq]
    refine zb_lt (by omega) (by omega) (fun z => by omega) (fun _ => ?_)
    refine zb_le (by omega) (by omega) (fun z => ih (m1, m2, zi_ w) ⟨w, rfl, hw, fun h => ?_, fun h => hn (by omega)⟩) (fun z => ?_)
    · rcases Classical.em (U = u ∧ V = v) with ⟨e1, e2⟩ | e
      · subst e1 e2
        have := hn (by omega)
        omega
      · exact hs (by omega)
    refine yy_pt hk (by omega) (by omega) (fun hl => br_f zn_10 (ih (zi_ u, zi_ v, zi_ ((x - u) * (x - u) + (y - v) * (y - v))) ⟨(x - u) * (x - u) + (y - v) * (y - v), rfl, ?_, fun h => ?_, fun h => ?_⟩)) (fun hl => br_t rfl (ih (m1, m2, zi_ w) ⟨w, rfl, hw, fun h => ?_, fun h => hn (by omega)⟩))
    · have h3 := hmin u v hl
      unfold lx_ at h3
      omega
    · have h3 := hmin u v hl
      unfold lx_ at h3
      rcases Classical.em (U = u ∧ V = v) with ⟨e1, e2⟩ | e
      · subst e1 e2
        exact ⟨rfl, rfl, hS.symm⟩
      · have := (hs (by omega)).2.2
        omega
    · have h3 := hmin u v hl
      unfold lx_ at h3
      omega
    · rcases Classical.em (U = u ∧ V = v) with ⟨e1, e2⟩ | e
      · subst e1 e2
        exact absurd hUV hl
      · exact hs (by omega)
theorem yy_search {post : SY → Prop} {a b c d x y U V S : Int} {nu nv aw : Int32} (hk : ll_ok a b c d) (hx : -1000 ≤ x ∧ x ≤ 1000) (hy : -1000 ≤ y ∧ y ≤ 1000)
    (hS : S = (x - U) * (x - U) + (y - V) * (y - V)) (hS2 : S ≤ 1800) (hmin : ∀ u v, ll_lat a b c d u v → lx_ S U V ((x - u) * (x - u) + (y - v) * (y - v)) u v) (hUV : ll_lat a b c d U V)
    (h : post (zi_ a, zi_ b, zi_ c, zi_ d, zi_ U, zi_ V, zi_ S)) : wpY_search post (zi_ a, zi_ b, zi_ c, zi_ d, nu, nv, aw) (zi_ x) (zi_ y) := by
  obtain ⟨hU, hV⟩ := ll_cd (x := x - U) (y := y - V) (by omega)
  have s1 := sq_nn (x - U)
  have s2 := sq_nn (y - V)
  unfold wpY_search
  simp only [zi_43, zi_sub, zi_100000, forall_eq]
  refine lz_loop (fun n (s : Int32 × Int32 × Int32) u => wY_search_11 post (zi_ x) (zi_ y) (zi_ a) (zi_ b) (zi_ c) (zi_ d) n (zi_ u) s.1 s.2.1 s.2.2)
    (fun s u => ∃ w, s.2.2 = zi_ w ∧ (S ≤ w ∧ w ≤ 100000) ∧ (U < u → s.1 = zi_ U ∧ s.2.1 = zi_ V ∧ w = S) ∧ (u ≤ U → S < w)) (x - 43) (x + 43) ?_ ?_ (nu, nv, zi_ 100000) (by omega) ⟨100000, rfl, by omega, fun h => by omega, fun h => by omega⟩
  · rintro n ⟨m1, m2, m3⟩ ⟨w, e3, hw, hs, hn⟩
    dsimp only at e3 hs hn ⊢
    obtain ⟨rfl, rfl, rfl⟩ := hs (by omega)
    subst e3
    simp only [wY_search_11, zi_43, zi_add, zi_sub, forall_eq]
    exact zb_lt (by omega) (by omega) (fun _ => h) (fun z => by omega)
  · rintro n ⟨m1, m2, m3⟩ u hu1 hu2 ⟨w, e3, hw, hs, hn⟩ ih
    dsimp only at e3 hs hn ⊢
    subst e3
    simp only [wY_search_11, zi_43, zi_add, zi_sub, forall_eq]
    refine zb_lt (by omega) (by omega) (fun z => by omega) (fun _ => ?_)
    exact yq_in hk hx hy (by omega) hS hmin hUV (by omega) u w (by omega) m1 m2 hw hs hn (fun k1 k2 w' h1 h2 h3 => ih (k1, k2, zi_ w') ⟨w', rfl, h1, h2, h3⟩)
theorem yw_in {post : Int32 → Prop} {J : Int32 → Int32 → Prop} {a b c d M : Int} {nu nv aw : Int32} (hk : ll_ok a b c d) (hM : zr_ M) (x c0 : Int) (hx : -30 ≤ x ∧ x ≤ 30)
    (hJ : J (zi_ (c0 + sm_ (fun y => zc_ (x * x + y * y ≤ M ∧ ll_lat a b c d x y)) (-30) 61)) (zi_ (x + 1))) :
    ∃ n, wY_within_32 post J (zi_ M) (zi_ x) (zi_ a) (zi_ b) (zi_ c) (zi_ d) nu nv aw n (zi_ c0) (zi_ (-30)) := by
  have b1 := zm_b hx hx
  have n1 := sq_nn x
  refine lz_loop (fun n s y => wY_within_32 post J (zi_ M) (zi_ x) (zi_ a) (zi_ b) (zi_ c) (zi_ d) nu nv aw n s (zi_ y))
    (fun s y => ∃ k : Nat, y = -30 + k ∧ s = zi_ (c0 + sm_ (fun y => zc_ (x * x + y * y ≤ M ∧ ll_lat a b c d x y)) (-30) k)) (-30) 30 ?_ ?_ (zi_ c0) (by omega) ⟨0, by omega, by rw [sm_, Int.add_zero]⟩
  · rintro n s ⟨k, hy, rfl⟩
    obtain rfl : k = 61 := by omega
    simp only [wY_within_32, zi_30, zi_1, zi_add, zi_mul, forall_eq]
    exact zb_lt (by omega) (by omega) (fun _ => hJ) (fun z => by omega)
  · rintro n s y hy1 hy2 ⟨k, hy, rfl⟩ ih
    have b2 := zm_b (U := 30) (V := 30) (u := y) (v := y) (by omega) (by omega)
    have n2 := sq_nn y
    have no : ¬ (x * x + y * y ≤ M ∧ ll_lat a b c d x y) → zi_ (c0 + sm_ (fun y => zc_ (x * x + y * y ≤ M ∧ ll_lat a b c d x y)) (-30) k) = zi_ (c0 + sm_ (fun y => zc_ (x * x + y * y ≤ M ∧ ll_lat a b c d x y)) (-30) (k + 1)) := by
      intro h
      rw [sm_s0]
      rw [← hy]
      exact zc_f h
    simp only [wY_within_32, zi_30, zi_0, zi_1, zi_add, zi_mul, forall_eq]
    refine zb_lt (by omega) (by omega) (fun z => by omega) (fun _ => ?_)
    refine zb_lt (by omega) (by omega) (fun z => ih _ ⟨k + 1, by omega, no (fun h => by omega)⟩) (fun z => ?_)
    refine yy_pt hk (by omega) (by omega) (fun hl => br_f zn_10 (ih _ ⟨k + 1, by omega, ?_⟩)) (fun hl => br_t rfl (ih _ ⟨k + 1, by omega, no (fun h => hl h.2)⟩))
    rw [sm_s1, Int.add_assoc]
    rw [← hy]
    exact zc_t ⟨z, hl⟩
theorem yw_out {post : Int32 → Prop} {a b c d M : Int} {nu nv aw : Int32} (hk : ll_ok a b c d) (hM : zr_ M)
    (h : post (zi_ (sm_ (fun x => sm_ (fun y => zc_ (x * x + y * y ≤ M ∧ ll_lat a b c d x y)) (-30) 61) (-30) 61))) :
    ∃ n, wY_within_21 post (zi_ M) (zi_ a) (zi_ b) (zi_ c) (zi_ d) nu nv aw n (zi_ 0) (zi_ (-30)) := by
  refine lz_loop (fun n s x => wY_within_21 post (zi_ M) (zi_ a) (zi_ b) (zi_ c) (zi_ d) nu nv aw n s (zi_ x))
    (fun s x => ∃ k : Nat, x = -30 + k ∧ s = zi_ (sm_ (fun x => sm_ (fun y => zc_ (x * x + y * y ≤ M ∧ ll_lat a b c d x y)) (-30) 61) (-30) k)) (-30) 30 ?_ ?_ (zi_ 0) (by omega) ⟨0, by omega, rfl⟩
  · rintro n s ⟨k, hy, rfl⟩
    obtain rfl : k = 61 := by omega
    simp only [wY_within_21, zi_30, zi_neg]
    exact zb_lt (by omega) (by omega) (fun _ => h) (fun z => by omega)
  · rintro n s x hx1 hx2 ⟨k, hx, rfl⟩ ih
    simp only [wY_within_21, zi_30, zi_neg]
    refine zb_lt (by omega) (by omega) (fun z => by omega) (fun _ => ?_)
    refine yw_in hk hM x _ (by omega) (ih _ ⟨k + 1, by omega, ?_⟩)
    subst hx
    rfl
theorem yy_within {post : Int32 → Prop} {a b c d L : Int} {nu nv aw : Int32} (hk : ll_ok a b c d) (hL : zr_ L)
    (h : ∀ M : Int, (L ≤ 900 → M = L) → (900 < L → M = 900) → post (zi_ (sm_ (fun x => sm_ (fun y => zc_ (x * x + y * y ≤ M ∧ ll_lat a b c d x y)) (-30) 61) (-30) 61))) :
    wpY_within post (zi_ a, zi_ b, zi_ c, zi_ d, nu, nv, aw) (zi_ L) := by
  unfold wpY_within
  simp only [zi_900, zi_0, zi_30, zi_neg]
  exact zb_le hL (by omega) (fun z => yw_out hk hL (h L (fun _ => rfl) (fun _ => by omega))) (fun z => yw_out hk (by omega) (h 900 (fun _ => by omega) (fun _ => rfl)))
end
section
theorem xo_1 {post : SX → Prop} {x3 x4 x5 a b c d p1 p2 q1 q2 bs bu bv : Int32} (h : post (a, b, c, d, p1, p2, q1, q2, x5, x3, x4)) : wX_offer_60 post x3 x4 x5 (zi_ 1) a b c d p1 p2 q1 q2 bs bu bv :=
  br_f (by rw [zi_0]; exact zn_10) h
theorem xo_0 {post : SX → Prop} {x3 x4 x5 a b c d p1 p2 q1 q2 bs bu bv : Int32} (h : post (a, b, c, d, p1, p2, q1, q2, bs, bu, bv)) : wX_offer_60 post x3 x4 x5 (zi_ 0) a b c d p1 p2 q1 q2 bs bu bv :=
  br_t zi_0.symm h
theorem xx_offer {post : SX → Prop} {a b c d p1 p2 q1 q2 : Int32} {w U V x y u v : Int} (rw_ : zr_ w) (rU : zr_ U) (rV : zr_ V) (ru : zr_ u) (rv : zr_ v) (rs : zr_ ((x - u) * (x - u) + (y - v) * (y - v)))
    (h1 : ((x - u) * (x - u) + (y - v) * (y - v) < w ∨ ((x - u) * (x - u) + (y - v) * (y - v) = w ∧ (u < U ∨ (u = U ∧ v < V)))) → post (a, b, c, d, p1, p2, q1, q2, zi_ ((x - u) * (x - u) + (y - v) * (y - v)), zi_ u, zi_ v))
    (h0 : ¬ ((x - u) * (x - u) + (y - v) * (y - v) < w ∨ ((x - u) * (x - u) + (y - v) * (y - v) = w ∧ (u < U ∨ (u = U ∧ v < V)))) → post (a, b, c, d, p1, p2, q1, q2, zi_ w, zi_ U, zi_ V)) :
    wpX_offer post (a, b, c, d, p1, p2, q1, q2, zi_ w, zi_ U, zi_ V) (zi_ x) (zi_ y) (zi_ u) (zi_ v) := by
  unfold wpX_offer wX_offer_55 wX_offer_59 wpX_size
  simp only [zi_sub, zi_mul, zi_add, zi_0, zi_1]
  refine zb_lt rs rw_ (fun z1 => xo_1 (h1 (by omega))) (fun z1 => ?_)
  refine zb_eq rs rw_ (fun z2 => ?_) (fun z2 => xo_0 (h0 (by omega)))
  refine zb_lt ru rU (fun z3 => xo_1 (h1 (by omega))) (fun z3 => ?_)
  refine zb_eq ru rU (fun z4 => ?_) (fun z4 => xo_0 (h0 (by omega)))
  exact zb_le rV rv (fun z5 => xo_0 (h0 (by omega))) (fun z5 => xo_1 (h1 (by omega)))
/-- what the search holds -/
def xq_I (S U V : Int) (sc : Prop) (s : Int32 × Int32 × Int32) : Prop := ∃ w U' V' : Int, s = (zi_ w, zi_ U', zi_ V') ∧ (zr_ w ∧ zr_ U' ∧ zr_ V') ∧ lx_ S U V w U' V' ∧ (sc → w = S ∧ U' = U ∧ V' = V)
theorem xq_in {post : SX → Prop} {J : Int32 → Int32 → Int32 → Int32 → Int32 → Int32 → Int32 → Int32 → Int32 → Int32 → Int32 → Int32 → Prop} {a b c d : Int32} {px py qx qy x y i j m n : Int} (k : Int)
    (hx : -1000 ≤ x ∧ x ≤ 1000) (hy : -1000 ≤ y ∧ y ≤ 1000) (hj : -1000000 ≤ j ∧ j ≤ 1000000)
    (hds : ∀ l, (j - 1 ≤ l ∧ l ≤ j + 2) → (-168 ≤ k * px + l * qx - x ∧ k * px + l * qx - x ≤ 168) ∧ (-168 ≤ k * py + l * qy - y ∧ k * py + l * qy - y ≤ 168))
    (hn : j - 1 ≤ n ∧ n ≤ j + 2) (hmin : ∀ l, lx_ (nr_sz px py qx qy x y m n) (m * px + n * qx) (m * py + n * qy) (nr_sz px py qx qy x y k l) (k * px + l * qx) (k * py + l * qy))
    (s : Int32 × Int32 × Int32) (hI : xq_I (nr_sz px py qx qy x y m n) (m * px + n * qx) (m * py + n * qy) (m < k) s)
    (hJ : ∀ s : Int32 × Int32 × Int32, xq_I (nr_sz px py qx qy x y m n) (m * px + n * qx) (m * py + n * qy) (m < k + 1) s → J (zi_ (k + 1)) a b c d (zi_ px) (zi_ py) (zi_ qx) (zi_ qy) s.1 s.2.1 s.2.2) :
    ∃ f, wX_findNearest_93 post J (zi_ x) (zi_ y) (zi_ i) (zi_ j) (zi_ k) f (zi_ (j - 1)) a b c d (zi_ px) (zi_ py) (zi_ qx) (zi_ qy) s.1 s.2.1 s.2.2 := by
  refine lz_loop (fun f (s : Int32 × Int32 × Int32) l => wX_findNearest_93 post J (zi_ x) (zi_ y) (zi_ i) (zi_ j) (zi_ k) f (zi_ l) a b c d (zi_ px) (zi_ py) (zi_ qx) (zi_ qy) s.1 s.2.1 s.2.2)
    (fun s l => xq_I (nr_sz px py qx qy x y m n) (m * px + n * qx) (m * py + n * qy) (m < k ∨ (m = k ∧ n < l)) s) (j - 1) (j + 2) ?_ ?_ s (by omega) ?_
  · rintro f s ⟨w, U', V', rfl, hr, hl, hs⟩
    simp only [wX_findNearest_93, zi_2, zi_1, zi_add, zi_mul, forall_eq]
    exact zb_lt (by omega) (by omega) (fun _ => hJ (zi_ w, zi_ U', zi_ V') ⟨w, U', V', rfl, hr, hl, fun h => hs (by omega)⟩) (fun z => by omega)
  · rintro f s l hl1 hl2 ⟨w, U', V', rfl, ⟨rw_, rU, rV⟩, hl, hs⟩ ih
    obtain ⟨d1, d2⟩ := hds l (by omega)
    have hm := hmin l
    have b1 := zm_b (U := 168) (V := 168) (u := x - (k * px + l * qx)) (v := x - (k * px + l * qx)) (by omega) (by omega)
    have b2 := zm_b (U := 168) (V := 168) (u := y - (k * py + l * qy)) (v := y - (k * py + l * qy)) (by omega) (by omega)
    have he : nr_sz px py qx qy x y k l = (x - (k * px + l * qx)) * (x - (k * px + l * qx)) + (y - (k * py + l * qy)) * (y - (k * py + l * qy)) := rfl
    have eq : m = k → n = l → nr_sz px py qx qy x y m n = nr_sz px py qx qy x y k l ∧ m * px + n * qx = k * px + l * qx ∧ m * py + n * qy = k * py + l * qy := by
      intro e1 e2
      rw [e1, e2]
      exact ⟨rfl, rfl, rfl⟩
    simp only [wX_findNearest_93, zi_2, zi_1, zi_add, zi_mul, forall_eq]
    refine zb_lt (by omega) (by omega) (fun z => by omega) (fun _ => ?_)
    unfold lx_ at hm hl
    refine xx_offer rw_ rU rV (by omega) (by omega) (by omega) (fun hb => ?_) (fun hb => ?_)
    · refine ih (zi_ ((x - (k * px + l * qx)) * (x - (k * px + l * qx)) + (y - (k * py + l * qy)) * (y - (k * py + l * qy))), zi_ (k * px + l * qx), zi_ (k * py + l * qy)) ⟨_, _, _, rfl, ⟨by omega, by omega, by omega⟩, ?_, fun h => ?_⟩
      · rw [he] at hm
        exact hm
      · rcases Classical.em (m = k ∧ n = l) with e | e
        · have := eq e.1 e.2
          omega
        · have := hs (by omega)
          omega
    · refine ih (zi_ w, zi_ U', zi_ V') ⟨w, U', V', rfl, ⟨rw_, rU, rV⟩, hl, fun h => ?_⟩
      rcases Classical.em (m = k ∧ n = l) with e | e
      · have := eq e.1 e.2
        omega
      · exact hs (by omega)
  · obtain ⟨w, U', V', e, hr, hl, hs⟩ := hI
    exact ⟨w, U', V', e, hr, hl, fun h => hs (by omega)⟩
theorem xq_ab {px py qx qy x y s : Int} (hg : ll_gd px py qx qy) (hs : s = 1 ∨ s = -1) (hx : -1000 ≤ x ∧ x ≤ 1000) (hy : -1000 ≤ y ∧ y ≤ 1000) :
    (-90000 ≤ s * (x * qy - y * qx) ∧ s * (x * qy - y * qx) ≤ 90000) ∧ (-90000 ≤ s * (px * y - py * x) ∧ s * (px * y - py * x) ≤ 90000) ∧ (-90000 ≤ s * (px * qy - py * qx) ∧ s * (px * qy - py * qx) ≤ 90000) := by
  obtain ⟨p1, p2⟩ := ll_cd hg.2.1
  obtain ⟨q1, q2⟩ := ll_cd hg.2.2
  have h1 := zm_b hx q2
  have h2 := zm_b hy q1
  have h3 := zm_b p1 hy
  have h4 := zm_b p2 hx
  have h5 := zm_b p1 q2
  have h6 := zm_b p2 q1
  rcases hs with e | e
  · subst e
    omega
  · subst e
    omega
theorem dv_bd {A E K : Int} (hE : 0 < E) (hA : -K ≤ A ∧ A ≤ K) : -K ≤ A / E ∧ A / E ≤ K := by
  have h1 := Int.ediv_mul_le A (b := E) (by omega)
  have h2 := Int.lt_ediv_add_one_mul_self A hE
  revert h1 h2
  generalize A / E = q
  intro h1 h2
  have e : (q + 1) * E = q * E + E := by grind
  constructor
  · apply Int.not_lt.mp
    intro z
    have a := Int.mul_nonneg (show 0 ≤ -q - 1 by omega) (show 0 ≤ E - 1 by omega)
    have e2 : (-q - 1) * (E - 1) = -(q * E) + q - E + 1 := by grind
    omega
  · apply Int.not_lt.mp
    intro z
    have a := Int.mul_nonneg (show 0 ≤ q by omega) (show 0 ≤ E - 1 by omega)
    have e2 : q * (E - 1) = q * E - q := by grind
    omega
theorem xq_14 {post : SX → Prop} {a b c d bs bu bv : Int32} {px py qx qy x y s : Int} (hg : ll_gd px py qx qy) (hr : ll_rd px py qx qy) (hs : s = 1 ∨ s = -1) (hE : 0 < s * (px * qy - py * qx)) (hx : -1000 ≤ x ∧ x ≤ 1000) (hy : -1000 ≤ y ∧ y ≤ 1000)
    (hpost : ∀ U V S, ll_lat px py qx qy U V → nn_ px py qx qy x y U V S → post (a, b, c, d, zi_ px, zi_ py, zi_ qx, zi_ qy, zi_ S, zi_ U, zi_ V)) :
    wX_findNearest_14 post (zi_ x) (zi_ y) (zi_ (px * qy - py * qx)) (zi_ s) a b c d (zi_ px) (zi_ py) (zi_ qx) (zi_ qy) bs bu bv := by
  obtain ⟨hA, hB, hD⟩ := xq_ab hg hs hx hy
  have hss : s * s = 1 := by
    rcases hs with e | e <;> subst e <;> rfl
  unfold wX_findNearest_14
  simp only [zi_mul, zi_sub]
  refine xx_fd (by omega) hE (by omega) ?_
  refine xx_fd (by omega) hE (by omega) ?_
  have i1 := Int.ediv_mul_le (s * (x * qy - y * qx)) (b := s * (px * qy - py * qx)) (by omega)
  have i2 := Int.lt_ediv_add_one_mul_self (s * (x * qy - y * qx)) hE
  have i3 := dv_bd hE hA
  have j1 := Int.ediv_mul_le (s * (px * y - py * x)) (b := s * (px * qy - py * qx)) (by omega)
  have j2 := Int.lt_ediv_add_one_mul_self (s * (px * y - py * x)) hE
  have j3 := dv_bd hE hB
  revert i1 i2 i3 j1 j2 j3
  generalize s * (x * qy - y * qx) / (s * (px * qy - py * qx)) = i
  generalize s * (px * y - py * x) / (s * (px * qy - py * qx)) = j
  intro i1 i2 i3 j1 j2 j3
  obtain ⟨m, n, hm, hn, hnn⟩ := nn_ex x y i j hg hr hss hE i1 i2 j1 j2
  simp only [zi_1, zi_sub, zi_max, forall_eq]
  refine lz_loop (fun f (s : Int32 × Int32 × Int32) k => wX_findNearest_78 post (zi_ x) (zi_ y) (zi_ i) (zi_ j) f (zi_ k) a b c d (zi_ px) (zi_ py) (zi_ qx) (zi_ qy) s.1 s.2.1 s.2.2)
    (fun s k => xq_I (nr_sz px py qx qy x y m n) (m * px + n * qx) (m * py + n * qy) (m < k) s) (i - 1) (i + 2) ?_ ?_ (zi_ 2147483647, bu, bv) (by omega) ?_
  · rintro f s ⟨w, U', V', rfl, hr, hl, hs⟩
    simp only [wX_findNearest_78, zi_2, zi_1, zi_add, zi_sub, forall_eq]
    refine zb_lt (by omega) (by omega) (fun _ => ?_) (fun z => by omega)
    obtain ⟨rfl, rfl, rfl⟩ := hs (by omega)
    exact hpost _ _ _ ⟨m, n, rfl, rfl⟩ hnn
  · rintro f s k hk1 hk2 hI ih
    simp only [wX_findNearest_78, zi_2, zi_1, zi_add, zi_sub, forall_eq]
    refine zb_lt (by omega) (by omega) (fun z => by omega) (fun _ => ?_)
    exact xq_in k hx hy (by omega) (fun l hl => nn_ds hg hss hE i1 i2 j1 j2 (by omega) hl) hn (fun l => hnn.2.2 _ _ ⟨k, l, rfl, rfl⟩) s hI ih
  · refine ⟨2147483647, bu.toInt, bv.toInt, ?_, ⟨by omega, zi_rg bu, zi_rg bv⟩, Or.inl ?_, fun h => by omega⟩
    · rw [← zi_of bu, ← zi_of bv]
    · have := hnn.2.1
      omega
theorem xx_near {post : SX → Prop} {a b c d bs bu bv : Int32} {px py qx qy x y : Int} (hg : ll_gd px py qx qy) (hr : ll_rd px py qx qy) (hx : -1000 ≤ x ∧ x ≤ 1000) (hy : -1000 ≤ y ∧ y ≤ 1000)
    (hpost : ∀ U V S, ll_lat px py qx qy U V → nn_ px py qx qy x y U V S → post (a, b, c, d, zi_ px, zi_ py, zi_ qx, zi_ qy, zi_ S, zi_ U, zi_ V)) :
    wpX_findNearest post (a, b, c, d, zi_ px, zi_ py, zi_ qx, zi_ qy, bs, bu, bv) (zi_ x) (zi_ y) := by
  have hD := (xq_ab hg (Or.inl rfl) hx hy).2.2
  have h0 := hg.1
  unfold wpX_findNearest wpX_area
  simp only [zi_mul, zi_sub, zi_0, zi_1, zi_neg]
  exact zb_le (by omega) (by omega) (fun z => xq_14 hg hr (Or.inl rfl) (by omega) hx hy hpost) (fun z => xq_14 hg hr (Or.inr rfl) (by omega) hx hy hpost)
end
section
theorem xx_many {post : Int32 → Prop} {a b c d bs bu bv : Int32} {px py qx qy : Int} (hg : ll_gd px py qx qy)
    (h : post (zi_ (2 + 2 * zc_ (qx * qx + qy * qy = px * px + py * py) + 2 * zc_ ((px + qx) * (px + qx) + (py + qy) * (py + qy) = px * px + py * py)
        + 2 * zc_ ((px - qx) * (px - qx) + (py - qy) * (py - qy) = px * px + py * py)))) :
    wpX_many post (a, b, c, d, zi_ px, zi_ py, zi_ qx, zi_ qy, bs, bu, bv) := by
  obtain ⟨p1, p2⟩ := ll_cd hg.2.1
  obtain ⟨q1, q2⟩ := ll_cd hg.2.2
  have hp := ll_pos hg.1
  have hp2 := hg.2.1
  have hq2 := hg.2.2
  have b1 := zm_b (U := 84) (V := 84) (u := px + qx) (v := px + qx) (by omega) (by omega)
  have b2 := zm_b (U := 84) (V := 84) (u := py + qy) (v := py + qy) (by omega) (by omega)
  have b3 := zm_b (U := 84) (V := 84) (u := px - qx) (v := px - qx) (by omega) (by omega)
  have b4 := zm_b (U := 84) (V := 84) (u := py - qy) (v := py - qy) (by omega) (by omega)
  have k69 : ∀ z0 z1 : Int, z0 = 2 * zc_ ((px + qx) * (px + qx) + (py + qy) * (py + qy) = px * px + py * py) → z1 = 2 + 2 * zc_ (qx * qx + qy * qy = px * px + py * py) →
      wX_many_69 post (zi_ (px * px + py * py)) (zi_ z0) (zi_ z1) a b c d (zi_ px) (zi_ py) (zi_ qx) (zi_ qy) bs bu bv := by
    intro z0 z1 e0 e1
    unfold wX_many_69 wpX_size
    simp only [zi_mul, zi_add, zi_sub, zi_2, zi_0, forall_eq]
    refine zb_eq (by omega) (by omega) (fun z => ?_) (fun z => ?_)
    · rw [zc_t z] at h
      rw [e0, e1]
      exact h
    · rw [zc_f z] at h
      rw [e0, e1]
      exact h
  have k36 : ∀ z0 : Int, z0 = 2 * zc_ (qx * qx + qy * qy = px * px + py * py) →
      wX_many_36 post (zi_ (px * px + py * py)) (zi_ z0) (zi_ 2) a b c d (zi_ px) (zi_ py) (zi_ qx) (zi_ qy) bs bu bv := by
    intro z0 e0
    unfold wX_many_36 wpX_size
    simp only [zi_mul, zi_add, zi_sub, zi_2, zi_0, forall_eq]
    refine zb_eq (by omega) (by omega) (fun z => ?_) (fun z => ?_)
    · exact k69 2 (2 + z0) (by rw [zc_t z]; rfl) (by rw [e0])
    · exact k69 0 (2 + z0) (by rw [zc_f z]; rfl) (by rw [e0])
  unfold wpX_many wpX_shortest
  simp only [zi_mul, zi_add, zi_2, zi_0]
  refine zb_eq (by omega) (by omega) (fun z => ?_) (fun z => ?_)
  · exact k36 2 (by rw [zc_t z]; rfl)
  · exact k36 0 (by rw [zc_f z]; rfl)
theorem xw_lp {post : Int32 → Prop} {a b c d bs bu bv : Int32} {px py qx qy M : Int} (hg : ll_gd px py qx qy) (hr : ll_rd px py qx qy) (hM : 0 ≤ M ∧ M ≤ 900)
    (h : post (zi_ (sm_ (fun j => sm_ (fun i => zc_ (i * i * (px * px + py * py) + 2 * (i * j) * (px * qx + py * qy) + j * j * (qx * qx + qy * qy) ≤ M)) (-40) 81) (-40) 81))) :
    ∃ n, wX_within_69 post (zi_ M) (zi_ (px * px + py * py)) (zi_ (px * qx + py * qy)) a b c d (zi_ px) (zi_ py) (zi_ qx) (zi_ qy) bs bu bv n (zi_ 0) (zi_ (-40)) := by
  have hp := ll_pos hg.1
  have hp2 := hg.2.1
  have hq2 := hg.2.2
  have hR := xr_R hg
  have hD := (xq_ab (x := 0) (y := 0) hg (Or.inl rfl) (by omega) (by omega)).2.2
  have hPM := zm_b (U := 1800) (V := 900) (u := px * px + py * py) (v := M) (by omega) (by omega)
  have hG := ll_gram px py qx qy
  refine lz_loop (fun n s j => wX_within_69 post (zi_ M) (zi_ (px * px + py * py)) (zi_ (px * qx + py * qy)) a b c d (zi_ px) (zi_ py) (zi_ qx) (zi_ qy) bs bu bv n s (zi_ j))
    (fun s j => ∃ k : Nat, j = -40 + k ∧ s = zi_ (sm_ (fun j => sm_ (fun i => zc_ (i * i * (px * px + py * py) + 2 * (i * j) * (px * qx + py * qy) + j * j * (qx * qx + qy * qy) ≤ M)) (-40) 81) (-40) k)) (-40) 40 ?_ ?_ (zi_ 0) (by omega) ⟨0, by omega, rfl⟩
  · rintro n s ⟨k, hy, rfl⟩
    obtain rfl : k = 81 := by omega
    rw [wX_within_69, zi_40]
    exact zb_lt (by omega) (by omega) (fun _ => h) (fun z => by omega)
  · rintro n s j hj1 hj2 ⟨k, hj, rfl⟩ ih
    have e : ∀ z : Int, z = sm_ (fun i => zc_ (i * i * (px * px + py * py) + 2 * (i * j) * (px * qx + py * qy) + j * j * (qx * qx + qy * qy) ≤ M)) (-40) 81 →
        zi_ (sm_ (fun j => sm_ (fun i => zc_ (i * i * (px * px + py * py) + 2 * (i * j) * (px * qx + py * qy) + j * j * (qx * qx + qy * qy) ≤ M)) (-40) 81) (-40) k + z)
        = zi_ (sm_ (fun j => sm_ (fun i => zc_ (i * i * (px * px + py * py) + 2 * (i * j) * (px * qx + py * qy) + j * j * (qx * qx + qy * qy) ≤ M)) (-40) 81) (-40) (k + 1)) := by
      intro z hz
      rw [hz, hj]
      rfl
    have b1 := zm_b (U := 40) (V := 90000) (u := j) (v := px * qy - py * qx) (by omega) (by omega)
    have b2 := zm_b (U := 3600000) (V := 3600000) (u := j * (px * qy - py * qx)) (v := j * (px * qy - py * qx)) (by omega) (by omega)
    have b3 := sq_nn (j * (px * qy - py * qx))
    have b4 := zm_b (U := 40) (V := 3528) (u := -j) (v := px * qx + py * qy) (by omega) (by omega)
    rw [wX_within_69]
    unfold wpX_area
    simp only [zi_40, zi_mul, zi_sub]
    rw [zi_l (a := j) (by omega), zi_l (a := px * qy - py * qx) (by omega), zi_l (a := (px * px + py * py) * M) (by omega)]
    simp only [zl_mul, zl_sub, zl_0, zl_i, zi_1, zi_0, zi_neg, zi_mul, zi_add, zi_sub, forall_eq]
    refine zb_lt (by omega) (by omega) (fun z => by omega) (fun _ => ?_)
    refine zb_ltl (by omega) (by omega) (fun z => ?_) (fun z => ?_)
    · refine ih _ ⟨k + 1, by omega, ?_⟩
      rw [← e 0 (ct_r0 (by omega) hG z).symm, Int.add_zero]
    · refine xx_root (by omega) (fun s s0 s1 s2 s3 => ?_)
      simp only [zi_add, zi_sub]
      have hrow := ct_r1 (by omega) hr.1 hr.2.1 hr.2.2 hM.2 hG s0 s2 s3
      refine xx_fd (by omega) (by omega) (by omega) ?_
      refine xx_fd (by omega) (by omega) (by omega) ?_
      have f1 := dv_bd (A := -j * (px * qx + py * qy) - s + (px * px + py * py) - 1) (E := px * px + py * py) (K := 300000) (by omega) (by omega)
      have f2 := dv_bd (A := -j * (px * qx + py * qy) + s) (E := px * px + py * py) (K := 300000) (by omega) (by omega)
      revert hrow f1 f2
      generalize (-j * (px * qx + py * qy) - s + (px * px + py * py) - 1) / (px * px + py * py) = A
      generalize (-j * (px * qx + py * qy) + s) / (px * px + py * py) = B
      intro hrow f1 f2
      refine zb_lt (by omega) (by omega) (fun z => ?_) (fun z => ?_)
      · rw [if_pos z] at hrow
        exact ih _ ⟨k + 1, by omega, e 0 hrow.symm⟩
      · rw [if_neg (by omega)] at hrow
        simp only [zi_sub, zi_add]
        exact ih _ ⟨k + 1, by omega, e (B - A + 1) hrow.symm⟩
theorem xx_within {post : Int32 → Prop} {a b c d bs bu bv : Int32} {px py qx qy L : Int} (hg : ll_gd px py qx qy) (hr : ll_rd px py qx qy) (hL : zr_ L) (h0 : L < 0 → post (zi_ 0))
    (h : ∀ M : Int, 0 ≤ M ∧ M ≤ 900 → (L ≤ 900 → M = L) → (900 < L → M = 900) → post (zi_ (sm_ (fun j => sm_ (fun i => zc_ (i * i * (px * px + py * py) + 2 * (i * j) * (px * qx + py * qy) + j * j * (qx * qx + qy * qy) ≤ M)) (-40) 81) (-40) 81))) :
    wpX_within post (a, b, c, d, zi_ px, zi_ py, zi_ qx, zi_ qy, bs, bu, bv) (zi_ L) := by
  unfold wpX_within wX_within_20
  simp only [zi_0, zi_900, zi_40, zi_neg, zi_mul, zi_add, forall_eq]
  refine zb_le (by omega) hL (fun z => ?_) (fun z => h0 z)
  exact zb_le hL (by omega) (fun z2 => xw_lp hg hr ⟨z, z2⟩ (h L ⟨z, z2⟩ (fun _ => rfl) (fun _ => by omega))) (fun z2 => xw_lp hg hr (by omega) (h 900 (by omega) (fun _ => by omega) (fun _ => rfl)))
end
section
theorem zi_ex (v : Int32) : ∃ x : Int, zr_ x ∧ v = zi_ x := ⟨v.toInt, zi_rg v, zi_of v⟩
theorem zn_1 : ¬ zi_ 1 = (0 : Int32) := by decide +kernel
theorem zn_0 : zi_ 0 = (0 : Int32) := zi_0.symm
theorem xs_68 {post : Int32 → Prop} {D E : Int} {a b c d p1 p2 q1 q2 bs bu bv : Int32} (rD : zr_ D) (rE : zr_ E) (rE2 : zr_ (-E)) (h1 : (D = E ∨ D = -E) → post (zi_ 1)) (h0 : ¬ (D = E ∨ D = -E) → post (zi_ 0)) :
    wX_same_68 post (zi_ D) (zi_ E) (zi_ 1) a b c d p1 p2 q1 q2 bs bu bv := by
  unfold wX_same_68
  refine br_f zn_1 ?_
  simp only [zi_0, zi_1, zi_neg]
  exact zb_eq rD rE (fun z => h1 (Or.inl z)) (fun z => zb_eq rD rE2 (fun z2 => h1 (Or.inr z2)) (fun z2 => h0 (fun h => h.elim z z2)))
theorem xs_67 {post : Int32 → Prop} {x5 x6 : Int32} {a b c d p1 p2 q1 q2 bs bu bv : Int32} (h : post (zi_ 0)) : wX_same_67 post x5 x6 a b c d p1 p2 q1 q2 bs bu bv := by
  unfold wX_same_67 wX_same_68
  exact br_t rfl (by rw [zi_0]; exact h)
theorem xx_same {post : Int32 → Prop} {a b c d e f g h : Int} {p1 p2 q1 q2 bs bu bv : Int32} (hk : ll_ok a b c d) (re : zr_ e) (rf_ : zr_ f) (rg : zr_ g) (rh : zr_ h)
    (hm : ¬ ll_ok e f g h → post (-1))
    (h1 : ll_ok e f g h → (ll_lat a b c d e f ∧ ll_lat a b c d g h) → (a * d - b * c = e * h - f * g ∨ a * d - b * c = -(e * h - f * g)) → post (zi_ 1))
    (h0 : ll_ok e f g h → ¬ ((ll_lat a b c d e f ∧ ll_lat a b c d g h) ∧ (a * d - b * c = e * h - f * g ∨ a * d - b * c = -(e * h - f * g))) → post (zi_ 0)) :
    wpX_same post (zi_ a, zi_ b, zi_ c, zi_ d, p1, p2, q1, q2, bs, bu, bv) (zi_ e) (zi_ f) (zi_ g) (zi_ h) := by
  have hD := ll_det hk
  unfold wpX_same
  dsimp only
  refine xx_as re rf_ rg rh (fun ok => br_f zn_1 ?_) (fun nok => br_t zn_0 (hm nok))
  have hE := ll_det ok
  obtain ⟨oe, of_, og, oh, _⟩ := id ok
  simp only [zi_mul, zi_sub, forall_eq]
  refine xx_pt hk (by omega) (by omega) (fun l1 => br_f zn_1 ?_) (fun l1 => br_t zn_0 (xs_67 (h0 ok (fun z => l1 z.1.1))))
  refine xx_pt hk (by omega) (by omega) (fun l2 => br_f zn_1 ?_) (fun l2 => br_t zn_0 (xs_67 (h0 ok (fun z => l2 z.1.2))))
  rw [zi_1]
  exact xs_68 (by omega) (by omega) (by omega) (fun z => h1 ok ⟨l1, l2⟩ z) (fun z => h0 ok (fun y => z y.2))
theorem yt_66 {post : Int32 → Prop} {a b c d e f g h z : Int} {nu nv aw : Int32} (hk : ll_ok a b c d) (ok : ll_ok e f g h) (hz : z = 0 ∨ z = 1)
    (h1 : z = 1 → (ll_lat e f g h a b ∧ ll_lat e f g h c d) → post (zi_ 1)) (h0 : ¬ (z = 1 ∧ ll_lat e f g h a b ∧ ll_lat e f g h c d) → post (zi_ 0)) :
    wY_same_66 post (zi_ e) (zi_ f) (zi_ g) (zi_ h) (zi_ z) (zi_ a) (zi_ b) (zi_ c) (zi_ d) nu nv aw := by
  obtain ⟨ka, kb, kc, kd, _⟩ := id hk
  have k0 : ¬ (z = 1 ∧ ll_lat e f g h a b ∧ ll_lat e f g h c d) → wY_same_110 post (zi_ z) (zi_ a) (zi_ b) (zi_ c) (zi_ d) nu nv aw := by
    intro hn
    unfold wY_same_110 wY_same_111
    rw [zi_0]
    exact br_c (fun _ => h0 hn) (fun _ => br_t rfl (h0 hn))
  unfold wY_same_66
  refine yy_in ok (by omega) (by omega) (fun l1 => br_f zn_1 ?_) (fun l1 => br_t zn_0 (k0 (fun y => l1 y.2.1)))
  refine yy_in ok (by omega) (by omega) (fun l2 => br_f zn_1 ?_) (fun l2 => br_t zn_0 (k0 (fun y => l2 y.2.2)))
  unfold wY_same_111
  rcases hz with e | e
  · subst e
    refine br_t zn_0 ?_
    rw [zi_0]
    exact h0 (fun y => by omega)
  · subst e
    refine br_f zn_1 (br_f (by decide) ?_)
    rw [zi_1]
    exact h1 rfl ⟨l1, l2⟩
theorem yy_same {post : Int32 → Prop} {a b c d e f g h : Int} {nu nv aw : Int32} (hk : ll_ok a b c d) (re : zr_ e) (rf_ : zr_ f) (rg : zr_ g) (rh : zr_ h)
    (hm : ¬ ll_ok e f g h → post (-1))
    (h1 : ll_ok e f g h → (ll_lat a b c d e f ∧ ll_lat a b c d g h) → (ll_lat e f g h a b ∧ ll_lat e f g h c d) → post (zi_ 1))
    (h0 : ll_ok e f g h → ¬ ((ll_lat a b c d e f ∧ ll_lat a b c d g h) ∧ (ll_lat e f g h a b ∧ ll_lat e f g h c d)) → post (zi_ 0)) :
    wpY_same post (zi_ a, zi_ b, zi_ c, zi_ d, nu, nv, aw) (zi_ e) (zi_ f) (zi_ g) (zi_ h) := by
  unfold wpY_same
  dsimp only
  refine yy_as re rf_ rg rh (fun ok => ?_) hm
  obtain ⟨oe, of_, og, oh, _⟩ := id ok
  have k65 : ¬ (ll_lat a b c d e f ∧ ll_lat a b c d g h) → wY_same_65 post (zi_ e) (zi_ f) (zi_ g) (zi_ h) (zi_ a) (zi_ b) (zi_ c) (zi_ d) nu nv aw := by
    intro hn
    unfold wY_same_65
    rw [zi_0]
    exact yt_66 hk ok (Or.inl rfl) (fun y => by omega) (fun _ => h0 ok (fun y => hn y.1))
  refine yy_pt hk (by omega) (by omega) (fun l1 => br_f zn_1 ?_) (fun l1 => br_t zn_0 (k65 (fun y => l1 y.1)))
  refine yy_pt hk (by omega) (by omega) (fun l2 => br_f zn_1 ?_) (fun l2 => br_t zn_0 (k65 (fun y => l2 y.2)))
  rw [zi_1]
  exact yt_66 hk ok (Or.inr rfl) (fun _ y => h1 ok ⟨l1, l2⟩ y) (fun y => h0 ok (fun w => y ⟨rfl, w.2⟩))
end
section
/-- the relation: the same steps, small and not on one line; and the pair is reduced and makes the same grid -/
def i_Rel (k : Nat) (u : SX) (v : SY) : Prop := ∃ a b c d px py qx qy : Int, ∃ bs bu bv nu nv aw : Int32,
  u = (zi_ a, zi_ b, zi_ c, zi_ d, zi_ px, zi_ py, zi_ qx, zi_ qy, bs, bu, bv) ∧ v = (zi_ a, zi_ b, zi_ c, zi_ d, nu, nv, aw) ∧
  ll_ok a b c d ∧ ll_gd px py qx qy ∧ ll_rd px py qx qy ∧ ll_sm a b c d px py qx qy
theorem i_up {k : Nat} {u : SX} {v : SY} (h : i_Rel k u v) : i_Rel (k + 5) u v := h
theorem rl_mk (k : Nat) {a b c d px py qx qy : Int} (bs bu bv nu nv aw : Int32) (h1 : ll_ok a b c d) (h2 : ll_gd px py qx qy) (h3 : ll_rd px py qx qy) (h4 : ll_sm a b c d px py qx qy) :
    i_Rel k (zi_ a, zi_ b, zi_ c, zi_ d, zi_ px, zi_ py, zi_ qx, zi_ qy, bs, bu, bv) (zi_ a, zi_ b, zi_ c, zi_ d, nu, nv, aw) :=
  ⟨a, b, c, d, px, py, qx, qy, bs, bu, bv, nu, nv, aw, rfl, rfl, h1, h2, h3, h4⟩
theorem i_vc0 : wpX_init (fun u => wpY_init (fun v => i_Rel 0 u v)) := by
  unfold wpX_init wpY_init
  rw [zi_1, zi_0]
  have ok : ll_ok 1 0 0 1 := by
    unfold ll_ok
    omega
  exact xx_reduce ok (fun px py qx qy hg hr hs => rl_mk 0 _ _ _ _ _ _ ok hg hr hs)
theorem i_vc_steps {k : Nat} {u : SX} {v : SY} (I : i_Rel k u v) (hk : k + 5 ≤ 2560) (v1 : Int32) (v2 : Int32) (v3 : Int32) (v4 : Int32) : wpX_steps (fun r u' => wpY_steps (fun r' v' => r' = r ∧ i_Rel (k + 5) u' v') v v1 v2 v3 v4) u v1 v2 v3 v4 := by
  have R := i_up I
  obtain ⟨a, b, c, d, px, py, qx, qy, bs, bu, bv, nu, nv, aw, rfl, rfl, h1, h2, h3, h4⟩ := I
  obtain ⟨e, re, rfl⟩ := zi_ex v1
  obtain ⟨f, rf_, rfl⟩ := zi_ex v2
  obtain ⟨g, rg, rfl⟩ := zi_ex v3
  obtain ⟨h, rh, rfl⟩ := zi_ex v4
  unfold wpX_steps wpY_steps
  dsimp only
  refine xx_as re rf_ rg rh (fun ok => br_f zn_1 ?_) (fun nok => br_t zn_0 ?_)
  · refine xx_reduce ok (fun px py qx qy hg hr hs => ?_)
    exact yy_as re rf_ rg rh (fun _ => ⟨rfl, rl_mk _ _ _ _ _ _ _ ok hg hr hs⟩) (fun n => absurd ok n)
  · exact yy_as re rf_ rg rh (fun ok => absurd ok nok) (fun _ => ⟨rfl, R⟩)
theorem i_vc_has {k : Nat} {u : SX} {v : SY} (I : i_Rel k u v) (hk : k + 5 ≤ 2560) (v1 : Int32) (v2 : Int32) : wpX_has (fun r => wpY_has (fun r' => r' = r ∧ i_Rel (k + 5) u v) v v1 v2) u v1 v2 := by
  have R := i_up I
  obtain ⟨a, b, c, d, px, py, qx, qy, bs, bu, bv, nu, nv, aw, rfl, rfl, h1, h2, h3, h4⟩ := I
  obtain ⟨x, rx, rfl⟩ := zi_ex v1
  obtain ⟨y, ry, rfl⟩ := zi_ex v2
  unfold wpX_has wpY_has
  dsimp only
  refine xx_rg rx ry (fun h => br_f zn_1 ?_) (fun h => br_t zn_0 ?_)
  · refine xx_pt h1 (by omega) (by omega) (fun hl => br_f zn_1 ?_) (fun hl => br_t zn_0 ?_)
    · exact yy_far rx ry (fun _ => br_t zn_0 (yy_pt h1 (by omega) (by omega) (fun _ => br_f zn_1 ⟨rfl, R⟩) (fun n => absurd hl n))) (fun n => absurd h n)
    · exact yy_far rx ry (fun _ => br_t zn_0 (yy_pt h1 (by omega) (by omega) (fun n => absurd n hl) (fun _ => br_t zn_0 ⟨rfl, R⟩))) (fun n => absurd h n)
  · exact yy_far rx ry (fun n => absurd n h) (fun _ => br_f zn_1 ⟨rfl, R⟩)
theorem rl_mn {a b c d px py qx qy : Int} (hg : ll_gd px py qx qy) (hr : ll_rd px py qx qy) (hs : ll_sm a b c d px py qx qy) :
    ∀ x y, ll_lat a b c d x y → 0 < x * x + y * y → px * px + py * py ≤ x * x + y * y := fun x y hl h0 => ll_P hg hr ((hs x y).mp hl) h0
theorem rl_p {a b c d px py qx qy : Int} (hs : ll_sm a b c d px py qx qy) : ll_lat a b c d px py := (hs px py).mpr ⟨1, 0, by omega, by omega⟩
theorem rl_sz {px py qx qy : Int} (hg : ll_gd px py qx qy) : (0 < px * px + py * py ∧ px * px + py * py ≤ 1800) ∧ (0 < qx * qx + qy * qy ∧ qx * qx + qy * qy ≤ 1800) := by
  have h1 := ll_pos hg.1
  have h2 := hg.2
  omega
theorem i_vc_shortest {k : Nat} {u : SX} {v : SY} (I : i_Rel k u v) (hk : k + 5 ≤ 2560) : wpX_shortest (fun r => wpY_shortest (fun r' => r' = r ∧ i_Rel (k + 5) u v) v) u := by
  have R := i_up I
  obtain ⟨a, b, c, d, px, py, qx, qy, bs, bu, bv, nu, nv, aw, rfl, rfl, h1, h2, h3, h4⟩ := I
  unfold wpX_shortest
  simp only [zi_mul, zi_add]
  exact yy_shortest h1 (rl_mn h2 h3 h4) (rl_sz h2).1 rfl (rl_p h4) ⟨rfl, R⟩
theorem i_vc_many {k : Nat} {u : SX} {v : SY} (I : i_Rel k u v) (hk : k + 5 ≤ 2560) : wpX_many (fun r => wpY_many (fun r' => r' = r ∧ i_Rel (k + 5) u v) v) u := by
  have R := i_up I
  obtain ⟨a, b, c, d, px, py, qx, qy, bs, bu, bv, nu, nv, aw, rfl, rfl, h1, h2, h3, h4⟩ := I
  refine xx_many h2 ?_
  refine yy_many h1 (rl_mn h2 h3 h4) (rl_sz h2).1 rfl (rl_p h4) ⟨?_, R⟩
  rw [← ct_many h2 h3]
  apply congrArg zi_
  apply sm_congr
  intro x _ _
  apply sm_congr
  intro y _ _
  exact zc_iff (and_congr_right (fun _ => h4 x y))
theorem i_vc_second {k : Nat} {u : SX} {v : SY} (I : i_Rel k u v) (hk : k + 5 ≤ 2560) : wpX_second (fun r => wpY_second (fun r' => r' = r ∧ i_Rel (k + 5) u v) v) u := by
  have R := i_up I
  obtain ⟨a, b, c, d, px, py, qx, qy, bs, bu, bv, nu, nv, aw, rfl, rfl, h1, h2, h3, h4⟩ := I
  unfold wpX_second
  simp only [zi_mul, zi_add]
  refine yy_second h1 (rl_mn h2 h3 h4) (rl_sz h2).1 rfl (rl_p h4) (rl_sz h2).2 (fun p q hl hz => ⟨fun x y hxy hne => ?_, ?_⟩) ⟨rfl, R⟩
  · exact ll_Q h2 h3 ((h4 p q).mp hl) hz ((h4 x y).mp hxy) hne
  · obtain ⟨x, y, m1, m2, m3⟩ := ll_Qx h2 h3 ((h4 p q).mp hl) hz
    exact ⟨x, y, (h4 x y).mpr m1, m2, m3⟩
theorem i_vc_distance {k : Nat} {u : SX} {v : SY} (I : i_Rel k u v) (hk : k + 5 ≤ 2560) (v1 : Int32) (v2 : Int32) : wpX_distance (fun r u' => wpY_distance (fun r' v' => r' = r ∧ i_Rel (k + 5) u' v') v v1 v2) u v1 v2 := by
  have R := i_up I
  obtain ⟨a, b, c, d, px, py, qx, qy, bs, bu, bv, nu, nv, aw, rfl, rfl, h1, h2, h3, h4⟩ := I
  obtain ⟨x, rx, rfl⟩ := zi_ex v1
  obtain ⟨y, ry, rfl⟩ := zi_ex v2
  unfold wpX_distance wpY_distance
  dsimp only
  refine xx_rg rx ry (fun h => br_f zn_1 ?_) (fun h => br_t zn_0 ?_)
  · refine xx_near h2 h3 h.1 h.2 (fun U V S hl hn => ?_)
    exact yy_far rx ry (fun _ => br_t zn_0 (yy_search h1 h.1 h.2 hn.1 hn.2.1 (fun u v hh => hn.2.2 u v ((h4 u v).mp hh)) ((h4 U V).mpr hl) ⟨rfl, rl_mk _ _ _ _ _ _ _ h1 h2 h3 h4⟩)) (fun n => absurd h n)
  · exact yy_far rx ry (fun n => absurd n h) (fun _ => br_f zn_1 ⟨rfl, R⟩)
theorem i_vc_nearest {k : Nat} {u : SX} {v : SY} (I : i_Rel k u v) (hk : k + 5 ≤ 2560) (v1 : Int32) (v2 : Int32) : wpX_nearest (fun r u' => wpY_nearest (fun r' v' => r' = r ∧ i_Rel (k + 5) u' v') v v1 v2) u v1 v2 := by
  have R := i_up I
  obtain ⟨a, b, c, d, px, py, qx, qy, bs, bu, bv, nu, nv, aw, rfl, rfl, h1, h2, h3, h4⟩ := I
  obtain ⟨x, rx, rfl⟩ := zi_ex v1
  obtain ⟨y, ry, rfl⟩ := zi_ex v2
  unfold wpX_nearest wpY_nearest
  dsimp only
  refine xx_rg rx ry (fun h => br_f zn_1 ?_) (fun h => br_t zn_0 ?_)
  · refine xx_near h2 h3 h.1 h.2 (fun U V S hl hn => ?_)
    exact yy_far rx ry (fun _ => br_t zn_0 (yy_search h1 h.1 h.2 hn.1 hn.2.1 (fun u v hh => hn.2.2 u v ((h4 u v).mp hh)) ((h4 U V).mpr hl) ⟨rfl, rl_mk _ _ _ _ _ _ _ h1 h2 h3 h4⟩)) (fun n => absurd h n)
  · exact yy_far rx ry (fun n => absurd n h) (fun _ => br_f zn_1 ⟨rfl, R⟩)
theorem i_vc_within {k : Nat} {u : SX} {v : SY} (I : i_Rel k u v) (hk : k + 5 ≤ 2560) (v1 : Int32) : wpX_within (fun r => wpY_within (fun r' => r' = r ∧ i_Rel (k + 5) u v) v v1) u v1 := by
  have R := i_up I
  obtain ⟨a, b, c, d, px, py, qx, qy, bs, bu, bv, nu, nv, aw, rfl, rfl, h1, h2, h3, h4⟩ := I
  obtain ⟨L, rL, rfl⟩ := zi_ex v1
  refine xx_within h2 h3 rL (fun z => ?_) (fun M hM m1 m2 => ?_)
  · refine yy_within h1 rL (fun M e1 e2 => ⟨congrArg zi_ ?_, R⟩)
    apply sm_zero
    intro x _ _
    apply sm_zero
    intro y _ _
    apply zc_f
    rintro ⟨h, _⟩
    have n1 := sq_nn x
    have n2 := sq_nn y
    have := e1 (by omega)
    omega
  · refine yy_within h1 rL (fun M' e1 e2 => ⟨congrArg zi_ ?_, R⟩)
    have e : M' = M := by omega
    subst e
    rw [← ct_within h2 h3 hM.2]
    apply sm_congr
    intro x _ _
    apply sm_congr
    intro y _ _
    exact zc_iff (and_congr_right (fun _ => h4 x y))
theorem i_vc_same {k : Nat} {u : SX} {v : SY} (I : i_Rel k u v) (hk : k + 5 ≤ 2560) (v1 : Int32) (v2 : Int32) (v3 : Int32) (v4 : Int32) : wpX_same (fun r => wpY_same (fun r' => r' = r ∧ i_Rel (k + 5) u v) v v1 v2 v3 v4) u v1 v2 v3 v4 := by
  have R := i_up I
  obtain ⟨a, b, c, d, px, py, qx, qy, bs, bu, bv, nu, nv, aw, rfl, rfl, h1, h2, h3, h4⟩ := I
  obtain ⟨e, re, rfl⟩ := zi_ex v1
  obtain ⟨f, rf_, rfl⟩ := zi_ex v2
  obtain ⟨g, rg, rfl⟩ := zi_ex v3
  obtain ⟨h, rh, rfl⟩ := zi_ex v4
  have key : ll_ok e f g h → (ll_lat a b c d e f ∧ ll_lat a b c d g h) → ((ll_lat e f g h a b ∧ ll_lat e f g h c d) ↔ (a * d - b * c = e * h - f * g ∨ a * d - b * c = -(e * h - f * g))) :=
    fun ok hl => sa_iff h1.2.2.2.2 ok.2.2.2.2 hl.1 hl.2
  refine xx_same h1 re rf_ rg rh (fun nok => ?_) (fun ok hl hd => ?_) (fun ok hn => ?_)
  · exact yy_same h1 re rf_ rg rh (fun _ => ⟨rfl, R⟩) (fun ok => absurd ok nok) (fun ok => absurd ok nok)
  · exact yy_same h1 re rf_ rg rh (fun nok => absurd ok nok) (fun _ _ _ => ⟨rfl, R⟩) (fun _ n => absurd ⟨hl, (key ok hl).mpr hd⟩ n)
  · exact yy_same h1 re rf_ rg rh (fun nok => absurd ok nok) (fun _ hl hb => absurd ⟨hl, (key ok hl).mp hb⟩ hn) (fun _ _ => ⟨rfl, R⟩)
end
