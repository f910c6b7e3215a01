section
/-! numbers: ints of any sign as images of Int -/
def zz_i (z : Int) : Int32 := Int32.ofInt z
def zz_l (z : Int) : Int64 := Int64.ofInt z
theorem zz_iadd (a b : Int) : zz_i a + zz_i b = zz_i (a + b) := (Int32.ofInt_add a b).symm
theorem zz_isub (a b : Int) : zz_i a - zz_i b = zz_i (a - b) := (Int32.ofInt_sub a b).symm
theorem zz_imul (a b : Int) : zz_i a * zz_i b = zz_i (a * b) := (Int32.ofInt_mul a b).symm
theorem zz_ineg (a : Int) : -zz_i a = zz_i (-a) := Int32.neg_ofInt
theorem zz_ladd (a b : Int) : zz_l a + zz_l b = zz_l (a + b) := (Int64.ofInt_add a b).symm
theorem zz_lsub (a b : Int) : zz_l a - zz_l b = zz_l (a - b) := (Int64.ofInt_sub a b).symm
theorem zz_lmul (a b : Int) : zz_l a * zz_l b = zz_l (a * b) := (Int64.ofInt_mul a b).symm
theorem zz_lneg (a : Int) : -zz_l a = zz_l (-a) := Int64.neg_ofInt
theorem zz_it {z : Int} (h : -2000000000 < z ∧ z < 2000000000) : (zz_i z).toInt = z := Int32.toInt_ofInt_of_le (by omega) (by omega)
theorem zz_lt {z : Int} (h : -4000000000000000000 < z ∧ z < 4000000000000000000) : (zz_l z).toInt = z := Int64.toInt_ofInt_of_le (by omega) (by omega)
theorem zz_ile {a b : Int} (ha : -2000000000 < a ∧ a < 2000000000) (hb : -2000000000 < b ∧ b < 2000000000) : zz_i a ≤ zz_i b ↔ a ≤ b := by
  rw [Int32.le_iff_toInt_le, zz_it ha, zz_it hb]
theorem zz_ilt {a b : Int} (ha : -2000000000 < a ∧ a < 2000000000) (hb : -2000000000 < b ∧ b < 2000000000) : zz_i a < zz_i b ↔ a < b := by
  rw [Int32.lt_iff_toInt_lt, zz_it ha, zz_it hb]
theorem zz_ieq {a b : Int} (ha : -2000000000 < a ∧ a < 2000000000) (hb : -2000000000 < b ∧ b < 2000000000) : zz_i a = zz_i b ↔ a = b := by
  rw [← Int32.toInt_inj, zz_it ha, zz_it hb]
theorem zz_lle {a b : Int} (ha : -4000000000000000000 < a ∧ a < 4000000000000000000) (hb : -4000000000000000000 < b ∧ b < 4000000000000000000) : zz_l a ≤ zz_l b ↔ a ≤ b := by
  rw [Int64.le_iff_toInt_le, zz_lt ha, zz_lt hb]
theorem zz_llt {a b : Int} (ha : -4000000000000000000 < a ∧ a < 4000000000000000000) (hb : -4000000000000000000 < b ∧ b < 4000000000000000000) : zz_l a < zz_l b ↔ a < b := by
  rw [Int64.lt_iff_toInt_lt, zz_lt ha, zz_lt hb]
theorem zz_leq {a b : Int} (ha : -4000000000000000000 < a ∧ a < 4000000000000000000) (hb : -4000000000000000000 < b ∧ b < 4000000000000000000) : zz_l a = zz_l b ↔ a = b := by
  rw [← Int64.toInt_inj, zz_lt ha, zz_lt hb]
theorem zz_im : Int32.minValue.toInt = -2147483648 := by decide
theorem zz_iM : Int32.maxValue.toInt = 2147483647 := by decide
theorem zz_lm : Int64.minValue.toInt = -9223372036854775808 := by decide
theorem zz_lM : Int64.maxValue.toInt = 9223372036854775807 := by decide
theorem zz_idiv {a b : Int} (ha : -2000000000 < a ∧ a < 2000000000) (hb : -2000000000 < b ∧ b < 2000000000) : zz_i a / zz_i b = zz_i (a.tdiv b) :=
  (Int32.ofInt_tdiv (by rw [zz_im]; omega) (by rw [zz_iM]; omega) (by rw [zz_im]; omega) (by rw [zz_iM]; omega)).symm
theorem zz_ldiv {a b : Int} (ha : -4000000000000000000 < a ∧ a < 4000000000000000000) (hb : -4000000000000000000 < b ∧ b < 4000000000000000000) : zz_l a / zz_l b = zz_l (a.tdiv b) :=
  (Int64.ofInt_tdiv (by rw [zz_lm]; omega) (by rw [zz_lM]; omega) (by rw [zz_lm]; omega) (by rw [zz_lM]; omega)).symm
theorem zz_tm (a b : Int) : a - a.tdiv b * b = a.tmod b := by
  have h := Int.mul_tdiv_add_tmod a b
  rw [Int.mul_comm] at h
  omega
theorem zz_irem {a b : Int} (ha : -2000000000 < a ∧ a < 2000000000) (hb : -2000000000 < b ∧ b < 2000000000) : zz_i a - zz_i a / zz_i b * zz_i b = zz_i (a.tmod b) := by
  rw [zz_idiv ha hb, zz_imul, zz_isub, zz_tm]
theorem zz_lrem {a b : Int} (ha : -4000000000000000000 < a ∧ a < 4000000000000000000) (hb : -4000000000000000000 < b ∧ b < 4000000000000000000) : zz_l a - zz_l a / zz_l b * zz_l b = zz_l (a.tmod b) := by
  rw [zz_ldiv ha hb, zz_lmul, zz_lsub, zz_tm]
theorem zz_i2l {a : Int} (ha : -2000000000 < a ∧ a < 2000000000) : (zz_i a).toInt64 = zz_l a := Int32.toInt64_ofInt (by rw [zz_im]; omega) (by rw [zz_iM]; omega)
theorem zz_nI (n : Nat) : nI n = zz_i n := Int32.ofInt_eq_ofNat.symm
theorem zz_lN (n : Nat) : lN n = zz_l n := Int64.ofInt_eq_ofNat.symm
theorem zz_nT {z : Int} (h : 0 ≤ z) : zz_i z = nI z.toNat := by
  rw [zz_nI, Int.toNat_of_nonneg h]
theorem zz_lT {z : Int} (h : 0 ≤ z) : zz_l z = lN z.toNat := by
  rw [zz_lN, Int.toNat_of_nonneg h]
theorem zz_of (x : Int32) : ∃ z : Int, x = zz_i z ∧ -2147483648 ≤ z ∧ z < 2147483648 := ⟨x.toInt, (Int32.ofInt_toInt x).symm, x.le_toInt, x.toInt_lt⟩
theorem zz_it' {z : Int} (h : -2147483648 ≤ z ∧ z < 2147483648) : (zz_i z).toInt = z := Int32.toInt_ofInt_of_le (by omega) (by omega)
theorem zz_ilt' {a b : Int} (ha : -2147483648 ≤ a ∧ a < 2147483648) (hb : -2147483648 ≤ b ∧ b < 2147483648) : zz_i a < zz_i b ↔ a < b := by
  rw [Int32.lt_iff_toInt_lt, zz_it' ha, zz_it' hb]
theorem zz_ile' {a b : Int} (ha : -2147483648 ≤ a ∧ a < 2147483648) (hb : -2147483648 ≤ b ∧ b < 2147483648) : zz_i a ≤ zz_i b ↔ a ≤ b := by
  rw [Int32.le_iff_toInt_le, zz_it' ha, zz_it' hb]
theorem zz_ieq' {a b : Int} (ha : -2147483648 ≤ a ∧ a < 2147483648) (hb : -2147483648 ≤ b ∧ b < 2147483648) : zz_i a = zz_i b ↔ a = b := by
  rw [← Int32.toInt_inj, zz_it' ha, zz_it' hb]
/-! branches by Int -/
theorem zb_ile {x y : Int32} {A B : Prop} (a b : Int) (f : a ≤ b → A) (g : b < a → B) (hx : x = zz_i a := by rfl) (hy : y = zz_i b := by rfl) (ha : -2000000000 < a ∧ a < 2000000000 := by omega) (hb : -2000000000 < b ∧ b < 2000000000 := by omega) : (x ≤ y → A) ∧ (¬ x ≤ y → B) := by
  subst hx hy
  rw [zz_ile ha hb]
  exact ⟨f, fun z => g (by omega)⟩
theorem zb_ilt {x y : Int32} {A B : Prop} (a b : Int) (f : a < b → A) (g : b ≤ a → B) (hx : x = zz_i a := by rfl) (hy : y = zz_i b := by rfl) (ha : -2000000000 < a ∧ a < 2000000000 := by omega) (hb : -2000000000 < b ∧ b < 2000000000 := by omega) : (x < y → A) ∧ (¬ x < y → B) := by
  subst hx hy
  rw [zz_ilt ha hb]
  exact ⟨f, fun z => g (by omega)⟩
theorem zb_ieq {x y : Int32} {A B : Prop} (a b : Int) (f : a = b → A) (g : a ≠ b → B) (hx : x = zz_i a := by rfl) (hy : y = zz_i b := by rfl) (ha : -2000000000 < a ∧ a < 2000000000 := by omega) (hb : -2000000000 < b ∧ b < 2000000000 := by omega) : (x = y → A) ∧ (¬ x = y → B) := by
  subst hx hy
  rw [zz_ieq ha hb]
  exact ⟨f, g⟩
theorem zb_lle {x y : Int64} {A B : Prop} (a b : Int) (f : a ≤ b → A) (g : b < a → B) (hx : x = zz_l a := by rfl) (hy : y = zz_l b := by rfl) (ha : -4000000000000000000 < a ∧ a < 4000000000000000000 := by omega) (hb : -4000000000000000000 < b ∧ b < 4000000000000000000 := by omega) : (x ≤ y → A) ∧ (¬ x ≤ y → B) := by
  subst hx hy
  rw [zz_lle ha hb]
  exact ⟨f, fun z => g (by omega)⟩
theorem zb_llt {x y : Int64} {A B : Prop} (a b : Int) (f : a < b → A) (g : b ≤ a → B) (hx : x = zz_l a := by rfl) (hy : y = zz_l b := by rfl) (ha : -4000000000000000000 < a ∧ a < 4000000000000000000 := by omega) (hb : -4000000000000000000 < b ∧ b < 4000000000000000000 := by omega) : (x < y → A) ∧ (¬ x < y → B) := by
  subst hx hy
  rw [zz_llt ha hb]
  exact ⟨f, fun z => g (by omega)⟩
theorem zb_leq {x y : Int64} {A B : Prop} (a b : Int) (f : a = b → A) (g : a ≠ b → B) (hx : x = zz_l a := by rfl) (hy : y = zz_l b := by rfl) (ha : -4000000000000000000 < a ∧ a < 4000000000000000000 := by omega) (hb : -4000000000000000000 < b ∧ b < 4000000000000000000 := by omega) : (x = y → A) ∧ (¬ x = y → B) := by
  subst hx hy
  rw [zz_leq ha hb]
  exact ⟨f, g⟩
/-- a divisor that isn't 0 -/
theorem zb_ine {x : Int32} {a : Int} (h : a ≠ 0) (hx : x = zz_i a := by rfl) (ha : -2000000000 < a ∧ a < 2000000000 := by omega) : ¬ x = 0 := by
  subst hx
  intro e
  exact h ((zz_ieq (b := 0) ha (by omega)).mp e)
theorem zb_lne {x : Int64} {a : Int} (h : a ≠ 0) (hx : x = zz_l a := by rfl) (ha : -4000000000000000000 < a ∧ a < 4000000000000000000 := by omega) : ¬ x = 0 := by
  subst hx
  intro e
  exact h ((zz_leq (b := 0) ha (by omega)).mp e)
theorem zb_nm {α : Sort _} {e e' : α} {P : α → Prop} (he : e = e') (h : P e') : ∀ x, x = e → P x := nm_r he h
/-- a product's range -/
theorem zz_mb {p q : Int} {P Q : Nat} (hp : -(P : Int) ≤ p ∧ p ≤ P) (hq : -(Q : Int) ≤ q ∧ q ≤ Q) : -((P * Q : Nat) : Int) ≤ p * q ∧ p * q ≤ (P * Q : Nat) := by
  have h1 : p.natAbs ≤ P := by omega
  have h2 : q.natAbs ≤ Q := by omega
  have h3 : (p * q).natAbs ≤ P * Q := by
    rw [Int.natAbs_mul]
    exact Nat.mul_le_mul h1 h2
  generalize P * Q = R at h3 ⊢
  generalize p * q = w at h3 ⊢
  omega
theorem zz_sq (x : Int) : 0 ≤ x * x := by
  rcases Int.le_total 0 x with h | h
  · exact Int.mul_nonneg h h
  · have := Int.mul_nonneg (a := -x) (b := -x) (by omega) (by omega)
    rwa [Int.neg_mul_neg] at this
end
section
/-! the pure picture: reduction, enumeration, products, checks -/
def qf_sh (a b : Int) : Int := if a < b % (2 * a) then b % (2 * a) - 2 * a else b % (2 * a)
def qf_c (d a b : Int) : Int := (b * b + d) / (4 * a)
/-- the end of a reduction: a form (a, b) with b shifted -/
def qf_fin (d a b : Int) : Int := if a = qf_c d a b ∧ b < 0 then -b else b
def qf_run (d : Int) : Nat → Int → Int → Option (Int × Int)
  | 0, _, _ => none
  | n + 1, a, b =>
    if qf_c d a (qf_sh a b) < a then
      (if 0 < qf_c d a (qf_sh a b) then qf_run d n (qf_c d a (qf_sh a b)) (-(qf_sh a b)) else none)
    else some (a, qf_fin d a (qf_sh a b))
/-- (a, b) begins a form of discriminant -d without common divisor -/
def qf_g3 (a b c : Int) : Nat := Nat.gcd (Int.gcd a b) c.natAbs
def qf_ok (d a b : Int) : Bool := decide ((b * b + d) % (4 * a) = 0) && decide (qf_g3 a b (qf_c d a b) = 1)
def qf_gd (d a b : Int) : Bool := decide (3 * a * a ≤ d) && (qf_ok d a b && (decide (a ≤ qf_c d a b) && (decide (a < qf_c d a b) || decide (0 ≤ b))))
def qf_row (d x : Int) : Nat → List (Int × Int)
  | 0 => []
  | m + 1 => qf_row d x m ++ (if qf_gd d x (1 - x + m) = true then [(x, 1 - x + m)] else [])
def qf_all (d : Int) : Nat → List (Int × Int)
  | 0 => []
  | k + 1 => qf_all d k ++ qf_row d (k + 1) (2 * (k + 1))
/-- common divisor with two factors -/
def qf_ex : Nat → Int → Int → Int → Int → Int → Int → Option (Int × Int × Int)
  | 0, _, _, _, _, _, _ => none
  | n + 1, p, q, u, v, s, t =>
    if q = 0 then (if p < 0 then some (-p, -u, -v) else some (p, u, v))
    else qf_ex n q (p - p.tdiv q * q) s t (u - p.tdiv q * s) (v - p.tdiv q * t)
def qf_is (o : Option (Int × Int)) (p : Int × Int) : Bool := match o with
  | none => false
  | some r => decide (r.1 = p.1) && decide (r.2 = p.2)
def qf_cx2 (d p1 p2 b2 st : Int) (r : Int × Int) : Bool :=
  decide (0 < p1 ∧ p1 < 100) && (decide (0 < p2 ∧ p2 < 100) && (decide (-1000000 < st ∧ st < 1000000) && (decide (-10000 < b2 + 2 * p2 * (st % p1) ∧ b2 + 2 * p2 * (st % p1) < 10000) && qf_is (qf_run d 50 (p1 * p2) (b2 + 2 * p2 * (st % p1))) r)))
def qf_cx1 (d a1 b1 a2 b2 o2 : Int) (r : Int × Int) : Option (Int × Int × Int) → Bool
  | none => false
  | some (g, x1, y2) => decide (0 < g ∧ g < 100) && qf_cx2 d (a1.tdiv g) (a2.tdiv g) b2 (o2 * x1 * ((b1 - b2).tdiv 2) - y2 * qf_c d a2 b2) r
def qf_cx0 (d a1 b1 a2 b2 : Int) (r : Int × Int) : Option (Int × Int × Int) → Bool
  | none => false
  | some (g1, _, o2) => decide (0 < g1 ∧ g1 < 100) && qf_cx1 d a1 b1 a2 b2 o2 r (qf_ex 40 g1 ((b1 + b2).tdiv 2) 1 0 0 1)
/-- the component's product of f and g is r -/
def qf_cx (d : Int) (f g r : Int × Int) : Bool := qf_cx0 d f.1 f.2 g.1 g.2 r (qf_ex 40 f.1 g.1 1 0 0 1)
def qf_val (a b c x y : Int) : Int := a * x * x + b * x * y + c * y * y
def qf_mid (a b c p r q s : Int) : Int := 2 * a * p * q + b * (p * s + q * r) + 2 * c * r * s
def qf_hit (a b c o x y : Int) : Bool := decide (Int.gcd x y = 1) && decide (Int.gcd (qf_val a b c x y) o = 1)
def qf_sy (a b c o x : Int) : Nat → Option (Int × Int)
  | 0 => none
  | m + 1 => if qf_hit a b c o x (12 - m) = true then some (x, 12 - m) else qf_sy a b c o x m
def qf_sx (a b c o : Int) : Nat → Option (Int × Int)
  | 0 => none
  | m + 1 => match qf_sy a b c o (12 - m) 25 with
    | some p => some p
    | none => qf_sx a b c o m
def qf_q (p : Int) : Int := if p = 0 then 1 else if p = 1 then 0 else 1
def qf_s (p r : Int) : Int := if p = 0 then 0 else if p = 1 then 1 else (1 + r) / 2
def qf_cy3 (d a1 b1 n m t : Int) (r : Int × Int) : Bool :=
  decide (0 < n ∧ n < 20000) && (decide (0 ≤ t ∧ t < n) && (decide ((b1 + 2 * a1 * t - m) % (2 * n) = 0) && qf_is (qf_run d 50 (a1 * n) (b1 + 2 * a1 * t)) r))
def qf_cy2 (d a1 b1 n m : Int) (r : Int × Int) : Option (Int × Int × Int) → Bool
  | none => false
  | some (_, u, _) => qf_cy3 d a1 b1 n m ((u * ((m - b1) / 2)) % n) r
def qf_cy1 (d a1 b1 a2 b2 c2 : Int) (r : Int × Int) : Option (Int × Int) → Bool
  | none => false
  | some (x, y) => decide (x * qf_s x y - qf_q x * y = 1) && (decide (-13 ≤ qf_s x y ∧ qf_s x y ≤ 13) && (decide (Int.gcd (qf_val a2 b2 c2 x y) a1 = 1) && qf_cy2 d a1 b1 (qf_val a2 b2 c2 x y) (qf_mid a2 b2 c2 x y (qf_q x) (qf_s x y)) r (qf_ex 40 a1 (qf_val a2 b2 c2 x y) 1 0 0 1)))
/-- the reference's product of f and g is r -/
def qf_cy (d : Int) (f g r : Int × Int) : Bool := qf_cy1 d f.1 f.2 g.1 g.2 (qf_c d g.1 g.2) r (qf_sx g.1 g.2 (qf_c d g.1 g.2) f.1 13)
def qf_tb (h W i j : Nat) : Nat := (W >>> (5 * (h * i + j))) % 32
def qf_at (L : List (Int × Int)) (k : Nat) : Int × Int := L.getD k (0, 0)
/-- a form of the list: reduced, without common divisor -/
def qf_fm (d : Int) (f : Int × Int) : Bool :=
  decide (1 ≤ f.1 ∧ f.1 ≤ 11) && (decide (-f.1 < f.2 ∧ f.2 ≤ f.1) && (decide (4 * f.1 * qf_c d f.1 f.2 = f.2 * f.2 + d) && (decide (f.1 ≤ qf_c d f.1 f.2 ∧ qf_c d f.1 f.2 ≤ 101) && (decide (f.1 = qf_c d f.1 f.2 → 0 ≤ f.2) && decide (qf_g3 f.1 f.2 (qf_c d f.1 f.2) = 1)))))
def qf_pw (T : Nat → Nat → Nat) (i : Nat) : Nat → Nat
  | 0 => 0
  | e + 1 => T (qf_pw T i e) i
def qf_iv (T : Nat → Nat → Nat) (h i : Nat) : Nat := (List.range h).findIdx (fun j => T i j == 0)
def qf_cnt (p : Nat → Bool) : Nat → Nat
  | 0 => 0
  | n + 1 => if p n = true then qf_cnt p n + 1 else qf_cnt p n
def qf_anyb (p : Nat → Bool) : Nat → Bool
  | 0 => false
  | n + 1 => qf_anyb p n || p n
/-- the checks for one i; for i, j; for i, j, k -/
def qf_k3 (h W i j k : Nat) : Bool := qf_tb h W (qf_tb h W i j) k == qf_tb h W i (qf_tb h W j k)
def qf_k2 (d : Nat) (L : List (Int × Int)) (h W i j : Nat) : Bool :=
  decide (qf_tb h W i j < h) && ((i == j || !(decide ((qf_at L i).1 = (qf_at L j).1) && decide ((qf_at L i).2 = (qf_at L j).2))) && (qf_cx d (qf_at L i) (qf_at L j) (qf_at L (qf_tb h W i j)) && qf_cy d (qf_at L i) (qf_at L j) (qf_at L (qf_tb h W i j))))
def qf_k1 (d : Nat) (L : List (Int × Int)) (h W i : Nat) : Bool :=
  qf_fm d (qf_at L i) && ((qf_tb h W 0 i == i && qf_tb h W i 0 == i) && ((decide (qf_iv (qf_tb h W) h i < h) && (qf_tb h W i (qf_iv (qf_tb h W) h i) == 0)) && (qf_is (qf_run d 50 (qf_at L i).1 (-(qf_at L i).2)) (qf_at L (qf_iv (qf_tb h W) h i)) && qf_anyb (fun e => qf_pw (qf_tb h W) i (e + 1) == 0) h)))
def qf_k0 (d : Nat) (L : List (Int × Int)) (h W : Nat) : Bool :=
  decide (qf_all d 11 = L) && (decide (0 < h ∧ h ≤ 19) && (decide ((qf_at L 0).1 = 1) && (qf_is (qf_run d 50 1 (if d % 4 = 0 then 0 else 1)) (qf_at L 0) && decide (qf_cnt (fun k => qf_anyb (fun i => qf_tb h W i i == k) h) h = h / qf_cnt (fun k => qf_tb h W k k == 0) h))))
def qf_ck (d : Nat) (L : List (Int × Int)) (h W : Nat) : Bool :=
  qf_k0 d L h W && (List.range h).all fun i => qf_k1 d L h W i && (List.range h).all fun j => qf_k2 d L h W i j && (List.range h).all fun k => qf_k3 h W i j k
def qf_dd (t : Nat) : Nat := 4 * (t / 2) + 3 + t % 2
def qf_ckl (t : Nat) : List (List (Int × Int) × Nat) → Bool
  | [] => true
  | e :: es => qf_ck (qf_dd t) e.1 e.1.length e.2 && qf_ckl (t + 1) es
end
section
/-! printed by data.py: for each valid d (3, 4, 7, 8, ..) the reduced forms (a, b) in their order, and the table of products, base 32 -/
def qf_dat0 : List (List (Int × Int) × Nat) := [
  ([(.ofNat 1, .ofNat 1)], 0),
  ([(.ofNat 1, .ofNat 0)], 0),
  ([(.ofNat 1, .ofNat 1)], 0),
  ([(.ofNat 1, .ofNat 0)], 0),
  ([(.ofNat 1, .ofNat 1)], 0),
  ([(.ofNat 1, .ofNat 0)], 0),
  ([(.ofNat 1, .ofNat 1), (.ofNat 2, .ofNat 1)], 1056),
  ([(.ofNat 1, .ofNat 0)], 0),
  ([(.ofNat 1, .ofNat 1)], 0),
  ([(.ofNat 1, .ofNat 0), (.ofNat 2, .ofNat 2)], 1056),
  ([(.ofNat 1, .ofNat 1), (.ofNat 2, .negSucc 0), (.ofNat 2, .ofNat 1)], 1101661243424),
  ([(.ofNat 1, .ofNat 0), (.ofNat 2, .ofNat 0)], 1056),
  ([(.ofNat 1, .ofNat 1)], 0),
  ([(.ofNat 1, .ofNat 0)], 0),
  ([(.ofNat 1, .ofNat 1), (.ofNat 2, .negSucc 0), (.ofNat 2, .ofNat 1)], 1101661243424),
  ([(.ofNat 1, .ofNat 0), (.ofNat 3, .ofNat 2)], 1056),
  ([(.ofNat 1, .ofNat 1), (.ofNat 3, .ofNat 1)], 1056),
  ([(.ofNat 1, .ofNat 0), (.ofNat 2, .ofNat 2)], 1056),
  ([(.ofNat 1, .ofNat 1), (.ofNat 2, .negSucc 0), (.ofNat 2, .ofNat 1), (.ofNat 3, .ofNat 3)], 1257876770290654087200),
  ([(.ofNat 1, .ofNat 0), (.ofNat 2, .ofNat 0)], 1056),
  ([(.ofNat 1, .ofNat 1)], 0),
  ([(.ofNat 1, .ofNat 0), (.ofNat 3, .negSucc 1), (.ofNat 3, .ofNat 2)], 1101661243424),
  ([(.ofNat 1, .ofNat 1), (.ofNat 2, .negSucc 0), (.ofNat 2, .ofNat 1), (.ofNat 3, .negSucc 0), (.ofNat 3, .ofNat 1)], 2659880832239703339912464731253868576),
  ([(.ofNat 1, .ofNat 0), (.ofNat 3, .ofNat 0)], 1056),
  ([(.ofNat 1, .ofNat 1), (.ofNat 3, .ofNat 3)], 1056),
  ([(.ofNat 1, .ofNat 0), (.ofNat 2, .ofNat 2)], 1056),
  ([(.ofNat 1, .ofNat 1), (.ofNat 2, .negSucc 0), (.ofNat 2, .ofNat 1), (.ofNat 4, .ofNat 3)], 1257876770290654087200),
  ([(.ofNat 1, .ofNat 0), (.ofNat 2, .ofNat 0), (.ofNat 3, .negSucc 1), (.ofNat 3, .ofNat 2)], 37856178837489808672800),
  ([(.ofNat 1, .ofNat 1), (.ofNat 3, .negSucc 0), (.ofNat 3, .ofNat 1)], 1101661243424),
  ([(.ofNat 1, .ofNat 0), (.ofNat 3, .ofNat 0)], 1056),
  ([(.ofNat 1, .ofNat 1), (.ofNat 2, .negSucc 0), (.ofNat 2, .ofNat 1), (.ofNat 4, .ofNat 1)], 1257876770290654087200),
  ([(.ofNat 1, .ofNat 0), (.ofNat 4, .ofNat 4)], 1056),
  ([(.ofNat 1, .ofNat 1)], 0),
  ([(.ofNat 1, .ofNat 0), (.ofNat 2, .ofNat 2), (.ofNat 3, .negSucc 1), (.ofNat 3, .ofNat 2)], 37856178837489808672800),
  ([(.ofNat 1, .ofNat 1), (.ofNat 2, .negSucc 0), (.ofNat 2, .ofNat 1), (.ofNat 3, .negSucc 0), (.ofNat 3, .ofNat 1), (.ofNat 4, .negSucc 2), (.ofNat 4, .ofNat 3)], 7071110584596859534061514866228113430339676368848697432105821681106389024),
  ([(.ofNat 1, .ofNat 0), (.ofNat 2, .ofNat 0)], 1056),
  ([(.ofNat 1, .ofNat 1), (.ofNat 3, .ofNat 3)], 1056),
  ([(.ofNat 1, .ofNat 0), (.ofNat 4, .negSucc 1), (.ofNat 4, .ofNat 2)], 1101661243424),
  ([(.ofNat 1, .ofNat 1), (.ofNat 2, .negSucc 0), (.ofNat 2, .ofNat 1), (.ofNat 4, .negSucc 0), (.ofNat 4, .ofNat 1)], 1333208421189150841379345667861874720),
  ([(.ofNat 1, .ofNat 0), (.ofNat 3, .negSucc 1), (.ofNat 3, .ofNat 2), (.ofNat 4, .ofNat 0)], 1257876770290654087200)]
def qf_dat1 : List (List (Int × Int) × Nat) := [
  ([(.ofNat 1, .ofNat 1), (.ofNat 3, .negSucc 0), (.ofNat 3, .ofNat 1)], 1101661243424),
  ([(.ofNat 1, .ofNat 0), (.ofNat 2, .ofNat 2), (.ofNat 3, .ofNat 0), (.ofNat 5, .ofNat 4)], 1257873498147170388000),
  ([(.ofNat 1, .ofNat 1), (.ofNat 2, .negSucc 0), (.ofNat 2, .ofNat 1), (.ofNat 3, .ofNat 3), (.ofNat 4, .negSucc 2), (.ofNat 4, .ofNat 3)], 191657084373696292164219393702535522235827807966038048),
  ([(.ofNat 1, .ofNat 0), (.ofNat 2, .ofNat 0)], 1056),
  ([(.ofNat 1, .ofNat 1), (.ofNat 5, .ofNat 3)], 1056),
  ([(.ofNat 1, .ofNat 0), (.ofNat 3, .negSucc 1), (.ofNat 3, .ofNat 2)], 1101661243424),
  ([(.ofNat 1, .ofNat 1), (.ofNat 2, .negSucc 0), (.ofNat 2, .ofNat 1), (.ofNat 3, .negSucc 0), (.ofNat 3, .ofNat 1), (.ofNat 4, .negSucc 0), (.ofNat 4, .ofNat 1), (.ofNat 5, .ofNat 5)], 10824880993199222038307175970758911621155716380380243499691413039929628238089627827018259335200),
  ([(.ofNat 1, .ofNat 0), (.ofNat 3, .ofNat 0), (.ofNat 4, .ofNat 4), (.ofNat 5, .ofNat 2)], 1257873498147170388000),
  ([(.ofNat 1, .ofNat 1), (.ofNat 5, .ofNat 1)], 1056),
  ([(.ofNat 1, .ofNat 0), (.ofNat 2, .ofNat 2)], 1056),
  ([(.ofNat 1, .ofNat 1), (.ofNat 2, .negSucc 0), (.ofNat 2, .ofNat 1), (.ofNat 4, .negSucc 2), (.ofNat 4, .ofNat 3)], 2659880832239703339912464731253868576),
  ([(.ofNat 1, .ofNat 0), (.ofNat 2, .ofNat 0), (.ofNat 3, .negSucc 1), (.ofNat 3, .ofNat 2), (.ofNat 5, .negSucc 3), (.ofNat 5, .ofNat 4)], 95969649171582545495858360688230671271323800424253472),
  ([(.ofNat 1, .ofNat 1), (.ofNat 3, .negSucc 0), (.ofNat 3, .ofNat 1)], 1101661243424),
  ([(.ofNat 1, .ofNat 0), (.ofNat 4, .negSucc 1), (.ofNat 4, .ofNat 2)], 1101661243424),
  ([(.ofNat 1, .ofNat 1), (.ofNat 2, .negSucc 0), (.ofNat 2, .ofNat 1), (.ofNat 3, .ofNat 3), (.ofNat 4, .negSucc 0), (.ofNat 4, .ofNat 1), (.ofNat 5, .negSucc 2), (.ofNat 5, .ofNat 3)], 333825517201766117524889204851791753571366157395428023009318984922736127143393501927529844410400),
  ([(.ofNat 1, .ofNat 0), (.ofNat 4, .ofNat 0)], 1056),
  ([(.ofNat 1, .ofNat 1), (.ofNat 5, .ofNat 5)], 1056),
  ([(.ofNat 1, .ofNat 0), (.ofNat 2, .ofNat 2), (.ofNat 3, .negSucc 1), (.ofNat 3, .ofNat 2), (.ofNat 5, .negSucc 1), (.ofNat 5, .ofNat 2)], 191613193652691074865239652289481701261567538109712416),
  ([(.ofNat 1, .ofNat 1), (.ofNat 2, .negSucc 0), (.ofNat 2, .ofNat 1), (.ofNat 3, .negSucc 0), (.ofNat 3, .ofNat 1), (.ofNat 4, .negSucc 2), (.ofNat 4, .ofNat 3), (.ofNat 5, .negSucc 0), (.ofNat 5, .ofNat 1), (.ofNat 6, .ofNat 5)], 19705165936737615936985134588679228432129839452798246616335909108529406187603704981443458647930691159295364881885368821220903239853679227604832454688),
  ([(.ofNat 1, .ofNat 0), (.ofNat 2, .ofNat 0), (.ofNat 3, .ofNat 0), (.ofNat 5, .ofNat 0)], 1257873498147170388000),
  ([(.ofNat 1, .ofNat 1), (.ofNat 3, .ofNat 3)], 1056),
  ([(.ofNat 1, .ofNat 0), (.ofNat 5, .negSucc 3), (.ofNat 5, .ofNat 4)], 1101661243424),
  ([(.ofNat 1, .ofNat 1), (.ofNat 2, .negSucc 0), (.ofNat 2, .ofNat 1), (.ofNat 4, .negSucc 0), (.ofNat 4, .ofNat 1)], 1333208421189150841379345667861874720),
  ([(.ofNat 1, .ofNat 0), (.ofNat 3, .negSucc 1), (.ofNat 3, .ofNat 2), (.ofNat 4, .ofNat 4)], 1257876770290654087200),
  ([(.ofNat 1, .ofNat 1), (.ofNat 3, .negSucc 0), (.ofNat 3, .ofNat 1), (.ofNat 5, .negSucc 2), (.ofNat 5, .ofNat 3)], 1333208421189150841379345667861874720),
  ([(.ofNat 1, .ofNat 0), (.ofNat 2, .ofNat 2), (.ofNat 3, .ofNat 0), (.ofNat 6, .ofNat 6)], 1257873498147170388000),
  ([(.ofNat 1, .ofNat 1), (.ofNat 2, .negSucc 0), (.ofNat 2, .ofNat 1), (.ofNat 4, .negSucc 2), (.ofNat 4, .ofNat 3), (.ofNat 5, .ofNat 5)], 3045913657600514666897498459736955444689324147312672),
  ([(.ofNat 1, .ofNat 0), (.ofNat 2, .ofNat 0), (.ofNat 5, .negSucc 1), (.ofNat 5, .ofNat 2)], 37856178837489808672800),
  ([(.ofNat 1, .ofNat 1), (.ofNat 5, .negSucc 0), (.ofNat 5, .ofNat 1)], 1101661243424),
  ([(.ofNat 1, .ofNat 0), (.ofNat 3, .negSucc 1), (.ofNat 3, .ofNat 2), (.ofNat 4, .negSucc 1), (.ofNat 4, .ofNat 2), (.ofNat 5, .ofNat 0)], 3045913657600514666897498459736955444689324147312672),
  ([(.ofNat 1, .ofNat 1), (.ofNat 2, .negSucc 0), (.ofNat 2, .ofNat 1), (.ofNat 3, .negSucc 0), (.ofNat 3, .ofNat 1), (.ofNat 4, .negSucc 0), (.ofNat 4, .ofNat 1), (.ofNat 6, .negSucc 4), (.ofNat 6, .ofNat 1), (.ofNat 6, .ofNat 5)], 428357758045081134179597294622687297832107244016967757506714189164299284958953210893417225412885529611543203834122863294414063474182141523420225046560),
  ([(.ofNat 1, .ofNat 0), (.ofNat 4, .ofNat 0), (.ofNat 5, .negSucc 3), (.ofNat 5, .ofNat 4)], 37856178837489808672800),
  ([(.ofNat 1, .ofNat 1), (.ofNat 3, .ofNat 3)], 1056),
  ([(.ofNat 1, .ofNat 0), (.ofNat 2, .ofNat 2)], 1056),
  ([(.ofNat 1, .ofNat 1), (.ofNat 2, .negSucc 0), (.ofNat 2, .ofNat 1), (.ofNat 4, .negSucc 2), (.ofNat 4, .ofNat 3), (.ofNat 5, .negSucc 2), (.ofNat 5, .ofNat 3)], 1770522210353281449335922590069100961163086504713739946300341606955452448),
  ([(.ofNat 1, .ofNat 0), (.ofNat 2, .ofNat 0), (.ofNat 3, .negSucc 1), (.ofNat 3, .ofNat 2), (.ofNat 6, .negSucc 3), (.ofNat 6, .ofNat 4)], 191613193652691074865239652289481701261567538109712416),
  ([(.ofNat 1, .ofNat 1), (.ofNat 3, .negSucc 0), (.ofNat 3, .ofNat 1), (.ofNat 5, .ofNat 5)], 1257876770290654087200),
  ([(.ofNat 1, .ofNat 0), (.ofNat 3, .ofNat 0), (.ofNat 5, .negSucc 1), (.ofNat 5, .ofNat 2)], 37856178837489808672800),
  ([(.ofNat 1, .ofNat 1), (.ofNat 2, .negSucc 0), (.ofNat 2, .ofNat 1), (.ofNat 3, .ofNat 3), (.ofNat 4, .negSucc 0), (.ofNat 4, .ofNat 1), (.ofNat 5, .negSucc 0), (.ofNat 5, .ofNat 1), (.ofNat 6, .negSucc 2), (.ofNat 6, .ofNat 3)], 409396265918924584118857565719694886748159115762765399227716580008267287148343694294082121636392942164081632638181483843826858404611612353951971772448),
  ([(.ofNat 1, .ofNat 0), (.ofNat 4, .ofNat 4), (.ofNat 5, .ofNat 0), (.ofNat 7, .ofNat 6)], 1257873498147170388000)]
def qf_dat2 : List (List (Int × Int) × Nat) := [
  ([(.ofNat 1, .ofNat 1)], 0),
  ([(.ofNat 1, .ofNat 0), (.ofNat 2, .ofNat 2), (.ofNat 3, .negSucc 1), (.ofNat 3, .ofNat 2), (.ofNat 5, .negSucc 3), (.ofNat 5, .ofNat 4), (.ofNat 6, .negSucc 1), (.ofNat 6, .ofNat 2)], 333890823699878506923712849400827400764792387856440122081503380030452254021323319167090914592800),
  ([(.ofNat 1, .ofNat 1), (.ofNat 2, .negSucc 0), (.ofNat 2, .ofNat 1), (.ofNat 3, .negSucc 0), (.ofNat 3, .ofNat 1), (.ofNat 4, .negSucc 2), (.ofNat 4, .ofNat 3), (.ofNat 6, .negSucc 4), (.ofNat 6, .negSucc 0), (.ofNat 6, .ofNat 1), (.ofNat 6, .ofNat 5)], 38022399546842505737649951644433156172795933462544191048144308847748333512638820530507254314675235568381556555989118421110119786163417389092602426056704004728496827981544780355176480),
  ([(.ofNat 1, .ofNat 0), (.ofNat 2, .ofNat 0), (.ofNat 3, .ofNat 0), (.ofNat 6, .ofNat 0)], 1257873498147170388000),
  ([(.ofNat 1, .ofNat 1), (.ofNat 5, .negSucc 2), (.ofNat 5, .ofNat 3), (.ofNat 7, .ofNat 5)], 1257876770290654087200),
  ([(.ofNat 1, .ofNat 0), (.ofNat 4, .negSucc 1), (.ofNat 4, .ofNat 2)], 1101661243424),
  ([(.ofNat 1, .ofNat 1), (.ofNat 2, .negSucc 0), (.ofNat 2, .ofNat 1), (.ofNat 4, .negSucc 0), (.ofNat 4, .ofNat 1), (.ofNat 7, .ofNat 7)], 1594688159060921216292749740542508927820007810893856),
  ([(.ofNat 1, .ofNat 0), (.ofNat 3, .negSucc 1), (.ofNat 3, .ofNat 2), (.ofNat 4, .ofNat 0), (.ofNat 5, .negSucc 1), (.ofNat 5, .ofNat 2)], 191657084373696292164219393702535522235827807966038048),
  ([(.ofNat 1, .ofNat 1), (.ofNat 3, .negSucc 0), (.ofNat 3, .ofNat 1), (.ofNat 5, .negSucc 0), (.ofNat 5, .ofNat 1)], 2659880832239703339912464731253868576),
  ([(.ofNat 1, .ofNat 0), (.ofNat 2, .ofNat 2), (.ofNat 5, .ofNat 0), (.ofNat 7, .ofNat 4)], 1257873498147170388000),
  ([(.ofNat 1, .ofNat 1), (.ofNat 2, .negSucc 0), (.ofNat 2, .ofNat 1), (.ofNat 3, .ofNat 3), (.ofNat 4, .negSucc 2), (.ofNat 4, .ofNat 3), (.ofNat 6, .negSucc 2), (.ofNat 6, .ofNat 3)], 333890636768507017747764457484868917243288602653508100837636319324492182013792576832602128877600),
  ([(.ofNat 1, .ofNat 0), (.ofNat 2, .ofNat 0), (.ofNat 5, .negSucc 3), (.ofNat 5, .ofNat 4)], 37856178837489808672800),
  ([(.ofNat 1, .ofNat 1), (.ofNat 7, .ofNat 3)], 1056),
  ([(.ofNat 1, .ofNat 0), (.ofNat 3, .negSucc 1), (.ofNat 3, .ofNat 2), (.ofNat 7, .negSucc 5), (.ofNat 7, .ofNat 6)], 1333208421189150841379345667861874720),
  ([(.ofNat 1, .ofNat 1), (.ofNat 2, .negSucc 0), (.ofNat 2, .ofNat 1), (.ofNat 3, .negSucc 0), (.ofNat 3, .ofNat 1), (.ofNat 4, .negSucc 0), (.ofNat 4, .ofNat 1), (.ofNat 5, .negSucc 2), (.ofNat 5, .ofNat 3), (.ofNat 6, .negSucc 4), (.ofNat 6, .negSucc 0), (.ofNat 6, .ofNat 1), (.ofNat 6, .ofNat 5)], 82086266497508598860126251879639568783769782917307160702656565854577685839258071344832503825128986132262489135862237442503345718520018115328025851391107218168941404344255279597617122606578232145226929313987470701305619055131873312232923644531135526045728),
  ([(.ofNat 1, .ofNat 0), (.ofNat 3, .ofNat 0), (.ofNat 4, .ofNat 4), (.ofNat 7, .ofNat 2)], 1257873498147170388000),
  ([(.ofNat 1, .ofNat 1), (.ofNat 3, .ofNat 3), (.ofNat 5, .ofNat 5), (.ofNat 7, .ofNat 1)], 1257873498147170388000),
  ([(.ofNat 1, .ofNat 0), (.ofNat 2, .ofNat 2), (.ofNat 5, .negSucc 1), (.ofNat 5, .ofNat 2)], 37856178837489808672800),
  ([(.ofNat 1, .ofNat 1), (.ofNat 2, .negSucc 0), (.ofNat 2, .ofNat 1), (.ofNat 4, .negSucc 2), (.ofNat 4, .ofNat 3), (.ofNat 5, .negSucc 0), (.ofNat 5, .ofNat 1), (.ofNat 7, .negSucc 4), (.ofNat 7, .ofNat 5)], 18081043878162248198083513245910451730971909111605420529205927356379234436512444784301850393057083446003371658198682535968),
  ([(.ofNat 1, .ofNat 0), (.ofNat 2, .ofNat 0), (.ofNat 3, .negSucc 1), (.ofNat 3, .ofNat 2), (.ofNat 6, .negSucc 3), (.ofNat 6, .ofNat 4)], 191613193652691074865239652289481701261567538109712416),
  ([(.ofNat 1, .ofNat 1), (.ofNat 3, .negSucc 0), (.ofNat 3, .ofNat 1), (.ofNat 7, .ofNat 7)], 1257876770290654087200),
  ([(.ofNat 1, .ofNat 0), (.ofNat 3, .ofNat 0), (.ofNat 4, .negSucc 1), (.ofNat 4, .ofNat 2), (.ofNat 5, .negSucc 3), (.ofNat 5, .ofNat 4)], 143724169498218657652405188131762900564535432603338784),
  ([(.ofNat 1, .ofNat 1), (.ofNat 2, .negSucc 0), (.ofNat 2, .ofNat 1), (.ofNat 4, .negSucc 0), (.ofNat 4, .ofNat 1), (.ofNat 8, .ofNat 7)], 1594688159060921216292749740542508927820007810893856),
  ([(.ofNat 1, .ofNat 0), (.ofNat 4, .ofNat 0), (.ofNat 7, .negSucc 3), (.ofNat 7, .ofNat 4)], 37856178837489808672800),
  ([(.ofNat 1, .ofNat 1), (.ofNat 5, .negSucc 2), (.ofNat 5, .ofNat 3)], 1101661243424),
  ([(.ofNat 1, .ofNat 0), (.ofNat 2, .ofNat 2), (.ofNat 3, .negSucc 1), (.ofNat 3, .ofNat 2), (.ofNat 6, .negSucc 1), (.ofNat 6, .ofNat 2)], 191657084373696292164375354340257285090678631131351072),
  ([(.ofNat 1, .ofNat 1), (.ofNat 2, .negSucc 0), (.ofNat 2, .ofNat 1), (.ofNat 3, .negSucc 0), (.ofNat 3, .ofNat 1), (.ofNat 4, .negSucc 2), (.ofNat 4, .ofNat 3), (.ofNat 5, .ofNat 5), (.ofNat 6, .negSucc 4), (.ofNat 6, .negSucc 0), (.ofNat 6, .ofNat 1), (.ofNat 6, .ofNat 5), (.ofNat 7, .negSucc 2), (.ofNat 7, .ofNat 3)], 3513938339272465666982105492511238504021171537936851076823084017469664666332158548781560269983252839379065193890294319272198262244487613273742483185120634166791062795543661764555515900161968373883968448483935560548184816287637027940517685347492712069832638404030713388232503018221176992674449440),
  ([(.ofNat 1, .ofNat 0), (.ofNat 2, .ofNat 0), (.ofNat 5, .negSucc 1), (.ofNat 5, .ofNat 2), (.ofNat 7, .negSucc 5), (.ofNat 7, .ofNat 6)], 191613193652691074865239652289481701261567538109712416),
  ([(.ofNat 1, .ofNat 1), (.ofNat 3, .ofNat 3), (.ofNat 5, .negSucc 0), (.ofNat 5, .ofNat 1)], 37856178837489808672800),
  ([(.ofNat 1, .ofNat 0), (.ofNat 5, .ofNat 0), (.ofNat 7, .negSucc 1), (.ofNat 7, .ofNat 2)], 37856178837489808672800),
  ([(.ofNat 1, .ofNat 1), (.ofNat 2, .negSucc 0), (.ofNat 2, .ofNat 1), (.ofNat 4, .negSucc 0), (.ofNat 4, .ofNat 1), (.ofNat 7, .negSucc 0), (.ofNat 7, .ofNat 1)], 3535640573862321138943975584365911057887966928304336849059194319551957024),
  ([(.ofNat 1, .ofNat 0), (.ofNat 3, .negSucc 1), (.ofNat 3, .ofNat 2), (.ofNat 4, .ofNat 4), (.ofNat 5, .negSucc 3), (.ofNat 5, .ofNat 4), (.ofNat 7, .ofNat 0), (.ofNat 8, .ofNat 8)], 6529084375802216222150421101704874917670824123839415971040309734026923125664783709868514183200),
  ([(.ofNat 1, .ofNat 1), (.ofNat 3, .negSucc 0), (.ofNat 3, .ofNat 1), (.ofNat 7, .negSucc 4), (.ofNat 7, .ofNat 5)], 1333208421189150841379345667861874720),
  ([(.ofNat 1, .ofNat 0), (.ofNat 2, .ofNat 2), (.ofNat 3, .ofNat 0), (.ofNat 6, .ofNat 6)], 1257873498147170388000),
  ([(.ofNat 1, .ofNat 1), (.ofNat 2, .negSucc 0), (.ofNat 2, .ofNat 1), (.ofNat 3, .ofNat 3), (.ofNat 4, .negSucc 2), (.ofNat 4, .ofNat 3), (.ofNat 5, .negSucc 2), (.ofNat 5, .ofNat 3), (.ofNat 6, .negSucc 2), (.ofNat 6, .ofNat 3), (.ofNat 7, .ofNat 7), (.ofNat 8, .ofNat 5)], 17370489582609246315193049925611666563639541045573271590580529303142084475304466513659717173553596523314968818029609888439522043029167595184303245004508342878571307572913819693309172237279394046083830046532321773600),
  ([(.ofNat 1, .ofNat 0), (.ofNat 2, .ofNat 0)], 1056),
  ([(.ofNat 1, .ofNat 1), (.ofNat 5, .ofNat 5)], 1056),
  ([(.ofNat 1, .ofNat 0), (.ofNat 3, .negSucc 1), (.ofNat 3, .ofNat 2), (.ofNat 4, .negSucc 1), (.ofNat 4, .ofNat 2), (.ofNat 5, .negSucc 1), (.ofNat 5, .ofNat 2), (.ofNat 7, .negSucc 3), (.ofNat 7, .ofNat 4)], 12929152763745812592853955672466599960301739190390800677814656163092197056429377042001124895288993899043171274290821695520),
  ([(.ofNat 1, .ofNat 1), (.ofNat 2, .negSucc 0), (.ofNat 2, .ofNat 1), (.ofNat 3, .negSucc 0), (.ofNat 3, .ofNat 1), (.ofNat 4, .negSucc 0), (.ofNat 4, .ofNat 1), (.ofNat 5, .negSucc 0), (.ofNat 5, .ofNat 1), (.ofNat 6, .negSucc 4), (.ofNat 6, .negSucc 0), (.ofNat 6, .ofNat 1), (.ofNat 6, .ofNat 5), (.ofNat 8, .negSucc 6), (.ofNat 8, .ofNat 7)], 57087742990582870451012051210260124936731094082739538661847652195671499063499121455228101508882118450967311571849586960002988217362308460174654081213769407327866717136654411100904096786944231255375521561397414557411814706524506662217734116242293547783074167168911586856910935295708947559340096524028624717331545546209992252420554217326624),
  ([(.ofNat 1, .ofNat 0), (.ofNat 3, .ofNat 0), (.ofNat 4, .ofNat 0), (.ofNat 5, .ofNat 0)], 1257873498147170388000)]
def qf_dat3 : List (List (Int × Int) × Nat) := [
  ([(.ofNat 1, .ofNat 1), (.ofNat 7, .negSucc 2), (.ofNat 7, .ofNat 3)], 1101661243424),
  ([(.ofNat 1, .ofNat 0), (.ofNat 2, .ofNat 2), (.ofNat 5, .negSucc 3), (.ofNat 5, .ofNat 4), (.ofNat 7, .negSucc 5), (.ofNat 7, .ofNat 6)], 95969649171582545495858360688230671271323800424253472),
  ([(.ofNat 1, .ofNat 1), (.ofNat 2, .negSucc 0), (.ofNat 2, .ofNat 1), (.ofNat 4, .negSucc 2), (.ofNat 4, .ofNat 3), (.ofNat 8, .ofNat 3)], 3045913657600514666897498459736955444689324147312672),
  ([(.ofNat 1, .ofNat 0), (.ofNat 2, .ofNat 0), (.ofNat 3, .negSucc 1), (.ofNat 3, .ofNat 2), (.ofNat 6, .negSucc 3), (.ofNat 6, .ofNat 4), (.ofNat 7, .negSucc 1), (.ofNat 7, .ofNat 2)], 66955471164651774464894495537853844008967250486818500941777637688884286508507973720343278880800),
  ([(.ofNat 1, .ofNat 1), (.ofNat 3, .negSucc 0), (.ofNat 3, .ofNat 1), (.ofNat 5, .negSucc 2), (.ofNat 5, .ofNat 3), (.ofNat 7, .negSucc 0), (.ofNat 7, .ofNat 1)], 5309278122556074709075031586399855418769710692643468218035988647657965600),
  ([(.ofNat 1, .ofNat 0), (.ofNat 7, .ofNat 0), (.ofNat 8, .negSucc 5), (.ofNat 8, .ofNat 6)], 37856178837489808672800),
  ([(.ofNat 1, .ofNat 1), (.ofNat 2, .negSucc 0), (.ofNat 2, .ofNat 1), (.ofNat 3, .ofNat 3), (.ofNat 4, .negSucc 0), (.ofNat 4, .ofNat 1), (.ofNat 5, .ofNat 5), (.ofNat 6, .negSucc 2), (.ofNat 6, .ofNat 3), (.ofNat 7, .negSucc 4), (.ofNat 7, .ofNat 5), (.ofNat 8, .ofNat 1)], 44323400101743826482252118069045227468051054877153801018787679745058187405492051256811120693013263108645381537243549927444985392136348445214138837681372335460576630380476638451181844605316456924587800154480748628000),
  ([(.ofNat 1, .ofNat 0), (.ofNat 4, .ofNat 4), (.ofNat 5, .negSucc 1), (.ofNat 5, .ofNat 2)], 37856178837489808672800),
  ([(.ofNat 1, .ofNat 1), (.ofNat 5, .negSucc 0), (.ofNat 5, .ofNat 1), (.ofNat 7, .ofNat 7)], 1257876770290654087200),
  ([(.ofNat 1, .ofNat 0), (.ofNat 2, .ofNat 2), (.ofNat 3, .negSucc 1), (.ofNat 3, .ofNat 2), (.ofNat 5, .ofNat 0), (.ofNat 6, .negSucc 1), (.ofNat 6, .ofNat 2), (.ofNat 9, .ofNat 8)], 10822905687469608766099329176310134910973634734574568457114270774346293121761285888357922080800),
  ([(.ofNat 1, .ofNat 1), (.ofNat 2, .negSucc 0), (.ofNat 2, .ofNat 1), (.ofNat 3, .negSucc 0), (.ofNat 3, .ofNat 1), (.ofNat 4, .negSucc 2), (.ofNat 4, .ofNat 3), (.ofNat 6, .negSucc 4), (.ofNat 6, .negSucc 0), (.ofNat 6, .ofNat 1), (.ofNat 6, .ofNat 5), (.ofNat 8, .negSucc 4), (.ofNat 8, .ofNat 5)], 73380306667798230254488719266218799488389825213991143116765201539734009903822468858392498890032399484567435334566393073637693558745695550543395525419190187441488765083942076008882251712877135242476116108388863004652998613269954924663147116339857633413152),
  ([(.ofNat 1, .ofNat 0), (.ofNat 2, .ofNat 0), (.ofNat 3, .ofNat 0), (.ofNat 5, .negSucc 3), (.ofNat 5, .ofNat 4), (.ofNat 6, .ofNat 0), (.ofNat 7, .negSucc 3), (.ofNat 7, .ofNat 4)], 133762297808731882318392095417957994362996245592784232969597147387659672371528193199251459770400),
  ([(.ofNat 1, .ofNat 1), (.ofNat 3, .ofNat 3)], 1056),
  ([(.ofNat 1, .ofNat 0), (.ofNat 4, .negSucc 1), (.ofNat 4, .ofNat 2)], 1101661243424),
  ([(.ofNat 1, .ofNat 1), (.ofNat 2, .negSucc 0), (.ofNat 2, .ofNat 1), (.ofNat 4, .negSucc 0), (.ofNat 4, .ofNat 1), (.ofNat 5, .negSucc 2), (.ofNat 5, .ofNat 3), (.ofNat 7, .negSucc 2), (.ofNat 7, .ofNat 3), (.ofNat 8, .negSucc 6), (.ofNat 8, .ofNat 7)], 33213493333213363926841190191370975896670648144687725455760752964213627429606793931219211126642067314270352528803394410254860374032483954208423836057451636370704120949299042291124256),
  ([(.ofNat 1, .ofNat 0), (.ofNat 3, .negSucc 1), (.ofNat 3, .ofNat 2), (.ofNat 4, .ofNat 0), (.ofNat 7, .negSucc 5), (.ofNat 7, .ofNat 6), (.ofNat 8, .negSucc 3), (.ofNat 8, .ofNat 4)], 200324544988062465498170160313119624280547337675162420471821226455072960662112691894878329735200),
  ([(.ofNat 1, .ofNat 1), (.ofNat 3, .negSucc 0), (.ofNat 3, .ofNat 1), (.ofNat 9, .ofNat 7)], 1257876770290654087200),
  ([(.ofNat 1, .ofNat 0), (.ofNat 2, .ofNat 2), (.ofNat 3, .ofNat 0), (.ofNat 5, .negSucc 1), (.ofNat 5, .ofNat 2), (.ofNat 6, .ofNat 6), (.ofNat 7, .negSucc 1), (.ofNat 7, .ofNat 2)], 334141257778099860005794614929109072520818534000433795626404881635056554624458329152246897543200),
  ([(.ofNat 1, .ofNat 1), (.ofNat 2, .negSucc 0), (.ofNat 2, .ofNat 1), (.ofNat 4, .negSucc 2), (.ofNat 4, .ofNat 3), (.ofNat 5, .negSucc 0), (.ofNat 5, .ofNat 1), (.ofNat 7, .negSucc 0), (.ofNat 7, .ofNat 1), (.ofNat 8, .negSucc 2), (.ofNat 8, .ofNat 3), (.ofNat 9, .ofNat 9)], 50182200114001009168898334936801417928799453556801639391696141763001145880822506161999713310381986307507864964602350317959156634903409253209344296631999318092993580939175337043710050075629396612956259433738840148000),
  ([(.ofNat 1, .ofNat 0), (.ofNat 2, .ofNat 0), (.ofNat 5, .ofNat 0), (.ofNat 7, .ofNat 0)], 1257873498147170388000),
  ([(.ofNat 1, .ofNat 1), (.ofNat 7, .negSucc 4), (.ofNat 7, .ofNat 5)], 1101661243424),
  ([(.ofNat 1, .ofNat 0), (.ofNat 3, .negSucc 1), (.ofNat 3, .ofNat 2), (.ofNat 5, .negSucc 3), (.ofNat 5, .ofNat 4), (.ofNat 8, .negSucc 1), (.ofNat 8, .ofNat 2)], 5309278122556074709075031586399855418769710692643468218035988647657965600),
  ([(.ofNat 1, .ofNat 1), (.ofNat 2, .negSucc 0), (.ofNat 2, .ofNat 1), (.ofNat 3, .negSucc 0), (.ofNat 3, .ofNat 1), (.ofNat 4, .negSucc 0), (.ofNat 4, .ofNat 1), (.ofNat 6, .negSucc 4), (.ofNat 6, .negSucc 0), (.ofNat 6, .ofNat 1), (.ofNat 6, .ofNat 5), (.ofNat 7, .ofNat 7), (.ofNat 8, .negSucc 0), (.ofNat 8, .ofNat 1)], 322183233739809408475104585494245103397433869078011510460700785045680843523686728804695195392312205333568166850088072277728911211121341759408052198850399001920548279549721164034484236120189870509212164432975881355090531326697994147197262017897681766331010008298724384841113324549415925243283488),
  ([(.ofNat 1, .ofNat 0), (.ofNat 4, .ofNat 4), (.ofNat 8, .ofNat 0), (.ofNat 8, .ofNat 8)], 1257873498147170388000),
  ([(.ofNat 1, .ofNat 1), (.ofNat 3, .ofNat 3), (.ofNat 5, .negSucc 2), (.ofNat 5, .ofNat 3)], 37856178837489808672800),
  ([(.ofNat 1, .ofNat 0), (.ofNat 2, .ofNat 2), (.ofNat 7, .negSucc 3), (.ofNat 7, .ofNat 4)], 37856178837489808672800),
  ([(.ofNat 1, .ofNat 1), (.ofNat 2, .negSucc 0), (.ofNat 2, .ofNat 1), (.ofNat 4, .negSucc 2), (.ofNat 4, .ofNat 3), (.ofNat 5, .ofNat 5), (.ofNat 8, .negSucc 4), (.ofNat 8, .ofNat 5)], 267068030804120142655444924806214884973571339824996801668201242171447864340134804191115441440800),
  ([(.ofNat 1, .ofNat 0), (.ofNat 2, .ofNat 0), (.ofNat 3, .negSucc 1), (.ofNat 3, .ofNat 2), (.ofNat 5, .negSucc 1), (.ofNat 5, .ofNat 2), (.ofNat 6, .negSucc 3), (.ofNat 6, .ofNat 4), (.ofNat 9, .negSucc 7), (.ofNat 9, .ofNat 8)], 205199462412017140013975690562254540749564504859850897937376522619834728030351825754540346204256866947585578132598159520037476704927158119106298873888),
  ([(.ofNat 1, .ofNat 1), (.ofNat 3, .negSucc 0), (.ofNat 3, .ofNat 1), (.ofNat 5, .negSucc 0), (.ofNat 5, .ofNat 1), (.ofNat 7, .negSucc 2), (.ofNat 7, .ofNat 3), (.ofNat 9, .ofNat 5)], 6529084375805960127771729200928832605380922596458639755213360387743984033587327403364467181600),
  ([(.ofNat 1, .ofNat 0), (.ofNat 3, .ofNat 0), (.ofNat 4, .negSucc 1), (.ofNat 4, .ofNat 2), (.ofNat 7, .negSucc 5), (.ofNat 7, .ofNat 6)], 95969649171582545495858360688230671271323800424253472),
  ([(.ofNat 1, .ofNat 1), (.ofNat 2, .negSucc 0), (.ofNat 2, .ofNat 1), (.ofNat 3, .ofNat 3), (.ofNat 4, .negSucc 0), (.ofNat 4, .ofNat 1), (.ofNat 6, .negSucc 2), (.ofNat 6, .ofNat 3), (.ofNat 8, .negSucc 6), (.ofNat 8, .ofNat 7)], 716279068562127637069097118095183291958219327390760219555211321028425312139753967535509636446304034024444008331325507495139799929323442498683262830624),
  ([(.ofNat 1, .ofNat 0), (.ofNat 4, .ofNat 0), (.ofNat 5, .negSucc 3), (.ofNat 5, .ofNat 4), (.ofNat 7, .negSucc 1), (.ofNat 7, .ofNat 2)], 95969649171582545495858360688230671271323800424253472),
  ([(.ofNat 1, .ofNat 1), (.ofNat 7, .negSucc 0), (.ofNat 7, .ofNat 1)], 1101661243424),
  ([(.ofNat 1, .ofNat 0), (.ofNat 2, .ofNat 2), (.ofNat 3, .negSucc 1), (.ofNat 3, .ofNat 2), (.ofNat 6, .negSucc 1), (.ofNat 6, .ofNat 2), (.ofNat 7, .ofNat 0), (.ofNat 9, .ofNat 4)], 2356984293898300550591525809042816570838926035461008257783369206734969688426610330166850848800),
  ([(.ofNat 1, .ofNat 1), (.ofNat 2, .negSucc 0), (.ofNat 2, .ofNat 1), (.ofNat 3, .negSucc 0), (.ofNat 3, .ofNat 1), (.ofNat 4, .negSucc 2), (.ofNat 4, .ofNat 3), (.ofNat 5, .negSucc 2), (.ofNat 5, .ofNat 3), (.ofNat 6, .negSucc 4), (.ofNat 6, .negSucc 0), (.ofNat 6, .ofNat 1), (.ofNat 6, .ofNat 5), (.ofNat 7, .negSucc 4), (.ofNat 7, .ofNat 5), (.ofNat 8, .negSucc 2), (.ofNat 8, .ofNat 3), (.ofNat 9, .negSucc 6), (.ofNat 9, .ofNat 7)], 1000652428032865604465330813833409861551148958969440184088945345039832940465656687475214742178022935715179224670829783627627813741146008650199767379162875628031985565906452911985242920665379730492649485239894555507508201665448573012729853636632939539280499954883556762438158849332647348695749233787937153393490480211656117305259706429525728759668160861699862274981273031462649835681653558974526332583254075401047146583397567195812134313599856307207937537830128381959436112004615068280600060871686892581103844607531797403165537854713384457570336),
  ([(.ofNat 1, .ofNat 0), (.ofNat 2, .ofNat 0), (.ofNat 3, .ofNat 0), (.ofNat 6, .ofNat 0)], 1257873498147170388000),
  ([(.ofNat 1, .ofNat 1), (.ofNat 5, .ofNat 5), (.ofNat 7, .ofNat 7), (.ofNat 9, .ofNat 9)], 1257873498147170388000),
  ([(.ofNat 1, .ofNat 0), (.ofNat 5, .negSucc 1), (.ofNat 5, .ofNat 2), (.ofNat 8, .negSucc 5), (.ofNat 8, .ofNat 6)], 2659880832239703339912464731253868576),
  ([(.ofNat 1, .ofNat 1), (.ofNat 2, .negSucc 0), (.ofNat 2, .ofNat 1), (.ofNat 4, .negSucc 0), (.ofNat 4, .ofNat 1), (.ofNat 5, .negSucc 0), (.ofNat 5, .ofNat 1), (.ofNat 8, .negSucc 0), (.ofNat 8, .ofNat 1), (.ofNat 10, .ofNat 9)], 9995958533332048411480159970417993285366334676320117299941022939123700178894930667609938354883582647693941454309363797572308065417669054565059758112),
  ([(.ofNat 1, .ofNat 0), (.ofNat 3, .negSucc 1), (.ofNat 3, .ofNat 2), (.ofNat 4, .ofNat 4), (.ofNat 5, .ofNat 0), (.ofNat 7, .negSucc 3), (.ofNat 7, .ofNat 4), (.ofNat 9, .ofNat 2)], 10827102971254096299874697210576267273528020428876444352335918650464774291927983807092454688800)]
def qf_dat4 : List (List (Int × Int) × Nat) := [
  ([(.ofNat 1, .ofNat 1), (.ofNat 3, .negSucc 0), (.ofNat 3, .ofNat 1), (.ofNat 9, .ofNat 1)], 1257876770290654087200),
  ([(.ofNat 1, .ofNat 0), (.ofNat 2, .ofNat 2), (.ofNat 5, .negSucc 3), (.ofNat 5, .ofNat 4), (.ofNat 9, .negSucc 5), (.ofNat 9, .ofNat 6)], 191657084373696292164375354340257285090678631131351072),
  ([(.ofNat 1, .ofNat 1), (.ofNat 2, .negSucc 0), (.ofNat 2, .ofNat 1), (.ofNat 3, .ofNat 3), (.ofNat 4, .negSucc 2), (.ofNat 4, .ofNat 3), (.ofNat 6, .negSucc 2), (.ofNat 6, .ofNat 3), (.ofNat 7, .negSucc 2), (.ofNat 7, .ofNat 3), (.ofNat 8, .negSucc 4), (.ofNat 8, .ofNat 5)], 517293790285325700652421319087988429133531746538752461826799077691190277610420861592796535578537201888032926209874834184265853534263245207858351435020455722216645676844226911860508219786999245161461473475705088084000),
  ([(.ofNat 1, .ofNat 0), (.ofNat 2, .ofNat 0), (.ofNat 7, .negSucc 5), (.ofNat 7, .ofNat 6)], 37856178837489808672800),
  ([(.ofNat 1, .ofNat 1), (.ofNat 5, .negSucc 2), (.ofNat 5, .ofNat 3)], 1101661243424),
  ([(.ofNat 1, .ofNat 0), (.ofNat 3, .negSucc 1), (.ofNat 3, .ofNat 2), (.ofNat 4, .negSucc 1), (.ofNat 4, .ofNat 2), (.ofNat 7, .negSucc 1), (.ofNat 7, .ofNat 2), (.ofNat 9, .negSucc 7), (.ofNat 9, .ofNat 8)], 12929152763745812592853955672466599960301739190390800677814656163092197056429377042001124895288993899043171274290821695520),
  ([(.ofNat 1, .ofNat 1), (.ofNat 2, .negSucc 0), (.ofNat 2, .ofNat 1), (.ofNat 3, .negSucc 0), (.ofNat 3, .ofNat 1), (.ofNat 4, .negSucc 0), (.ofNat 4, .ofNat 1), (.ofNat 5, .ofNat 5), (.ofNat 6, .negSucc 4), (.ofNat 6, .negSucc 0), (.ofNat 6, .ofNat 1), (.ofNat 6, .ofNat 5), (.ofNat 7, .negSucc 0), (.ofNat 7, .ofNat 1), (.ofNat 8, .negSucc 6), (.ofNat 8, .ofNat 7), (.ofNat 9, .negSucc 4), (.ofNat 9, .ofNat 5)], 7290994957866153804760848149150271757006755193468575592463079381973200553530707283134396268871341545544626412485472236760477409847332796281429233668021220981469593881823894457808204796403867452394622374230148419470297681204076966315899117969831495529406793082270009816869014618278112485237805698929024804239615573082985531899620679980834630051365025941156818463835592628760843594943843668431762387093560929748304288337053249469278470052999705138526557780827215426025159897255056498591776),
  ([(.ofNat 1, .ofNat 0), (.ofNat 3, .ofNat 0), (.ofNat 4, .ofNat 0), (.ofNat 5, .negSucc 1), (.ofNat 5, .ofNat 2), (.ofNat 7, .ofNat 0), (.ofNat 8, .negSucc 3), (.ofNat 8, .ofNat 4)], 133705006234062931554822689848442765975774991419399009382742163611312669151275503873714097850400),
  ([(.ofNat 1, .ofNat 1), (.ofNat 3, .ofNat 3), (.ofNat 5, .negSucc 0), (.ofNat 5, .ofNat 1), (.ofNat 7, .negSucc 4), (.ofNat 7, .ofNat 5)], 191613193652691074865239652289481701261567538109712416),
  ([(.ofNat 1, .ofNat 0), (.ofNat 2, .ofNat 2), (.ofNat 5, .ofNat 0), (.ofNat 10, .ofNat 10)], 1257873498147170388000),
  ([(.ofNat 1, .ofNat 1), (.ofNat 2, .negSucc 0), (.ofNat 2, .ofNat 1), (.ofNat 4, .negSucc 2), (.ofNat 4, .ofNat 3), (.ofNat 8, .negSucc 2), (.ofNat 8, .ofNat 3)], 3538931372352333134121346106191861780242860751823655384772397064412825632),
  ([(.ofNat 1, .ofNat 0), (.ofNat 2, .ofNat 0), (.ofNat 3, .negSucc 1), (.ofNat 3, .ofNat 2), (.ofNat 5, .negSucc 3), (.ofNat 5, .ofNat 4), (.ofNat 6, .negSucc 3), (.ofNat 6, .ofNat 4), (.ofNat 9, .negSucc 3), (.ofNat 9, .ofNat 4)], 614581865755470005631182066033152574250586882413051369818980097514084858049050285553608883893961465064988238440617309733788616769783054295782702286880),
  ([(.ofNat 1, .ofNat 1), (.ofNat 3, .negSucc 0), (.ofNat 3, .ofNat 1), (.ofNat 9, .negSucc 6), (.ofNat 9, .ofNat 7)], 1333208421189150841379345667861874720),
  ([(.ofNat 1, .ofNat 0), (.ofNat 3, .ofNat 0), (.ofNat 7, .negSucc 3), (.ofNat 7, .ofNat 4), (.ofNat 8, .negSucc 1), (.ofNat 8, .ofNat 2)], 143724169498218657652405188131762900564535432603338784),
  ([(.ofNat 1, .ofNat 1), (.ofNat 2, .negSucc 0), (.ofNat 2, .ofNat 1), (.ofNat 4, .negSucc 0), (.ofNat 4, .ofNat 1), (.ofNat 5, .negSucc 2), (.ofNat 5, .ofNat 3), (.ofNat 8, .negSucc 0), (.ofNat 8, .ofNat 1), (.ofNat 9, .negSucc 2), (.ofNat 9, .ofNat 3), (.ofNat 10, .ofNat 7)], 22088631194082600169913521023216497935204653939209009590693628517304586016545007628006286867287411360637749785189451504375404395312387270768674462488437157449026671101890399273818009077135916756884959643528452999200),
  ([(.ofNat 1, .ofNat 0), (.ofNat 4, .ofNat 4), (.ofNat 8, .ofNat 0), (.ofNat 8, .ofNat 8)], 1257873498147170388000),
  ([(.ofNat 1, .ofNat 1), (.ofNat 5, .ofNat 5), (.ofNat 7, .negSucc 2), (.ofNat 7, .ofNat 3)], 37856178837489808672800),
  ([(.ofNat 1, .ofNat 0), (.ofNat 2, .ofNat 2), (.ofNat 3, .negSucc 1), (.ofNat 3, .ofNat 2), (.ofNat 5, .negSucc 1), (.ofNat 5, .ofNat 2), (.ofNat 6, .negSucc 1), (.ofNat 6, .ofNat 2), (.ofNat 7, .negSucc 5), (.ofNat 7, .ofNat 6), (.ofNat 9, .negSucc 1), (.ofNat 9, .ofNat 2)], 862190391205937125749826539903545568181083050121542629427342492295867532875106423003680770668392350673570310677129810421740062289847958759439673109313965918721983965374369483704726738332969655778815474543072343328800),
  ([(.ofNat 1, .ofNat 1), (.ofNat 2, .negSucc 0), (.ofNat 2, .ofNat 1), (.ofNat 3, .negSucc 0), (.ofNat 3, .ofNat 1), (.ofNat 4, .negSucc 2), (.ofNat 4, .ofNat 3), (.ofNat 5, .negSucc 0), (.ofNat 5, .ofNat 1), (.ofNat 6, .negSucc 4), (.ofNat 6, .negSucc 0), (.ofNat 6, .ofNat 1), (.ofNat 6, .ofNat 5), (.ofNat 8, .negSucc 4), (.ofNat 8, .ofNat 5), (.ofNat 9, .negSucc 0), (.ofNat 9, .ofNat 1), (.ofNat 10, .negSucc 8), (.ofNat 10, .ofNat 9)], 286781979486929347957102613641731316615399496840069499526419784093685806925038931771589294773522656315953541415406103258938489969579486550536184236153094621994625047814663608534665353281327435482102567023601763136674331996815324804969404435412646499823713101248796728334738507024232508864388966357172486978432737480807236203327161968216653270980780359279855188981679188790548785702782757959984773559986510730972897027011888415570826764394498468875078398429380693783410968792820132762055479970541753364714961456566384007915465212762126584743968),
  ([(.ofNat 1, .ofNat 0), (.ofNat 2, .ofNat 0), (.ofNat 5, .ofNat 0), (.ofNat 7, .negSucc 1), (.ofNat 7, .ofNat 2), (.ofNat 9, .negSucc 5), (.ofNat 9, .ofNat 0), (.ofNat 9, .ofNat 6)], 410929365942298705862859542514067673685293635927572902357691530492352961724920144909718326970400),
  ([(.ofNat 1, .ofNat 1), (.ofNat 3, .ofNat 3), (.ofNat 7, .negSucc 0), (.ofNat 7, .ofNat 1)], 37856178837489808672800),
  ([(.ofNat 1, .ofNat 0), (.ofNat 4, .negSucc 1), (.ofNat 4, .ofNat 2), (.ofNat 5, .negSucc 3), (.ofNat 5, .ofNat 4), (.ofNat 7, .ofNat 0)], 3045913654815643775935487666916095696167661195069472),
  ([(.ofNat 1, .ofNat 1), (.ofNat 2, .negSucc 0), (.ofNat 2, .ofNat 1), (.ofNat 4, .negSucc 0), (.ofNat 4, .ofNat 1), (.ofNat 7, .negSucc 4), (.ofNat 7, .ofNat 5), (.ofNat 8, .negSucc 6), (.ofNat 8, .ofNat 7)], 18081110751428013699203199502481239408771940478225762761801997180265488371409206431043626162772209770330698713180659615776),
  ([(.ofNat 1, .ofNat 0), (.ofNat 3, .negSucc 1), (.ofNat 3, .ofNat 2), (.ofNat 4, .ofNat 0), (.ofNat 9, .negSucc 7), (.ofNat 9, .ofNat 8)], 191613193652691074865041938410079466458764482397177888),
  ([(.ofNat 1, .ofNat 1), (.ofNat 3, .negSucc 0), (.ofNat 3, .ofNat 1), (.ofNat 5, .negSucc 2), (.ofNat 5, .ofNat 3), (.ofNat 7, .ofNat 7), (.ofNat 9, .negSucc 4), (.ofNat 9, .ofNat 5)], 334145325944339094932652404070253067225077021140693317994375771738209230246700050142975875975200),
  ([(.ofNat 1, .ofNat 0), (.ofNat 2, .ofNat 2), (.ofNat 3, .ofNat 0), (.ofNat 6, .ofNat 6)], 1257873498147170388000),
  ([(.ofNat 1, .ofNat 1), (.ofNat 2, .negSucc 0), (.ofNat 2, .ofNat 1), (.ofNat 3, .ofNat 3), (.ofNat 4, .negSucc 2), (.ofNat 4, .ofNat 3), (.ofNat 6, .negSucc 2), (.ofNat 6, .ofNat 3), (.ofNat 8, .negSucc 2), (.ofNat 8, .ofNat 3)], 716279257481955820626446418283276101860390518275893577756327786013535878979095075694147746333261197551166331820480476418314877012268787794610604836896),
  ([(.ofNat 1, .ofNat 0), (.ofNat 2, .ofNat 0), (.ofNat 5, .negSucc 1), (.ofNat 5, .ofNat 2), (.ofNat 7, .negSucc 3), (.ofNat 7, .ofNat 4), (.ofNat 10, .negSucc 7), (.ofNat 10, .ofNat 8)], 267395675247277082543987540804779771990234701030747060326821604998875895371175538078554328762400),
  ([(.ofNat 1, .ofNat 1), (.ofNat 5, .negSucc 0), (.ofNat 5, .ofNat 1)], 1101661243424),
  ([(.ofNat 1, .ofNat 0), (.ofNat 3, .negSucc 1), (.ofNat 3, .ofNat 2), (.ofNat 5, .ofNat 0), (.ofNat 8, .negSucc 5), (.ofNat 8, .ofNat 6), (.ofNat 9, .negSucc 3), (.ofNat 9, .ofNat 4)], 200389724295757139392331720925375055127240627732880468885249180964431918628294684981064961722400),
  ([(.ofNat 1, .ofNat 1), (.ofNat 2, .negSucc 0), (.ofNat 2, .ofNat 1), (.ofNat 3, .negSucc 0), (.ofNat 3, .ofNat 1), (.ofNat 4, .negSucc 0), (.ofNat 4, .ofNat 1), (.ofNat 6, .negSucc 4), (.ofNat 6, .negSucc 0), (.ofNat 6, .ofNat 1), (.ofNat 6, .ofNat 5), (.ofNat 7, .negSucc 2), (.ofNat 7, .ofNat 3), (.ofNat 8, .negSucc 0), (.ofNat 8, .ofNat 1), (.ofNat 9, .negSucc 6), (.ofNat 9, .ofNat 7)], 395944560615896104805167691100399939047525390504004385965186239112216022903937246710488811562576685771259052414247505134249168544555212699345157825017869532931426916880154853371011912975691044104815522010979907771152510757332682353240940537662653274384377496206979867120591628239217083234548395237910493171356430738530912177356693805239997717202266180055884438647706560292305679536836246113449904154381226738475636235698232681929213984),
  ([(.ofNat 1, .ofNat 0), (.ofNat 3, .ofNat 0), (.ofNat 4, .ofNat 4), (.ofNat 5, .negSucc 3), (.ofNat 5, .ofNat 4), (.ofNat 7, .negSucc 5), (.ofNat 7, .ofNat 6), (.ofNat 11, .ofNat 10)], 6529084375805960129524441541423886527884410957596114098087057211982474998481385442525698951200),
  ([(.ofNat 1, .ofNat 1), (.ofNat 9, .negSucc 2), (.ofNat 9, .ofNat 3), (.ofNat 9, .ofNat 9)], 1257876770290654087200),
  ([(.ofNat 1, .ofNat 0), (.ofNat 2, .ofNat 2), (.ofNat 7, .negSucc 1), (.ofNat 7, .ofNat 2)], 37856178837489808672800),
  ([(.ofNat 1, .ofNat 1), (.ofNat 2, .negSucc 0), (.ofNat 2, .ofNat 1), (.ofNat 4, .negSucc 2), (.ofNat 4, .ofNat 3), (.ofNat 5, .negSucc 2), (.ofNat 5, .ofNat 3), (.ofNat 7, .negSucc 0), (.ofNat 7, .ofNat 1), (.ofNat 8, .negSucc 4), (.ofNat 8, .ofNat 5), (.ofNat 10, .negSucc 6), (.ofNat 10, .ofNat 3), (.ofNat 10, .ofNat 7)], 3233323143220016297945299668052783979660286915767036724096197805831920220139491329245843129722245068778948885764627769160591699387714990081054782967864424343587674070874645596134301741846471289769098796789783641929780528426119171875945328588447338890587086935949751352731206302225971713266518048),
  ([(.ofNat 1, .ofNat 0), (.ofNat 2, .ofNat 0), (.ofNat 3, .negSucc 1), (.ofNat 3, .ofNat 2), (.ofNat 6, .negSucc 3), (.ofNat 6, .ofNat 4), (.ofNat 9, .negSucc 1), (.ofNat 9, .ofNat 2)], 67014734190795256380912064366332047299941019833625435146129359978291917506181597125722155092000),
  ([(.ofNat 1, .ofNat 1), (.ofNat 3, .negSucc 0), (.ofNat 3, .ofNat 1), (.ofNat 5, .ofNat 5), (.ofNat 7, .negSucc 4), (.ofNat 7, .ofNat 5), (.ofNat 9, .negSucc 0), (.ofNat 9, .ofNat 1)], 200324544988062465498170160313119624280547337675162420471821226455072960662112691894878329735200),
  ([(.ofNat 1, .ofNat 0), (.ofNat 4, .negSucc 1), (.ofNat 4, .ofNat 2), (.ofNat 5, .negSucc 1), (.ofNat 5, .ofNat 2), (.ofNat 9, .ofNat 0)], 3045913654815643775935487666916095696167661195069472),
  ([(.ofNat 1, .ofNat 1), (.ofNat 2, .negSucc 0), (.ofNat 2, .ofNat 1), (.ofNat 3, .ofNat 3), (.ofNat 4, .negSucc 0), (.ofNat 4, .ofNat 1), (.ofNat 5, .negSucc 0), (.ofNat 5, .ofNat 1), (.ofNat 6, .negSucc 2), (.ofNat 6, .ofNat 3), (.ofNat 7, .ofNat 7), (.ofNat 8, .negSucc 6), (.ofNat 8, .ofNat 7), (.ofNat 10, .negSucc 8), (.ofNat 10, .ofNat 1), (.ofNat 10, .ofNat 9)], 6606741767591147296310984702580076167391100361028228368246087691543879709762573578951779365002176146259925561660430763075760293307522341732394770770555573763409643220549780950261138257351121362286895530886216475005174017087722111769947983689957386369063636892641223306674478716234407413307026840658808310981308348056946482167508504623944625973962456216112623364403633742501291717920800),
  ([(.ofNat 1, .ofNat 0), (.ofNat 4, .ofNat 0), (.ofNat 8, .negSucc 3), (.ofNat 8, .ofNat 4)], 37856178837489808672800)]
def qf_dat : List (List (Int × Int) × Nat) := qf_dat0 ++ (qf_dat1 ++ (qf_dat2 ++ (qf_dat3 ++ qf_dat4)))
end
section
/-! the checks, by the kernel -/
set_option maxRecDepth 100000 in
theorem qf_ck0 : qf_ckl 0 qf_dat0 = true := by decide +kernel
set_option maxRecDepth 100000 in
theorem qf_ck1 : qf_ckl 40 qf_dat1 = true := by decide +kernel
set_option maxRecDepth 100000 in
theorem qf_ck2 : qf_ckl 80 qf_dat2 = true := by decide +kernel
set_option maxRecDepth 100000 in
theorem qf_ck3 : qf_ckl 120 qf_dat3 = true := by decide +kernel
set_option maxRecDepth 100000 in
theorem qf_ck4 : qf_ckl 160 qf_dat4 = true := by decide +kernel
theorem qf_len0 : qf_dat0.length = 40 := by decide +kernel
theorem qf_len1 : qf_dat1.length = 40 := by decide +kernel
theorem qf_len2 : qf_dat2.length = 40 := by decide +kernel
theorem qf_len3 : qf_dat3.length = 40 := by decide +kernel
theorem qf_len4 : qf_dat4.length = 40 := by decide +kernel
theorem qf_ckl_app : ∀ (a b : List (List (Int × Int) × Nat)) (t : Nat), qf_ckl t a = true → qf_ckl (t + a.length) b = true → qf_ckl t (a ++ b) = true := by
  intro a
  induction a with
  | nil => intro b t _ h; exact h
  | cons e es ih =>
    intro b t h1 h2
    rw [qf_ckl, Bool.and_eq_true] at h1
    show qf_ckl t (e :: (es ++ b)) = true
    rw [qf_ckl, Bool.and_eq_true]
    refine ⟨h1.1, ih b (t + 1) h1.2 ?_⟩
    rw [List.length_cons] at h2
    rw [show t + 1 + es.length = t + (es.length + 1) from by omega]
    exact h2
theorem qf_ckall : qf_ckl 0 qf_dat = true := by
  refine qf_ckl_app _ _ 0 qf_ck0 ?_
  rw [qf_len0]
  refine qf_ckl_app _ _ 40 qf_ck1 ?_
  rw [qf_len1]
  refine qf_ckl_app _ _ 80 qf_ck2 ?_
  rw [qf_len2]
  refine qf_ckl_app _ _ 120 qf_ck3 ?_
  rw [qf_len3]
  exact qf_ck4
theorem qf_lenall : qf_dat.length = 200 := by
  show (qf_dat0 ++ (qf_dat1 ++ (qf_dat2 ++ (qf_dat3 ++ qf_dat4)))).length = 200
  rw [List.length_append, List.length_append, List.length_append, List.length_append, qf_len0, qf_len1, qf_len2, qf_len3, qf_len4]
theorem qf_ckget : ∀ (l : List (List (Int × Int) × Nat)) (t : Nat), qf_ckl t l = true → ∀ i, i < l.length → qf_ck (qf_dd (t + i)) (l.getD i ([], 0)).1 (l.getD i ([], 0)).1.length (l.getD i ([], 0)).2 = true := by
  intro l
  induction l with
  | nil => intro t _ i hi; exact absurd hi (Nat.not_lt_zero _)
  | cons e es ih =>
    intro t h i hi
    rw [qf_ckl, Bool.and_eq_true] at h
    cases i with
    | zero => exact h.1
    | succ i =>
      have := ih (t + 1) h.2 i (by rw [List.length_cons] at hi; omega)
      rw [show t + 1 + i = t + (i + 1) from by omega] at this
      exact this
end
section
/-! the facts for a valid d -/
def qf_V (d : Nat) : Prop := 3 ≤ d ∧ d ≤ 400 ∧ (d % 4 = 0 ∨ d % 4 = 3)
def qf_D (d : Nat) : List (Int × Int) × Nat := qf_dat.getD (2 * ((d - 3) / 4) + (d - 3) % 4) ([], 0)
def qf_L (d : Nat) : List (Int × Int) := (qf_D d).1
def qf_h (d : Nat) : Nat := (qf_L d).length
def qf_T (d i j : Nat) : Nat := qf_tb (qf_h d) (qf_D d).2 i j
def qf_F (d k : Nat) : Int × Int := qf_at (qf_L d) k
def qf_A (d k : Nat) : Int := (qf_F d k).1
def qf_B (d k : Nat) : Int := (qf_F d k).2
def qf_C (d k : Nat) : Int := qf_c d (qf_A d k) (qf_B d k)
theorem qf_vck {d : Nat} (v : qf_V d) : qf_ck d (qf_L d) (qf_h d) (qf_D d).2 = true := by
  obtain ⟨h3, h4, hm⟩ := v
  have h := qf_ckget qf_dat 0 qf_ckall (2 * ((d - 3) / 4) + (d - 3) % 4) (by rw [qf_lenall]; omega)
  rw [show qf_dd (0 + (2 * ((d - 3) / 4) + (d - 3) % 4)) = d from by unfold qf_dd; omega] at h
  exact h
theorem qf_vk0 {d : Nat} (v : qf_V d) : qf_k0 d (qf_L d) (qf_h d) (qf_D d).2 = true := by
  have h := qf_vck v
  rw [qf_ck, Bool.and_eq_true] at h
  exact h.1
theorem qf_rall {h : Nat} {p : Nat → Bool} (e : (List.range h).all p = true) {i : Nat} (hi : i < h) : p i = true := List.all_eq_true.mp e i (List.mem_range.mpr hi)
theorem qf_vk1 {d : Nat} (v : qf_V d) {i : Nat} (hi : i < qf_h d) : qf_k1 d (qf_L d) (qf_h d) (qf_D d).2 i = true := by
  have h := qf_vck v
  rw [qf_ck, Bool.and_eq_true] at h
  have h2 := qf_rall h.2 hi
  rw [Bool.and_eq_true] at h2
  exact h2.1
theorem qf_vk2 {d : Nat} (v : qf_V d) {i j : Nat} (hi : i < qf_h d) (hj : j < qf_h d) : qf_k2 d (qf_L d) (qf_h d) (qf_D d).2 i j = true := by
  have h := qf_vck v
  rw [qf_ck, Bool.and_eq_true] at h
  have h2 := qf_rall h.2 hi
  rw [Bool.and_eq_true] at h2
  have h3 := qf_rall h2.2 hj
  rw [Bool.and_eq_true] at h3
  exact h3.1
theorem qf_vk3 {d : Nat} (v : qf_V d) {i j k : Nat} (hi : i < qf_h d) (hj : j < qf_h d) (hk : k < qf_h d) : qf_T d (qf_T d i j) k = qf_T d i (qf_T d j k) := by
  have h := qf_vck v
  rw [qf_ck, Bool.and_eq_true] at h
  have h2 := qf_rall h.2 hi
  rw [Bool.and_eq_true] at h2
  have h3 := qf_rall h2.2 hj
  rw [Bool.and_eq_true] at h3
  exact eq_of_beq (qf_rall h3.2 hk)
theorem qf_vall {d : Nat} (v : qf_V d) : qf_all d 11 = qf_L d := by
  have h := qf_vk0 v
  rw [qf_k0, Bool.and_eq_true] at h
  exact of_decide_eq_true h.1
theorem qf_vh {d : Nat} (v : qf_V d) : 0 < qf_h d ∧ qf_h d ≤ 19 := by
  have h := qf_vk0 v
  rw [qf_k0, Bool.and_eq_true, Bool.and_eq_true] at h
  exact of_decide_eq_true h.2.1
theorem qf_vA0 {d : Nat} (v : qf_V d) : qf_A d 0 = 1 := by
  have h := qf_vk0 v
  rw [qf_k0, Bool.and_eq_true, Bool.and_eq_true, Bool.and_eq_true] at h
  exact of_decide_eq_true h.2.2.1
theorem qf_ise {o : Option (Int × Int)} {p : Int × Int} (h : qf_is o p = true) : o = some p := by
  cases o with
  | none => exact absurd h Bool.false_ne_true
  | some r =>
    rw [qf_is, Bool.and_eq_true] at h
    exact congrArg some (Prod.ext (of_decide_eq_true h.1) (of_decide_eq_true h.2))
theorem qf_vneu {d : Nat} (v : qf_V d) : qf_run d 50 1 (if d % 4 = 0 then 0 else 1) = some (qf_F d 0) := by
  have h := qf_vk0 v
  rw [qf_k0, Bool.and_eq_true, Bool.and_eq_true, Bool.and_eq_true, Bool.and_eq_true] at h
  exact qf_ise h.2.2.2.1
theorem qf_vsq {d : Nat} (v : qf_V d) : qf_cnt (fun k => qf_anyb (fun i => qf_T d i i == k) (qf_h d)) (qf_h d) = qf_h d / qf_cnt (fun k => qf_T d k k == 0) (qf_h d) := by
  have h := qf_vk0 v
  rw [qf_k0, Bool.and_eq_true, Bool.and_eq_true, Bool.and_eq_true, Bool.and_eq_true] at h
  exact of_decide_eq_true h.2.2.2.2
theorem qf_vfm {d : Nat} (v : qf_V d) {k : Nat} (hk : k < qf_h d) : (1 ≤ qf_A d k ∧ qf_A d k ≤ 11) ∧ (-qf_A d k < qf_B d k ∧ qf_B d k ≤ qf_A d k) ∧ 4 * qf_A d k * qf_C d k = qf_B d k * qf_B d k + d ∧ (qf_A d k ≤ qf_C d k ∧ qf_C d k ≤ 101) ∧ (qf_A d k = qf_C d k → 0 ≤ qf_B d k) ∧ qf_g3 (qf_A d k) (qf_B d k) (qf_C d k) = 1 := by
  have h := qf_vk1 v hk
  rw [qf_k1, Bool.and_eq_true] at h
  have h := h.1
  rw [qf_fm, Bool.and_eq_true, Bool.and_eq_true, Bool.and_eq_true, Bool.and_eq_true, Bool.and_eq_true] at h
  exact ⟨of_decide_eq_true h.1, of_decide_eq_true h.2.1, of_decide_eq_true h.2.2.1, of_decide_eq_true h.2.2.2.1, of_decide_eq_true h.2.2.2.2.1, of_decide_eq_true h.2.2.2.2.2⟩
theorem qf_vT0 {d : Nat} (v : qf_V d) {k : Nat} (hk : k < qf_h d) : qf_T d 0 k = k ∧ qf_T d k 0 = k := by
  have h := qf_vk1 v hk
  rw [qf_k1, Bool.and_eq_true, Bool.and_eq_true, Bool.and_eq_true] at h
  exact ⟨eq_of_beq h.2.1.1, eq_of_beq h.2.1.2⟩
def qf_I (d i : Nat) : Nat := qf_iv (qf_T d) (qf_h d) i
theorem qf_vI {d : Nat} (v : qf_V d) {k : Nat} (hk : k < qf_h d) : qf_I d k < qf_h d ∧ qf_T d k (qf_I d k) = 0 ∧ qf_run d 50 (qf_A d k) (-(qf_B d k)) = some (qf_F d (qf_I d k)) := by
  have h := qf_vk1 v hk
  simp only [qf_k1, Bool.and_eq_true] at h
  exact ⟨of_decide_eq_true h.2.2.1.1, eq_of_beq h.2.2.1.2, qf_ise h.2.2.2.1⟩
theorem qf_vIm {d : Nat} {k j : Nat} (hI : qf_I d k < qf_h d) (hj : j < qf_I d k) : qf_T d k j ≠ 0 := by
  intro e
  have h := List.not_of_lt_findIdx (p := fun j => qf_T d k j == 0) (xs := List.range (qf_h d)) (i := j) hj
  rw [List.getElem_range] at h
  rw [e] at h
  exact absurd h (by decide)
theorem qf_anyb_t {p : Nat → Bool} : ∀ {n : Nat}, qf_anyb p n = true ↔ ∃ i, i < n ∧ p i = true := by
  intro n
  induction n with
  | zero => exact ⟨fun h => absurd h Bool.false_ne_true, fun ⟨_, h, _⟩ => absurd h (Nat.not_lt_zero _)⟩
  | succ n ih =>
    rw [qf_anyb, Bool.or_eq_true, ih]
    constructor
    · rintro (⟨i, hi, e⟩ | e)
      · exact ⟨i, by omega, e⟩
      · exact ⟨n, by omega, e⟩
    · rintro ⟨i, hi, e⟩
      by_cases z : i = n
      · subst z; exact Or.inr e
      · exact Or.inl ⟨i, by omega, e⟩
theorem qf_vord {d : Nat} (v : qf_V d) {k : Nat} (hk : k < qf_h d) : ∃ e, e < qf_h d ∧ qf_pw (qf_T d) k (e + 1) = 0 := by
  have h := qf_vk1 v hk
  simp only [qf_k1, Bool.and_eq_true] at h
  obtain ⟨e, he, h⟩ := qf_anyb_t.mp h.2.2.2.2
  exact ⟨e, he, eq_of_beq h⟩
theorem qf_vTlt {d : Nat} (v : qf_V d) {i j : Nat} (hi : i < qf_h d) (hj : j < qf_h d) : qf_T d i j < qf_h d := by
  have h := qf_vk2 v hi hj
  rw [qf_k2, Bool.and_eq_true] at h
  exact of_decide_eq_true h.1
theorem qf_vdis {d : Nat} (v : qf_V d) {i j : Nat} (hi : i < qf_h d) (hj : j < qf_h d) (ea : qf_A d i = qf_A d j) (eb : qf_B d i = qf_B d j) : i = j := by
  have h := qf_vk2 v hi hj
  rw [qf_k2, Bool.and_eq_true, Bool.and_eq_true, Bool.or_eq_true] at h
  rcases h.2.1 with h | h
  · exact eq_of_beq h
  · have e1 : decide ((qf_at (qf_L d) i).1 = (qf_at (qf_L d) j).1) = true := decide_eq_true ea
    have e2 : decide ((qf_at (qf_L d) i).2 = (qf_at (qf_L d) j).2) = true := decide_eq_true eb
    rw [e1, e2] at h
    exact absurd h (by decide)
theorem qf_vcx {d : Nat} (v : qf_V d) {i j : Nat} (hi : i < qf_h d) (hj : j < qf_h d) : qf_cx d (qf_F d i) (qf_F d j) (qf_F d (qf_T d i j)) = true := by
  have h := qf_vk2 v hi hj
  rw [qf_k2, Bool.and_eq_true, Bool.and_eq_true, Bool.and_eq_true] at h
  exact h.2.2.1
theorem qf_vcy {d : Nat} (v : qf_V d) {i j : Nat} (hi : i < qf_h d) (hj : j < qf_h d) : qf_cy d (qf_F d i) (qf_F d j) (qf_F d (qf_T d i j)) = true := by
  have h := qf_vk2 v hi hj
  rw [qf_k2, Bool.and_eq_true, Bool.and_eq_true, Bool.and_eq_true] at h
  exact h.2.2.2
/-! powers -/
theorem qf_pwlt {d : Nat} (v : qf_V d) {i : Nat} (hi : i < qf_h d) (e : Nat) : qf_pw (qf_T d) i e < qf_h d := by
  induction e with
  | zero => exact (qf_vh v).1
  | succ e ih => exact qf_vTlt v ih hi
theorem qf_pw1 {d : Nat} (v : qf_V d) {i : Nat} (hi : i < qf_h d) : qf_pw (qf_T d) i 1 = i := (qf_vT0 v hi).1
theorem qf_pwadd {d : Nat} (v : qf_V d) {i : Nat} (hi : i < qf_h d) (a b : Nat) : qf_T d (qf_pw (qf_T d) i a) (qf_pw (qf_T d) i b) = qf_pw (qf_T d) i (a + b) := by
  induction b with
  | zero => exact (qf_vT0 v (qf_pwlt v hi a)).2
  | succ b ih =>
    show qf_T d (qf_pw (qf_T d) i a) (qf_T d (qf_pw (qf_T d) i b) i) = qf_T d (qf_pw (qf_T d) i (a + b)) i
    rw [← ih, qf_vk3 v (qf_pwlt v hi a) (qf_pwlt v hi b) hi]
theorem qf_pwsq {d : Nat} (v : qf_V d) {i : Nat} (hi : i < qf_h d) (m : Nat) : qf_pw (qf_T d) (qf_T d i i) m = qf_pw (qf_T d) i (2 * m) := by
  induction m with
  | zero => rfl
  | succ m ih =>
    show qf_T d (qf_pw (qf_T d) (qf_T d i i) m) (qf_T d i i) = qf_pw (qf_T d) i (2 * m + 1 + 1)
    have e : qf_T d i i = qf_pw (qf_T d) i 2 := by
      show _ = qf_T d (qf_T d 0 i) i
      rw [(qf_vT0 v hi).1]
    rw [ih]
    exact (congrArg (qf_T d (qf_pw (qf_T d) i (2 * m))) e).trans (qf_pwadd v hi (2 * m) 2)
end
section
/-! reduction -/
theorem qf_sh_rng {a : Int} (b : Int) (ha : 0 < a) : -a < qf_sh a b ∧ qf_sh a b ≤ a := by
  have h1 := Int.emod_nonneg b (show 2 * a ≠ 0 by omega)
  have h2 := Int.emod_lt_of_pos b (show 0 < 2 * a by omega)
  unfold qf_sh
  split <;> omega
theorem qf_sh_cong (a b : Int) : ∃ k, qf_sh a b = b + 2 * a * k := by
  have h := Int.emod_add_mul_ediv b (2 * a)
  unfold qf_sh
  split
  · refine ⟨-(b / (2 * a)) - 1, ?_⟩
    rw [Int.mul_sub, Int.mul_neg]
    omega
  · refine ⟨-(b / (2 * a)), ?_⟩
    rw [Int.mul_neg]
    omega
theorem qf_cong1 {a x y k : Int} (ha : 0 < a) (hx : -a < x ∧ x ≤ a) (hy : -a < y ∧ y ≤ a) (e : x = y + 2 * a * k) : x = y := by
  rw [Int.mul_assoc] at e
  rcases Int.lt_trichotomy k 0 with h | h | h
  · have := Int.mul_le_mul_of_nonneg_left (c := a) (show k ≤ -1 by omega) (by omega)
    omega
  · subst h
    omega
  · have := Int.mul_le_mul_of_nonneg_left (c := a) (show 1 ≤ k by omega) (by omega)
    omega
theorem qf_sh_eq {a b x k : Int} (ha : 0 < a) (hx : -a < x ∧ x ≤ a) (e : x = b + 2 * a * k) : qf_sh a b = x := by
  obtain ⟨m, hm⟩ := qf_sh_cong a b
  refine qf_cong1 (k := m - k) ha (qf_sh_rng b ha) hx ?_
  rw [hm, e, Int.mul_sub]
  omega
theorem qf_c_eq {d a b c : Int} (ha : 0 < a) (e : 4 * a * c = b * b + d) : qf_c d a b = c := by
  unfold qf_c
  rw [← e]
  exact Int.mul_ediv_cancel_left c (by omega)
theorem qf_va_add {d a b c : Int} (k : Int) (e : 4 * a * c = b * b + d) : 4 * a * (c + b * k + a * k * k) = (b + 2 * a * k) * (b + 2 * a * k) + d := by
  grind
theorem qf_va_sh {d a b c : Int} (ha : 0 < a) (e : 4 * a * c = b * b + d) : 4 * a * qf_c d a (qf_sh a b) = qf_sh a b * qf_sh a b + d := by
  obtain ⟨k, hk⟩ := qf_sh_cong a b
  have h := qf_va_add k e
  rw [← hk] at h
  rw [qf_c_eq ha h, h]
theorem qf_c_pos {d a b c : Int} (hd : 0 < d) (ha : 0 < a) (e : 4 * a * c = b * b + d) : 0 < c := by
  have h := zz_sq b
  rcases Int.lt_or_le 0 c with h1 | h1
  · exact h1
  · have h2 := Int.mul_nonneg (a := 4 * a) (b := -c) (by omega) (by omega)
    rw [Int.mul_neg] at h2
    omega
theorem qf_run_s {d a b c : Int} (n : Nat) (hd : 0 < d) (ha : 0 < a) (e : 4 * a * c = b * b + d) : qf_run d (n + 1) a b = if qf_c d a (qf_sh a b) < a then qf_run d n (qf_c d a (qf_sh a b)) (-(qf_sh a b)) else some (a, qf_fin d a (qf_sh a b)) := by
  rw [qf_run]
  by_cases h : qf_c d a (qf_sh a b) < a
  · rw [if_pos h, if_pos h, if_pos (qf_c_pos hd ha (qf_va_sh ha e))]
  · rw [if_neg h, if_neg h]
theorem qf_va_sw {d a b c : Int} (e : 4 * a * c = b * b + d) : 4 * c * a = (-b) * (-b) + d := by grind
theorem qf_run_some {d : Int} (hd : 0 < d) : ∀ (n : Nat) (a b c : Int), 0 < a → a < n → 4 * a * c = b * b + d → ∃ r, qf_run d n a b = some r := by
  intro n
  induction n with
  | zero => intro a b c h1 h2; exact absurd h2 (by omega)
  | succ n ih =>
    intro a b c ha hn e
    rw [qf_run_s n hd ha e]
    have e2 := qf_va_sh ha e
    by_cases h : qf_c d a (qf_sh a b) < a
    · rw [if_pos h]
      exact ih _ _ a (qf_c_pos hd ha e2) (by omega) (qf_va_sw e2)
    · rw [if_neg h]
      exact ⟨_, rfl⟩
theorem qf_sqle {a s : Int} (h : -a < s ∧ s ≤ a) : s * s ≤ a * a := by
  have h1 := Int.mul_nonneg (a := a - s) (b := a + s) (by omega) (by omega)
  have h2 : (a - s) * (a + s) = a * a - s * s := by grind
  omega
theorem qf_run_251 {d : Int} (hd : 0 < d) (hd4 : d ≤ 400) {a b c : Int} (ha : 0 < a) (hn : a ≤ 251) (e : 4 * a * c = b * b + d) : ∃ r, qf_run d 66 a b = some r := by
  rw [qf_run_s 65 hd ha e]
  have e2 := qf_va_sh ha e
  by_cases h : qf_c d a (qf_sh a b) < a
  · rw [if_pos h]
    have hs := qf_sqle (qf_sh_rng b ha)
    refine qf_run_some hd 65 _ _ a (qf_c_pos hd ha e2) ?_ (qf_va_sw e2)
    generalize qf_c d a (qf_sh a b) = c' at *
    generalize qf_sh a b = s at *
    rcases Int.lt_or_le c' 65 with z | z
    · exact z
    · exfalso
      have h3 := Int.mul_le_mul_of_nonneg_left (c := 4 * a) z (by omega)
      have h4 := Int.mul_nonneg (a := a - 2) (b := 258 - a) (by omega) (by omega)
      have h5 : (a - 2) * (258 - a) = 260 * a - a * a - 516 := by grind
      omega
  · rw [if_neg h]
    exact ⟨_, rfl⟩
theorem qf_run_1000 {d : Int} (hd : 0 < d) (hd4 : d ≤ 400) {a b c : Int} (ha : 0 < a) (hn : a ≤ 1000) (e : 4 * a * c = b * b + d) : ∃ r, qf_run d 67 a b = some r := by
  rw [qf_run_s 66 hd ha e]
  have e2 := qf_va_sh ha e
  by_cases h : qf_c d a (qf_sh a b) < a
  · rw [if_pos h]
    have hs := qf_sqle (qf_sh_rng b ha)
    refine qf_run_251 hd hd4 (qf_c_pos hd ha e2) ?_ (qf_va_sw e2)
    generalize qf_c d a (qf_sh a b) = c' at *
    generalize qf_sh a b = s at *
    rcases Int.lt_or_le c' 252 with z | z
    · omega
    · exfalso
      have h3 := Int.mul_le_mul_of_nonneg_left (c := 4 * a) z (by omega)
      have h4 := Int.mul_nonneg (a := a - 1) (b := 1007 - a) (by omega) (by omega)
      have h5 : (a - 1) * (1007 - a) = 1008 * a - a * a - 1007 := by grind
      omega
  · rw [if_neg h]
    exact ⟨_, rfl⟩
/-- what shifts and exchanges keep, the reduction keeps -/
theorem qf_run_inv {d : Int} (hd : 0 < d) (Q : Int → Int → Prop) (hs : ∀ a b k, 0 < a → Q a b → Q a (b + 2 * a * k)) (hw : ∀ a b c, 0 < a → 0 < c → 4 * a * c = b * b + d → Q a b → Q c (-b)) : ∀ (n : Nat) (a b c : Int) (r : Int × Int), 0 < a → 4 * a * c = b * b + d → Q a b → qf_run d n a b = some r → Q r.1 r.2 := by
  intro n
  induction n with
  | zero => intro a b c r _ _ _ h; exact absurd h (by rw [qf_run]; exact nofun)
  | succ n ih =>
    intro a b c r ha e q h
    rw [qf_run_s n hd ha e] at h
    have e2 := qf_va_sh ha e
    obtain ⟨k, hk⟩ := qf_sh_cong a b
    have q2 : Q a (qf_sh a b) := by rw [hk]; exact hs a b k ha q
    by_cases z : qf_c d a (qf_sh a b) < a
    · rw [if_pos z] at h
      exact ih _ _ a r (qf_c_pos hd ha e2) (qf_va_sw e2) (hw _ _ _ ha (qf_c_pos hd ha e2) e2 q2) h
    · rw [if_neg z] at h
      cases h
      show Q a (qf_fin d a (qf_sh a b))
      unfold qf_fin
      by_cases y : a = qf_c d a (qf_sh a b) ∧ qf_sh a b < 0
      · rw [if_pos y]
        have q3 := hw _ _ _ ha (qf_c_pos hd ha e2) e2 q2
        rw [← y.1] at q3
        exact q3
      · rw [if_neg y]
        exact q2
/-- a reduced form -/
def qf_rdc (d a b : Int) : Prop := 0 < a ∧ -a < b ∧ b ≤ a ∧ ∃ c, 4 * a * c = b * b + d ∧ a ≤ c ∧ (a = c → 0 ≤ b)
theorem qf_run_rdc {d : Int} (hd : 0 < d) : ∀ (n : Nat) (a b c : Int) (r : Int × Int), 0 < a → 4 * a * c = b * b + d → qf_run d n a b = some r → qf_rdc d r.1 r.2 := by
  intro n
  induction n with
  | zero => intro a b c r _ _ h; exact absurd h (by rw [qf_run]; exact nofun)
  | succ n ih =>
    intro a b c r ha e h
    rw [qf_run_s n hd ha e] at h
    have e2 := qf_va_sh ha e
    have hr := qf_sh_rng b ha
    by_cases z : qf_c d a (qf_sh a b) < a
    · rw [if_pos z] at h
      exact ih _ _ a r (qf_c_pos hd ha e2) (qf_va_sw e2) h
    · rw [if_neg z] at h
      cases h
      show qf_rdc d a (qf_fin d a (qf_sh a b))
      unfold qf_fin
      by_cases y : a = qf_c d a (qf_sh a b) ∧ qf_sh a b < 0
      · rw [if_pos y]
        refine ⟨ha, by omega, by omega, qf_c d a (qf_sh a b), ?_, by omega, fun _ => by omega⟩
        rw [e2]
        grind
      · rw [if_neg y]
        refine ⟨ha, by omega, by omega, qf_c d a (qf_sh a b), e2, by omega, fun t => ?_⟩
        rcases Int.lt_or_le (qf_sh a b) 0 with w | w
        · exact absurd ⟨t, w⟩ y
        · exact w
theorem qf_run_mono {d : Int} : ∀ (n : Nat) (a b : Int) (r : Int × Int), qf_run d n a b = some r → qf_run d (n + 1) a b = some r := by
  intro n
  induction n with
  | zero => intro a b r h; exact absurd h (by rw [qf_run]; exact nofun)
  | succ n ih =>
    intro a b r h
    rw [qf_run] at h ⊢
    split at h
    · rename_i h1
      rw [if_pos h1]
      split at h
      · rename_i h2
        rw [if_pos h2]
        exact ih _ _ _ h
      · exact absurd h nofun
    · rename_i h1
      rw [if_neg h1]
      exact h
theorem qf_run_le {d : Int} {n m : Nat} {a b : Int} {r : Int × Int} (hn : n ≤ m) (h : qf_run d n a b = some r) : qf_run d m a b = some r := by
  induction hn with
  | refl => exact h
  | step _ ih => exact qf_run_mono _ _ _ _ ih
theorem qf_run_det {d : Int} {n m : Nat} {a b : Int} {r s : Int × Int} (h : qf_run d n a b = some r) (h2 : qf_run d m a b = some s) : r = s := by
  have e1 := qf_run_le (Nat.le_max_left n m) h
  have e2 := qf_run_le (Nat.le_max_right n m) h2
  rw [e1] at e2
  exact Option.some.inj e2
/-! no common divisor -/
theorem qf_nd {m : Nat} {a : Int} : (m : Int) ∣ a ↔ m ∣ a.natAbs := by rw [← Int.dvd_natAbs, Int.ofNat_dvd]
theorem qf_g3d {a b c : Int} : qf_g3 a b c = 1 ↔ ∀ m : Nat, (m : Int) ∣ a → (m : Int) ∣ b → (m : Int) ∣ c → m = 1 := by
  unfold qf_g3
  constructor
  · intro h m h1 h2 h3
    have h4 : m ∣ Nat.gcd (Int.gcd a b) c.natAbs := Nat.dvd_gcd (Nat.dvd_gcd (qf_nd.mp h1) (qf_nd.mp h2)) (qf_nd.mp h3)
    rw [h] at h4
    exact Nat.dvd_one.mp h4
  · intro h
    refine h _ ?_ ?_ ?_
    · exact qf_nd.mpr (Nat.dvd_trans (Nat.gcd_dvd_left _ _) (Nat.gcd_dvd_left _ _))
    · exact qf_nd.mpr (Nat.dvd_trans (Nat.gcd_dvd_left _ _) (Nat.gcd_dvd_right _ _))
    · exact qf_nd.mpr (Nat.gcd_dvd_right _ _)
def qf_pr (d a b : Int) : Prop := ∀ c, 4 * a * c = b * b + d → qf_g3 a b c = 1
theorem qf_pr_sh {d a b k : Int} (ha : 0 < a) (h : qf_pr d a b) : qf_pr d a (b + 2 * a * k) := by
  intro c e
  have e0 : 4 * a * (c + (b + 2 * a * k) * (-k) + a * (-k) * (-k)) = b * b + d := by
    have := qf_va_add (-k) e
    rw [this]
    grind
  have h1 := qf_g3d.mp (h _ e0)
  refine qf_g3d.mpr fun m ma mb mc => h1 m ma ?_ ?_
  · have := Int.dvd_sub mb (Int.dvd_mul_of_dvd_left (c := k) (Int.dvd_mul_of_dvd_right (b := 2) ma))
    rwa [Int.add_sub_cancel] at this
  · exact Int.dvd_add (Int.dvd_add mc (Int.dvd_mul_of_dvd_left mb)) (Int.dvd_mul_of_dvd_left (Int.dvd_mul_of_dvd_left ma))
theorem qf_pr_sw {d a b c : Int} (ha : 0 < a) (hc : 0 < c) (e : 4 * a * c = b * b + d) (h : qf_pr d a b) : qf_pr d c (-b) := by
  intro a' e'
  have : a' = a := by
    have e2 := qf_va_sw e
    rw [← e2] at e'
    exact Int.eq_of_mul_eq_mul_left (by omega) e'
  subst this
  have h1 := qf_g3d.mp (h _ e)
  exact qf_g3d.mpr fun m ma mb mc => h1 m mc (Int.dvd_neg.mp mb) ma
theorem qf_run_pr {d : Int} (hd : 0 < d) {n : Nat} {a b c : Int} {r : Int × Int} (ha : 0 < a) (e : 4 * a * c = b * b + d) (h : qf_run d n a b = some r) : qf_pr d a b ↔ qf_pr d r.1 r.2 := by
  constructor
  · intro p
    exact qf_run_inv hd (qf_pr d) (fun a b k ha q => qf_pr_sh ha q) (fun a b c ha hc e q => qf_pr_sw ha hc e q) n a b c r ha e p h
  · intro p
    refine Classical.byContradiction fun q => ?_
    refine qf_run_inv hd (fun a b => ¬ qf_pr d a b) (fun a b k ha q q2 => q ?_) (fun a b c ha hc e q q2 => q ?_) n a b c r ha e q h p
    · have := qf_pr_sh (k := -k) ha q2
      rwa [show b + 2 * a * k + 2 * a * -k = b from by rw [Int.mul_neg]; omega] at this
    · have := qf_pr_sw hc ha (qf_va_sw e) q2
      rwa [Int.neg_neg] at this
theorem qf_pr_ok {d a b c : Int} (ha : 0 < a) (e : 4 * a * c = b * b + d) : qf_ok d a b = true ↔ qf_pr d a b := by
  unfold qf_ok
  rw [Bool.and_eq_true, decide_eq_true_eq, decide_eq_true_eq, qf_c_eq ha e]
  constructor
  · intro h c' e'
    have : c' = c := by
      rw [← e] at e'
      exact Int.eq_of_mul_eq_mul_left (by omega) e'
    subst this
    exact h.2
  · intro h
    refine ⟨?_, h c e⟩
    rw [← e]
    exact Int.mul_emod_right _ _
theorem qf_ok_c {d a b : Int} (h : qf_ok d a b = true) : 4 * a * qf_c d a b = b * b + d := by
  unfold qf_ok at h
  rw [Bool.and_eq_true, decide_eq_true_eq] at h
  unfold qf_c
  have := Int.emod_add_mul_ediv (b * b + d) (4 * a)
  rw [h.1] at this
  omega
/-! the list holds every reduced form without common divisor -/
theorem qf_row_mem {d x : Int} {m : Nat} (h : qf_gd d x (1 - x + m) = true) : ∀ M, m < M → (x, 1 - x + (m : Int)) ∈ qf_row d x M := by
  intro M
  induction M with
  | zero => intro z; exact absurd z (Nat.not_lt_zero _)
  | succ M ih =>
    intro hm
    rw [qf_row]
    by_cases z : m = M
    · subst z
      rw [if_pos h]
      exact List.mem_append_right _ (List.mem_singleton.mpr rfl)
    · exact List.mem_append_left _ (ih (by omega))
theorem qf_all_mem {d : Int} {k : Nat} {p : Int × Int} (h : p ∈ qf_row d (k + 1) (2 * (k + 1))) : ∀ K, k < K → p ∈ qf_all d K := by
  intro K
  induction K with
  | zero => intro z; exact absurd z (Nat.not_lt_zero _)
  | succ K ih =>
    intro hk
    rw [qf_all]
    by_cases z : k = K
    · subst z
      exact List.mem_append_right _ h
    · exact List.mem_append_left _ (ih (by omega))
theorem qf_rdc_gd {d a b : Int} (h : qf_rdc d a b) (p : qf_pr d a b) : qf_gd d a b = true ∧ 3 * a * a ≤ d := by
  obtain ⟨ha, h1, h2, c, e, hc, hz⟩ := h
  have h3 : 3 * a * a ≤ d := by
    have h4 := qf_sqle (a := a) (s := b) ⟨h1, h2⟩
    have h5 := Int.mul_le_mul_of_nonneg_left (c := 4 * a) hc (by omega)
    have h6 : 4 * a * a = 4 * (a * a) := Int.mul_assoc _ _ _
    have h7 : 3 * a * a = 3 * (a * a) := Int.mul_assoc _ _ _
    omega
  refine ⟨?_, h3⟩
  unfold qf_gd
  rw [Bool.and_eq_true, Bool.and_eq_true, Bool.and_eq_true, Bool.or_eq_true, decide_eq_true_eq, decide_eq_true_eq, decide_eq_true_eq, decide_eq_true_eq, qf_c_eq ha e]
  refine ⟨h3, (qf_pr_ok ha e).mpr p, hc, ?_⟩
  rcases Int.lt_or_eq_of_le hc with z | z
  · exact Or.inl z
  · exact Or.inr (hz z)
theorem qf_has {d : Nat} (v : qf_V d) {a b : Int} (h : qf_rdc d a b) (p : qf_pr d a b) : ∃ k, k < qf_h d ∧ qf_F d k = (a, b) := by
  obtain ⟨g, h3⟩ := qf_rdc_gd h p
  obtain ⟨ha, h1, h2, _⟩ := h
  have h11 : a ≤ 11 := by
    rcases Int.lt_or_le a 12 with z | z
    · omega
    · have h4 := Int.mul_le_mul_of_nonneg_left (c := 3 * a) z (by omega)
      have := v.2.1
      omega
  have e1 : ((a.toNat - 1 : Nat) : Int) + 1 = a := by omega
  have e2 : 1 - a + ((b - 1 + a).toNat : Int) = b := by omega
  have m1 : (a, b) ∈ qf_row d a (2 * (a.toNat - 1 + 1)) := by
    have := qf_row_mem (d := d) (x := a) (m := (b - 1 + a).toNat) (by rw [e2]; exact g) (2 * (a.toNat - 1 + 1)) (by omega)
    rw [e2] at this
    exact this
  have m2 := qf_all_mem (d := d) (k := a.toNat - 1) (p := (a, b)) (by rw [e1]; exact m1) 11 (by omega)
  rw [qf_vall v] at m2
  obtain ⟨k, hk, e⟩ := List.mem_iff_getElem.mp m2
  refine ⟨k, hk, ?_⟩
  show (qf_L d).getD k (0, 0) = (a, b)
  rw [List.getD_eq_getElem?_getD, List.getElem?_eq_getElem hk]
  exact e
/-- every form without common divisor, a at most 1000, has its kind -/
theorem qf_cls {d : Nat} (v : qf_V d) {a b : Int} (ha : 0 < a) (h1 : a ≤ 1000) (h : qf_ok d a b = true) : ∃ k, k < qf_h d ∧ qf_run d 67 a b = some (qf_F d k) := by
  have hd : (0 : Int) < d := by have := v.1; omega
  have hd4 : (d : Int) ≤ 400 := by have := v.2.1; omega
  have e := qf_ok_c h
  obtain ⟨r, hr⟩ := qf_run_1000 hd hd4 ha h1 e
  obtain ⟨k, hk, ek⟩ := qf_has v (qf_run_rdc hd _ _ _ _ _ ha e hr) ((qf_run_pr hd ha e hr).mp ((qf_pr_ok ha e).mp h))
  exact ⟨k, hk, by rw [hr, ek]⟩
end
section
/-! representations: (x, y) with its partner (q, s) takes the form (a, b, c) to one that begins n, B -/
def qf_E (a b c n B x y q s : Int) : Prop := qf_val a b c x y = n ∧ 2 * a * x + (b + B) * y = 2 * n * s ∧ (B - b) * x - 2 * c * y = 2 * n * q
theorem qf_E_det {a b c n B x y q s : Int} (hn : 0 < n) (h : qf_E a b c n B x y q s) : x * s - q * y = 1 := by
  obtain ⟨h1, h2, h3⟩ := h
  unfold qf_val at h1
  refine Int.eq_of_mul_eq_mul_left (show 2 * n ≠ 0 by omega) ?_
  have e : 2 * n * (x * s - q * y) = x * (2 * n * s) - (2 * n * q) * y := by grind
  rw [e, ← h2, ← h3, ← h1]
  grind
theorem qf_E_sh {a b c n B x y q s : Int} (k : Int) (h : qf_E a b c n B x y q s) : qf_E a b c n (B + 2 * n * k) x y (q + k * x) (s + k * y) := by
  obtain ⟨h1, h2, h3⟩ := h
  refine ⟨h1, ?_, ?_⟩
  · have e : 2 * n * (s + k * y) = 2 * n * s + 2 * n * k * y := by grind
    rw [e, ← h2]
    grind
  · have e : 2 * n * (q + k * x) = 2 * n * q + 2 * n * k * x := by grind
    rw [e, ← h3]
    grind
theorem qf_E_B {a b c n B x y q s : Int} (hn : 0 < n) (h : qf_E a b c n B x y q s) : B = qf_mid a b c x y q s := by
  have hd := qf_E_det hn h
  obtain ⟨h1, h2, h3⟩ := h
  have e : B = s * (B * x) - q * (B * y) := by
    have : s * (B * x) - q * (B * y) = B * (x * s - q * y) := by grind
    rw [this, hd, Int.mul_one]
  have e1 : B * x = 2 * n * q + b * x + 2 * c * y := by grind
  have e2 : B * y = 2 * n * s - 2 * a * x - b * y := by grind
  rw [e, e1, e2]
  unfold qf_mid
  grind
theorem qf_E_C {a b c d n B x y q s : Int} (hn : 0 < n) (hf : 4 * a * c = b * b + d) (h : qf_E a b c n B x y q s) : 4 * n * qf_val a b c q s = B * B + d := by
  have hd := qf_E_det hn h
  have hB := qf_E_B hn h
  obtain ⟨h1, _, _⟩ := h
  have e : 4 * qf_val a b c x y * qf_val a b c q s = qf_mid a b c x y q s * qf_mid a b c x y q s + (4 * a * c - b * b) * ((x * s - q * y) * (x * s - q * y)) := by
    unfold qf_val qf_mid
    grind
  rw [h1, ← hB, hd, hf] at e
  omega
theorem qf_E_sw {a b c d n B C x y q s : Int} (hn : 0 < n) (hf : 4 * a * c = b * b + d) (hg : 4 * n * C = B * B + d) (h : qf_E a b c n B x y q s) : qf_E a b c C (-B) q s (-x) (-y) := by
  have hC : qf_val a b c q s = C := by
    have := qf_E_C hn hf h
    rw [← hg] at this
    exact Int.eq_of_mul_eq_mul_left (by omega) this
  obtain ⟨h1, h2, h3⟩ := h
  refine ⟨hC, ?_, ?_⟩
  · refine Int.eq_of_mul_eq_mul_left (show 2 * n ≠ 0 by omega) ?_
    have e : 2 * n * (2 * a * q + (b + -B) * s) = 2 * a * (2 * n * q) + (b - B) * (2 * n * s) := by grind
    rw [e, ← h2, ← h3]
    grind
  · refine Int.eq_of_mul_eq_mul_left (show 2 * n ≠ 0 by omega) ?_
    have e : 2 * n * ((-B - b) * q - 2 * c * s) = (-B - b) * (2 * n * q) - 2 * c * (2 * n * s) := by grind
    rw [e, ← h2, ← h3]
    grind
theorem qf_E_id (a b c : Int) : qf_E a b c a b 1 0 0 1 := by
  refine ⟨?_, ?_, ?_⟩
  · unfold qf_val; grind
  · grind
  · grind
theorem qf_E_inv {a b c d n B C x y q s : Int} (hn : 0 < n) (hf : 4 * a * c = b * b + d) (hg : 4 * n * C = B * B + d) (h : qf_E a b c n B x y q s) : qf_E n B C a b s (-y) (-q) x := by
  have hd := qf_E_det hn h
  obtain ⟨k1, k2, k3⟩ := qf_E_sw hn hf hg h
  obtain ⟨h1, h2, h3⟩ := h
  have g2 : 2 * n * s + (B + b) * -y = 2 * a * x := by grind
  have g3 : (b - B) * s - 2 * C * -y = 2 * a * -q := by grind
  refine ⟨?_, g2, g3⟩
  have e : 2 * qf_val n B C s (-y) = s * (2 * n * s + (B + b) * -y) - (-y) * ((b - B) * s - 2 * C * -y) := by
    unfold qf_val
    grind
  rw [g2, g3] at e
  have e2 : s * (2 * a * x) - -y * (2 * a * -q) = 2 * a * (x * s - q * y) := by grind
  rw [e2, hd] at e
  omega
theorem qf_sq0 {x : Int} (h : x * x = 0) : x = 0 := (Int.mul_eq_zero.mp h).elim id id
/-- a reduced form's least value -/
theorem qf_min {a b c x y : Int} (ha : 0 < a) (hb : -a ≤ b ∧ b ≤ a) (hc : a ≤ c) (hz : x ≠ 0 ∨ y ≠ 0) : a ≤ qf_val a b c x y := by
  have hx := zz_sq x
  have hy := zz_sq y
  have h1 : 0 ≤ (c - a) * (y * y) := Int.mul_nonneg (by omega) hy
  have h0 : 1 ≤ x * x + y * y := by
    rcases hz with z | z
    · have : x * x ≠ 0 := fun e => z (qf_sq0 e)
      omega
    · have : y * y ≠ 0 := fun e => z (qf_sq0 e)
      omega
  have hp := zz_sq (x + y)
  have hm := zz_sq (x - y)
  have ep : (x + y) * (x + y) = x * x + 2 * (x * y) + y * y := by grind
  have em : (x - y) * (x - y) = x * x - 2 * (x * y) + y * y := by grind
  rcases Int.le_total 0 (x * y) with w | w
  · have h2 : 0 ≤ (a + b) * (x * y) := Int.mul_nonneg (by omega) w
    have h3 : 1 ≤ x * x - x * y + y * y := by omega
    have h4 := Int.mul_le_mul_of_nonneg_left (c := a) h3 (by omega)
    have e : qf_val a b c x y = a * (x * x - x * y + y * y) + (a + b) * (x * y) + (c - a) * (y * y) := by
      unfold qf_val
      grind
    omega
  · have h2 : 0 ≤ (a - b) * (-(x * y)) := Int.mul_nonneg (by omega) (by omega)
    have h3 : 1 ≤ x * x + x * y + y * y := by omega
    have h4 := Int.mul_le_mul_of_nonneg_left (c := a) h3 (by omega)
    have e : qf_val a b c x y = a * (x * x + x * y + y * y) + (a - b) * (-(x * y)) + (c - a) * (y * y) := by
      unfold qf_val
      grind
    omega
theorem qf_sq1 {x : Int} (h : x * x = 1) : x = 1 ∨ x = -1 := by
  have : (x - 1) * (x + 1) = 0 := by grind
  rcases Int.mul_eq_zero.mp this with h | h <;> omega
/-- two reduced forms, one taken to the other, are one -/
theorem qf_uniq {a b c d n B C x y q s : Int} (ha : 0 < a) (hb : -a < b ∧ b ≤ a) (hc : a ≤ c) (hz : a = c → 0 ≤ b) (hf : 4 * a * c = b * b + d) (hn : 0 < n) (hB : -n < B ∧ B ≤ n) (hC : n ≤ C) (hZ : n = C → 0 ≤ B) (hg : 4 * n * C = B * B + d) (h : qf_E a b c n B x y q s) : a = n ∧ b = B := by
  have hd := qf_E_det hn h
  have hi := qf_E_inv hn hf hg h
  have l1 : a ≤ n := by
    have := qf_min (x := x) (y := y) ha ⟨by omega, hb.2⟩ hc (by
      by_cases z : x = 0
      · refine Or.inr fun w => ?_
        rw [z, w] at hd
        omega
      · exact Or.inl z)
    rw [h.1] at this
    exact this
  have l2 : n ≤ a := by
    have := qf_min (x := s) (y := -y) hn ⟨by omega, hB.2⟩ hC (by
      by_cases z : s = 0
      · refine Or.inr fun w => ?_
        have w : y = 0 := by omega
        rw [z, w] at hd
        omega
      · exact Or.inl z)
    rw [hi.1] at this
    exact this
  have e : n = a := by omega
  subst e
  refine ⟨rfl, ?_⟩
  obtain ⟨h1, h2, h3⟩ := h
  by_cases z : y = 0
  · subst z
    have hx : x * s = 1 := by omega
    have hx1 : x * x = 1 := by
      unfold qf_val at h1
      refine Int.eq_of_mul_eq_mul_left (show n ≠ 0 by omega) ?_
      grind
    rcases qf_sq1 hx1 with w | w
    · subst w
      refine (qf_cong1 (k := q) ha hB hb ?_).symm
      omega
    · subst w
      refine (qf_cong1 (k := -q) ha hB hb ?_).symm
      rw [Int.mul_neg]
      omega
  · -- y is 1 or -1
    have hs := qf_sqle hb
    have hyy : 1 ≤ y * y := by
      have := zz_sq y
      have : y * y ≠ 0 := fun e => z (qf_sq0 e)
      omega
    have k0 : 4 * n * n = (2 * n * x + b * y) * (2 * n * x + b * y) + d * (y * y) := by
      have : 4 * n * qf_val n b c x y = (2 * n * x + b * y) * (2 * n * x + b * y) + (4 * n * c - b * b) * (y * y) := by
        unfold qf_val
        grind
      rw [h1, hf] at this
      rw [this]
      grind
    have k1 : 3 * (n * n) ≤ d := by
      have := Int.mul_le_mul_of_nonneg_left (c := 4 * n) hc (by omega)
      have e1 : 4 * n * n = 4 * (n * n) := Int.mul_assoc _ _ _
      omega
    have hnn : 0 < n * n := Int.mul_pos ha ha
    have hy1 : y * y = 1 := by
      rcases Int.lt_or_le (y * y) 2 with w | w
      · omega
      · exfalso
        have h5 := zz_sq (2 * n * x + b * y)
        have h6 := Int.mul_le_mul_of_nonneg_left (c := d) w (by omega)
        have e1 : 4 * n * n = 4 * (n * n) := Int.mul_assoc _ _ _
        omega
    have hr : ∃ k, B = -b + 2 * n * k := by
      rcases qf_sq1 hy1 with w | w
      · subst w
        exact ⟨s - x, by rw [Int.mul_sub]; omega⟩
      · subst w
        exact ⟨-s + x, by rw [Int.mul_add, Int.mul_neg]; omega⟩
    obtain ⟨k, hk⟩ := hr
    by_cases w : b = n
    · -- b = a
      have : B = n := by
        refine qf_cong1 (k := k - 1) ha hB (by omega) ?_
        rw [Int.mul_sub]
        omega
      omega
    · have hBb : B = -b := qf_cong1 (k := k) ha hB (by omega) hk
      have hx0 : x = 0 := by
        rcases Int.lt_trichotomy x 0 with t | t | t
        · exfalso
          have h5 := Int.mul_le_mul_of_nonneg_left (c := n) (show x ≤ -1 by omega) (by omega)
          have h6 : 2 * n * x = 2 * (n * x) := Int.mul_assoc _ _ _
          have h8 : b * y ≤ n - 1 := by
            rcases qf_sq1 hy1 with r | r <;> subst r <;> omega
          have h7 := Int.mul_le_mul (a := n + 1) (b := n + 1) (c := -(2 * n * x + b * y)) (d := -(2 * n * x + b * y)) (by omega) (by omega) (by omega) (by omega)
          have e1 : (n + 1) * (n + 1) = n * n + 2 * n + 1 := by grind
          have e2 : -(2 * n * x + b * y) * -(2 * n * x + b * y) = (2 * n * x + b * y) * (2 * n * x + b * y) := by grind
          have e3 : 4 * n * n = 4 * (n * n) := Int.mul_assoc _ _ _
          rw [hy1] at k0
          omega
        · exact t
        · exfalso
          have h5 := Int.mul_le_mul_of_nonneg_left (c := n) (show 1 ≤ x by omega) (by omega)
          have h6 : 2 * n * x = 2 * (n * x) := Int.mul_assoc _ _ _
          have h8 : -(n - 1) ≤ b * y := by
            rcases qf_sq1 hy1 with r | r <;> subst r <;> omega
          have h7 := Int.mul_le_mul (a := n + 1) (b := n + 1) (c := 2 * n * x + b * y) (d := 2 * n * x + b * y) (by omega) (by omega) (by omega) (by omega)
          have e1 : (n + 1) * (n + 1) = n * n + 2 * n + 1 := by grind
          have e3 : 4 * n * n = 4 * (n * n) := Int.mul_assoc _ _ _
          rw [hy1] at k0
          omega
      have hcn : c = n := by
        rw [hx0] at h1
        unfold qf_val at h1
        have : c * y * y = c * (y * y) := Int.mul_assoc _ _ _
        rw [hy1] at this
        omega
      have := hz hcn.symm
      have hCn : C = n := by
        have e1 : B * B = b * b := by rw [hBb]; grind
        rw [e1, ← hf, hcn] at hg
        exact Int.eq_of_mul_eq_mul_left (show 4 * n ≠ 0 by omega) hg
      have := hZ hCn.symm
      omega
end
section
/-! automorphs -/
theorem qf_dvg {n a b c W : Int} (g : qf_g3 a b c = 1) (h1 : n ∣ a * W) (h2 : n ∣ b * W) (h3 : n ∣ c * W) : n ∣ W := by
  have k1 := Int.natAbs_dvd_natAbs.mpr h1
  have k2 := Int.natAbs_dvd_natAbs.mpr h2
  have k3 := Int.natAbs_dvd_natAbs.mpr h3
  rw [Int.natAbs_mul] at k1 k2 k3
  have k4 := Nat.dvd_gcd k1 k2
  rw [Nat.gcd_mul_right] at k4
  have k5 := Nat.dvd_gcd k4 k3
  rw [Nat.gcd_mul_right] at k5
  have k6 : Nat.gcd (Nat.gcd a.natAbs b.natAbs) c.natAbs = 1 := g
  rw [k6, Nat.one_mul] at k5
  exact Int.natAbs_dvd_natAbs.mp k5
theorem qf_E_aut {a b c d n B x y q s x' y' q' s' : Int} (hn : 0 < n) (g : qf_g3 a b c = 1) (hf : 4 * a * c = b * b + d) (h : qf_E a b c n B x y q s) (h' : qf_E a b c n B x' y' q' s') : ∃ t u, t * t + d * (u * u) = 4 ∧ 2 * x' = (t - b * u) * x - 2 * (c * u) * y ∧ 2 * y' = 2 * (a * u) * x + (t + b * u) * y := by
  have hd := qf_E_det hn h
  have hd' := qf_E_det hn h'
  obtain ⟨_, h2, h3⟩ := h
  obtain ⟨_, k2, k3⟩ := h'
  have n2 : 2 * n ≠ 0 := by omega
  have n0 : n ≠ 0 := by omega
  have ea : a * (x * y' - x' * y) = n * (y' * s - s' * y) := by
    have e : 2 * (n * (y' * s - s' * y)) = y' * (2 * n * s) - y * (2 * n * s') := by grind
    rw [← h2, ← k2] at e
    have e2 : y' * (2 * a * x + (b + B) * y) - y * (2 * a * x' + (b + B) * y') = 2 * (a * (x * y' - x' * y)) := by grind
    omega
  have eb : b * (x * y' - x' * y) = n * ((s' * x - y' * q) - (x' * s - q' * y)) := by
    have e : 2 * (n * ((s' * x - y' * q) - (x' * s - q' * y))) = x * (2 * n * s') - y' * (2 * n * q) - x' * (2 * n * s) + y * (2 * n * q') := by grind
    rw [← h2, ← k2, ← h3, ← k3] at e
    have e2 : x * (2 * a * x' + (b + B) * y') - y' * ((B - b) * x - 2 * c * y) - x' * (2 * a * x + (b + B) * y) + y * ((B - b) * x' - 2 * c * y') = 2 * (b * (x * y' - x' * y)) := by grind
    omega
  have ec : c * (x * y' - x' * y) = n * (x' * q - x * q') := by
    have e : 2 * (n * (x' * q - x * q')) = x' * (2 * n * q) - x * (2 * n * q') := by grind
    rw [← h3, ← k3] at e
    have e2 : x' * ((B - b) * x - 2 * c * y) - x * ((B - b) * x' - 2 * c * y') = 2 * (c * (x * y' - x' * y)) := by grind
    omega
  obtain ⟨u, hu⟩ := qf_dvg g ⟨_, ea⟩ ⟨_, eb⟩ ⟨_, ec⟩
  have ua : a * u = y' * s - s' * y := by
    refine Int.eq_of_mul_eq_mul_left n0 ?_
    rw [← ea, hu]
    grind
  have ub : b * u = (s' * x - y' * q) - (x' * s - q' * y) := by
    refine Int.eq_of_mul_eq_mul_left n0 ?_
    rw [← eb, hu]
    grind
  have uc : c * u = x' * q - x * q' := by
    refine Int.eq_of_mul_eq_mul_left n0 ?_
    rw [← ec, hu]
    grind
  refine ⟨(x' * s - q' * y) + (s' * x - y' * q), u, ?_, ?_, ?_⟩
  · have e1 : (x' * s - q' * y) * (s' * x - y' * q) - (x * q' - x' * q) * (y' * s - s' * y) = (x' * s' - q' * y') * (x * s - q * y) := by grind
    rw [hd, hd', ← ua, show x * q' - x' * q = -(c * u) from by omega] at e1
    generalize x' * s - q' * y = al at *
    generalize s' * x - y' * q = de at *
    have e2 : (al + de) * (al + de) = (de - al) * (de - al) + 4 * (al * de) := by grind
    rw [e2, ← ub]
    have e3 : b * u * (b * u) + 4 * (al * de) + d * (u * u) = 4 * (al * de) + (b * b + d) * (u * u) := by grind
    rw [e3, ← hf]
    have e4 : 4 * a * c * (u * u) = 4 * (c * u * (a * u)) := by grind
    rw [e4]
    have e5 : -(c * u) * (a * u) = -(c * u * (a * u)) := Int.neg_mul _ _
    omega
  · rw [ub, uc]
    have : 2 * x' = 2 * x' * (x * s - q * y) := by rw [hd, Int.mul_one]
    rw [this]
    grind
  · rw [ub, ua]
    have : 2 * y' = 2 * y' * (x * s - q * y) := by rw [hd, Int.mul_one]
    rw [this]
    grind
/-- the fibre over B -/
def qf_fb (a b c n B x y : Int) : Prop := ∃ q s, qf_E a b c n B x y q s
def qf_ne (a b c n B : Int) : Prop := ∃ x y, qf_fb a b c n B x y
theorem qf_fb_neg {a b c n B x y : Int} (h : qf_fb a b c n B x y) : qf_fb a b c n B (-x) (-y) := by
  obtain ⟨q, s, h1, h2, h3⟩ := h
  refine ⟨-q, -s, ?_, ?_, ?_⟩
  · rw [← h1]; unfold qf_val; grind
  · rw [Int.mul_neg, Int.mul_neg, Int.mul_neg]; omega
  · rw [Int.mul_neg, Int.mul_neg, Int.mul_neg]; omega
theorem qf_fb4 {n B x y : Int} (h : qf_fb 1 0 1 n B x y) : qf_fb 1 0 1 n B (-y) x := by
  obtain ⟨q, s, h1, h2, h3⟩ := h
  refine ⟨-s, q, ?_, ?_, ?_⟩
  · rw [← h1]; unfold qf_val; grind
  · rw [← h3]; grind
  · rw [Int.mul_neg (2 * n), ← h2]; grind
theorem qf_fb3 {n B x y : Int} (h : qf_fb 1 1 1 n B x y) : qf_fb 1 1 1 n B (-y) (x + y) := by
  obtain ⟨q, s, h1, h2, h3⟩ := h
  refine ⟨-s, q + s, ?_, ?_, ?_⟩
  · rw [← h1]; unfold qf_val; grind
  · rw [Int.mul_add (2 * n), ← h3, ← h2]; grind
  · rw [Int.mul_neg (2 * n), ← h2]; grind
theorem qf_fb_nz {a b c n B x y : Int} (hn : 0 < n) (h : qf_fb a b c n B x y) : x ≠ 0 ∨ y ≠ 0 := by
  obtain ⟨q, s, h⟩ := h
  have hd := qf_E_det hn h
  by_cases z : x = 0
  · refine Or.inr fun w => ?_
    rw [z, w] at hd
    omega
  · exact Or.inl z
theorem qf_u0 {d t u : Int} (hd : 4 < d) (h : t * t + d * (u * u) = 4) : u = 0 ∧ (t = 2 ∨ t = -2) := by
  have h1 := zz_sq t
  have h2 := zz_sq u
  have h3 : u = 0 := by
    refine qf_sq0 ?_
    rcases Int.lt_or_le 0 (u * u) with w | w
    · have := Int.mul_le_mul_of_nonneg_left (c := d) (show 1 ≤ u * u by omega) (by omega)
      omega
    · omega
  refine ⟨h3, ?_⟩
  subst h3
  have : (t - 2) * (t + 2) = 0 := by grind
  rcases Int.mul_eq_zero.mp this with w | w <;> omega
theorem qf_usm {u : Int} (h : u * u ≤ 1) : u = 0 ∨ u = 1 ∨ u = -1 := by
  rcases Int.lt_or_le (u * u) 1 with w | w
  · have := zz_sq u
    exact Or.inl (qf_sq0 (by omega))
  · exact Or.inr (qf_sq1 (by omega))
/-- fibres, d above 4 -/
theorem qf_fb_2 {a b c d n B x y : Int} (hd : 4 < d) (hn : 0 < n) (g : qf_g3 a b c = 1) (hf : 4 * a * c = b * b + d) (h : qf_fb a b c n B x y) (x' y' : Int) : qf_fb a b c n B x' y' ↔ (x' = x ∧ y' = y) ∨ (x' = -x ∧ y' = -y) := by
  constructor
  · intro h'
    obtain ⟨q, s, h⟩ := h
    obtain ⟨q', s', h'⟩ := h'
    obtain ⟨t, u, e, ex, ey⟩ := qf_E_aut hn g hf h h'
    obtain ⟨rfl, rfl | rfl⟩ := qf_u0 hd e
    · left; constructor <;> grind
    · right; constructor <;> grind
  · rintro (⟨rfl, rfl⟩ | ⟨rfl, rfl⟩)
    · exact h
    · exact qf_fb_neg h
theorem qf_fb_4 {n B x y : Int} (hn : 0 < n) (h : qf_fb 1 0 1 n B x y) (x' y' : Int) : qf_fb 1 0 1 n B x' y' ↔ ((x' = x ∧ y' = y) ∨ (x' = -x ∧ y' = -y)) ∨ ((x' = -y ∧ y' = x) ∨ (x' = y ∧ y' = -x)) := by
  constructor
  · intro h'
    obtain ⟨q, s, h⟩ := h
    obtain ⟨q', s', h'⟩ := h'
    obtain ⟨t, u, e, ex, ey⟩ := qf_E_aut (d := 4) hn (by decide) (by decide) h h'
    have h1 := zz_sq t
    rcases qf_usm (show u * u ≤ 1 by omega) with rfl | rfl | rfl
    · have : (t - 2) * (t + 2) = 0 := by grind
      rcases Int.mul_eq_zero.mp this with w | w
      · have w : t = 2 := by omega
        subst w; left; left; constructor <;> omega
      · have w : t = -2 := by omega
        subst w; left; right; constructor <;> omega
    · have w : t = 0 := qf_sq0 (by omega)
      subst w; right; left; constructor <;> omega
    · have w : t = 0 := qf_sq0 (by omega)
      subst w; right; right; constructor <;> omega
  · rintro ((⟨rfl, rfl⟩ | ⟨rfl, rfl⟩) | (⟨rfl, rfl⟩ | ⟨rfl, rfl⟩))
    · exact h
    · exact qf_fb_neg h
    · exact qf_fb4 h
    · have := qf_fb_neg (qf_fb4 h)
      rwa [Int.neg_neg] at this
theorem qf_fb_6 {n B x y : Int} (hn : 0 < n) (h : qf_fb 1 1 1 n B x y) (x' y' : Int) : qf_fb 1 1 1 n B x' y' ↔ ((x' = x ∧ y' = y) ∨ (x' = -x ∧ y' = -y)) ∨ ((x' = -y ∧ y' = x + y) ∨ (x' = y ∧ y' = -(x + y))) ∨ ((x' = -(x + y) ∧ y' = x) ∨ (x' = x + y ∧ y' = -x)) := by
  constructor
  · intro h'
    obtain ⟨q, s, h⟩ := h
    obtain ⟨q', s', h'⟩ := h'
    obtain ⟨t, u, e, ex, ey⟩ := qf_E_aut (d := 3) hn (by decide) (by decide) h h'
    have h1 := zz_sq t
    rcases qf_usm (show u * u ≤ 1 by omega) with rfl | rfl | rfl
    · have : (t - 2) * (t + 2) = 0 := by grind
      rcases Int.mul_eq_zero.mp this with w | w
      · have w : t = 2 := by omega
        subst w; left; left; constructor <;> omega
      · have w : t = -2 := by omega
        subst w; left; right; constructor <;> omega
    · rcases qf_sq1 (show t * t = 1 by omega) with rfl | rfl
      · right; left; left; constructor <;> omega
      · right; right; left; constructor <;> omega
    · rcases qf_sq1 (show t * t = 1 by omega) with rfl | rfl
      · right; right; right; constructor <;> omega
      · right; left; right; constructor <;> omega
  · have h3 := qf_fb3 h
    have h4 := qf_fb3 h3
    rw [show -y + (x + y) = x from by omega] at h4
    rintro ((⟨rfl, rfl⟩ | ⟨rfl, rfl⟩) | (⟨rfl, rfl⟩ | ⟨rfl, rfl⟩) | (⟨rfl, rfl⟩ | ⟨rfl, rfl⟩))
    · exact h
    · exact qf_fb_neg h
    · exact h3
    · have := qf_fb_neg h3
      rwa [Int.neg_neg] at this
    · exact h4
    · have := qf_fb_neg h4
      rwa [Int.neg_neg] at this
/-! each representation without common divisor lies over one B -/
theorem qf_bez : ∀ m n : Nat, ∃ u v : Int, u * m + v * n = (Nat.gcd m n : Nat) := by
  intro m n
  induction m, n using Nat.gcd.induction with
  | H0 n => exact ⟨0, 1, by rw [Nat.gcd_zero_left]; omega⟩
  | H1 m n hm ih =>
    obtain ⟨u, v, e⟩ := ih
    rw [← Nat.gcd_rec] at e
    refine ⟨v - u * (n / m : Nat), u, ?_⟩
    rw [← e]
    have e2 : (n : Int) = ((n % m : Nat) : Int) + m * (n / m : Nat) := by
      have := Nat.mod_add_div n m
      rw [← Int.natCast_mul, ← Int.natCast_add, this]
    generalize ((n % m : Nat) : Int) = r at *
    generalize ((n / m : Nat) : Int) = k at *
    rw [e2]
    grind
theorem qf_bezi {x y : Int} (h : Int.gcd x y = 1) : ∃ q s, x * s - q * y = 1 := by
  obtain ⟨u, v, e⟩ := qf_bez x.natAbs y.natAbs
  have h2 : Nat.gcd x.natAbs y.natAbs = 1 := h
  rw [h2] at e
  rcases Int.natAbs_eq x with hx | hx <;> rcases Int.natAbs_eq y with hy | hy <;> generalize x.natAbs = X at * <;> generalize y.natAbs = Y at * <;> subst hx <;> subst hy
  · exact ⟨-v, u, by grind⟩
  · exact ⟨v, u, by grind⟩
  · exact ⟨-v, -u, by grind⟩
  · exact ⟨v, -u, by grind⟩
theorem qf_gcd1 {x y q s : Int} (h : x * s - q * y = 1) : Int.gcd x y = 1 := by
  have h1 : (Int.gcd x y : Int) ∣ x := Int.gcd_dvd_left ..
  have h2 : (Int.gcd x y : Int) ∣ y := Int.gcd_dvd_right ..
  have h3 : (Int.gcd x y : Int) ∣ 1 := by
    rw [← h]
    exact Int.dvd_sub (Int.dvd_mul_of_dvd_left h1) (Int.dvd_mul_of_dvd_right h2)
  have h4 := qf_nd.mp h3
  exact Nat.dvd_one.mp h4
theorem qf_fb_ex {a b c n x y : Int} (hn : 0 < n) (hv : qf_val a b c x y = n) (hg : Int.gcd x y = 1) : ∃ B : Int, (0 ≤ B ∧ B < 2 * n) ∧ qf_fb a b c n B x y := by
  obtain ⟨q, s, e⟩ := qf_bezi hg
  have h0 : qf_E a b c n (qf_mid a b c x y q s) x y q s := by
    refine ⟨hv, ?_, ?_⟩
    · have e2 : 2 * a * x + (b + qf_mid a b c x y q s) * y = 2 * a * x * (x * s - q * y) + b * y * (x * s - q * y) + qf_mid a b c x y q s * y := by
        rw [e]; grind
      rw [e2, ← hv]
      unfold qf_mid qf_val
      grind
    · have e2 : (qf_mid a b c x y q s - b) * x - 2 * c * y = qf_mid a b c x y q s * x - b * x * (x * s - q * y) - 2 * c * y * (x * s - q * y) := by
        rw [e]; grind
      rw [e2, ← hv]
      unfold qf_mid qf_val
      grind
  refine ⟨qf_mid a b c x y q s % (2 * n), ⟨Int.emod_nonneg _ (by omega), Int.emod_lt_of_pos _ (by omega)⟩, ?_⟩
  have e3 : qf_mid a b c x y q s % (2 * n) = qf_mid a b c x y q s + 2 * n * -(qf_mid a b c x y q s / (2 * n)) := by
    have := Int.emod_add_mul_ediv (qf_mid a b c x y q s) (2 * n)
    rw [Int.mul_neg]
    omega
  rw [e3]
  exact ⟨_, _, qf_E_sh _ h0⟩
theorem qf_fb_un {a b c n x y B B' : Int} (hn : 0 < n) (hB : 0 ≤ B ∧ B < 2 * n) (hB' : 0 ≤ B' ∧ B' < 2 * n) (h : qf_fb a b c n B x y) (h' : qf_fb a b c n B' x y) : B = B' := by
  obtain ⟨q, s, h⟩ := h
  obtain ⟨q', s', h'⟩ := h'
  have hd := qf_E_det hn h
  obtain ⟨_, h2, h3⟩ := h
  obtain ⟨_, k2, k3⟩ := h'
  have e1 : (B - B') * y = 2 * n * (s - s') := by grind
  have e2 : (B - B') * x = 2 * n * (q - q') := by grind
  have e3 : B = B' + 2 * n * ((q - q') * s - q * (s - s')) := by
    have : (B - B') * (x * s - q * y) = ((B - B') * x) * s - q * ((B - B') * y) := by grind
    rw [hd, e1, e2] at this
    have e4 : 2 * n * (q - q') * s - q * (2 * n * (s - s')) = 2 * n * ((q - q') * s - q * (s - s')) := by grind
    omega
  generalize (q - q') * s - q * (s - s') = k at e3
  rw [Int.mul_assoc] at e3
  rcases Int.lt_trichotomy k 0 with w | w | w
  · have := Int.mul_le_mul_of_nonneg_left (c := n) (show k ≤ -1 by omega) (by omega)
    omega
  · subst w
    omega
  · have := Int.mul_le_mul_of_nonneg_left (c := n) (show 1 ≤ k by omega) (by omega)
    omega
/-- a representation of a number up to 500 by a reduced form lies in the square -/
theorem qf_bnd {a b c x y : Int} (ha : 0 < a) (hb : -a ≤ b ∧ b ≤ a) (hc : a ≤ c) (hv : qf_val a b c x y ≤ 500) : (-28 ≤ x ∧ x ≤ 28) ∧ (-28 ≤ y ∧ y ≤ 28) := by
  have hy := zz_sq y
  have h1 : 0 ≤ (c - a) * (y * y) := Int.mul_nonneg (by omega) hy
  have key : 3 * (x * x) ≤ 2000 ∧ 3 * (y * y) ≤ 2000 := by
    rcases Int.le_total 0 (x * y) with w | w
    · have h2 : 0 ≤ (a + b) * (x * y) := Int.mul_nonneg (by omega) w
      have q1 := zz_sq (2 * x - y)
      have q2 := zz_sq (2 * y - x)
      have f1 : (2 * x - y) * (2 * x - y) = 4 * (x * x) - 4 * (x * y) + y * y := by grind
      have f2 : (2 * y - x) * (2 * y - x) = 4 * (y * y) - 4 * (x * y) + x * x := by grind
      have h4 := Int.mul_le_mul_of_nonneg_right (c := x * x - x * y + y * y) (show 1 ≤ a by omega) (by omega)
      have e : qf_val a b c x y = a * (x * x - x * y + y * y) + (a + b) * (x * y) + (c - a) * (y * y) := by
        unfold qf_val
        grind
      omega
    · have h2 : 0 ≤ (a - b) * (-(x * y)) := Int.mul_nonneg (by omega) (by omega)
      have q1 := zz_sq (2 * x + y)
      have q2 := zz_sq (2 * y + x)
      have f1 : (2 * x + y) * (2 * x + y) = 4 * (x * x) + 4 * (x * y) + y * y := by grind
      have f2 : (2 * y + x) * (2 * y + x) = 4 * (y * y) + 4 * (x * y) + x * x := by grind
      have h4 := Int.mul_le_mul_of_nonneg_right (c := x * x + x * y + y * y) (show 1 ≤ a by omega) (by omega)
      have e : qf_val a b c x y = a * (x * x + x * y + y * y) + (a - b) * (-(x * y)) + (c - a) * (y * y) := by
        unfold qf_val
        grind
      omega
  have sq : ∀ z : Int, 3 * (z * z) ≤ 2000 → -28 ≤ z ∧ z ≤ 28 := by
    intro z hz
    constructor
    · rcases Int.lt_or_le z (-28) with w | w
      · have := Int.mul_le_mul (a := 29) (b := 29) (c := -z) (d := -z) (by omega) (by omega) (by omega) (by omega)
        rw [Int.neg_mul_neg] at this
        omega
      · exact w
    · rcases Int.lt_or_le 28 z with w | w
      · have := Int.mul_le_mul (a := 29) (b := 29) (c := z) (d := z) (by omega) (by omega) (by omega) (by omega)
        omega
      · exact w
  exact ⟨sq x key.1, sq y key.2⟩
end
section
/-! sums and counts -/
noncomputable def qf_b (p : Prop) : Nat := @ite Nat p (Classical.propDecidable p) 1 0
theorem qf_b_t {p : Prop} (h : p) : qf_b p = 1 := if_pos h
theorem qf_b_f {p : Prop} (h : ¬ p) : qf_b p = 0 := if_neg h
theorem qf_b_c {p q : Prop} (h : p ↔ q) : qf_b p = qf_b q := by rw [propext h]
theorem qf_b_or {p q : Prop} (h : p → q → False) : qf_b (p ∨ q) = qf_b p + qf_b q := by
  by_cases hp : p
  · rw [qf_b_t (Or.inl hp), qf_b_t hp, qf_b_f (fun hq => h hp hq)]
  · by_cases hq : q
    · rw [qf_b_t (Or.inr hq), qf_b_f hp, qf_b_t hq]
    · rw [qf_b_f (fun z => z.elim hp hq), qf_b_f hp, qf_b_f hq]
def qf_sm (f : Nat → Nat) : Nat → Nat
  | 0 => 0
  | n + 1 => qf_sm f n + f n
theorem qf_sm_c {f g : Nat → Nat} : ∀ {n : Nat}, (∀ i, i < n → f i = g i) → qf_sm f n = qf_sm g n := by
  intro n
  induction n with
  | zero => intro _; rfl
  | succ n ih => intro h; rw [qf_sm, qf_sm, ih (fun i hi => h i (by omega)), h n (by omega)]
theorem qf_sm_0 : ∀ n : Nat, qf_sm (fun _ => 0) n = 0 := by
  intro n
  induction n with
  | zero => rfl
  | succ n ih => rw [qf_sm, ih]
theorem qf_sm_z {f : Nat → Nat} {n : Nat} (h : ∀ i, i < n → f i = 0) : qf_sm f n = 0 := by
  rw [qf_sm_c h, qf_sm_0]
theorem qf_sm_a (f g : Nat → Nat) : ∀ n : Nat, qf_sm (fun i => f i + g i) n = qf_sm f n + qf_sm g n := by
  intro n
  induction n with
  | zero => rfl
  | succ n ih => rw [qf_sm, qf_sm, qf_sm, ih]; omega
theorem qf_sm_m (f : Nat → Nat) (c : Nat) : ∀ n : Nat, qf_sm (fun i => c * f i) n = c * qf_sm f n := by
  intro n
  induction n with
  | zero => rfl
  | succ n ih => rw [qf_sm, qf_sm, ih, Nat.mul_add]
theorem qf_sm_s (F : Nat → Nat → Nat) (m : Nat) : ∀ n : Nat, qf_sm (fun i => qf_sm (fun j => F i j) m) n = qf_sm (fun j => qf_sm (fun i => F i j) n) m := by
  intro n
  induction n with
  | zero => exact (qf_sm_z (fun i _ => rfl)).symm
  | succ n ih =>
    rw [qf_sm, ih, ← qf_sm_a]
    exact qf_sm_c (fun i _ => rfl)
theorem qf_sm_x {f : Nat → Nat} {n : Nat} : ∀ {m : Nat}, n ≤ m → (∀ i, n ≤ i → i < m → f i = 0) → qf_sm f m = qf_sm f n := by
  intro m h
  induction h with
  | refl => intro _; rfl
  | step h ih =>
    rename_i m
    intro z
    rw [qf_sm, ih (fun i hi hm => z i hi (by omega)), z m h (by omega), Nat.add_zero]
theorem qf_sm_1 {p : Nat → Prop} {k n : Nat} (hk : k < n) (h : ∀ i, i < n → (p i ↔ i = k)) : qf_sm (fun i => qf_b (p i)) n = 1 := by
  rw [qf_sm_x (n := k + 1) (by omega) (fun i hi hn => qf_b_f (fun z => by have := (h i hn).mp z; omega)), qf_sm, qf_sm_z (fun i hi => qf_b_f (fun z => by have := (h i (by omega)).mp z; omega)), qf_b_t ((h k hk).mpr rfl)]
theorem qf_sm_pos {f : Nat → Nat} : ∀ {n : Nat}, 0 < qf_sm f n ↔ ∃ i, i < n ∧ 0 < f i := by
  intro n
  induction n with
  | zero => exact ⟨fun h => absurd h (Nat.lt_irrefl 0), fun ⟨_, h, _⟩ => absurd h (Nat.not_lt_zero _)⟩
  | succ n ih =>
    rw [qf_sm]
    constructor
    · intro h
      by_cases z : 0 < f n
      · exact ⟨n, by omega, z⟩
      · obtain ⟨i, hi, e⟩ := ih.mp (by omega)
        exact ⟨i, by omega, e⟩
    · rintro ⟨i, hi, e⟩
      by_cases z : i = n
      · subst z; omega
      · have := ih.mpr ⟨i, by omega, e⟩
        omega
theorem qf_b_pos {p : Prop} : 0 < qf_b p ↔ p := by
  by_cases h : p
  · rw [qf_b_t h]; exact ⟨fun _ => h, fun _ => by decide⟩
  · rw [qf_b_f h]; exact ⟨fun z => absurd z (by decide), fun z => absurd z h⟩
/-- sum over the square -/
def qf_bx (F : Int → Int → Nat) : Nat := qf_sm (fun i => qf_sm (fun j => F ((i : Int) - 28) ((j : Int) - 28)) 57) 57
def qf_in (x : Int) : Prop := -28 ≤ x ∧ x ≤ 28
theorem qf_bx_c {F G : Int → Int → Nat} (h : ∀ x y, qf_in x → qf_in y → F x y = G x y) : qf_bx F = qf_bx G :=
  qf_sm_c fun i hi => qf_sm_c fun j hj => h _ _ ⟨by omega, by omega⟩ ⟨by omega, by omega⟩
theorem qf_bx_z {F : Int → Int → Nat} (h : ∀ x y, qf_in x → qf_in y → F x y = 0) : qf_bx F = 0 :=
  qf_sm_z fun i hi => qf_sm_z fun j hj => h _ _ ⟨by omega, by omega⟩ ⟨by omega, by omega⟩
theorem qf_bx_a (F G : Int → Int → Nat) : qf_bx (fun x y => F x y + G x y) = qf_bx F + qf_bx G := by
  unfold qf_bx
  rw [← qf_sm_a]
  exact qf_sm_c fun i _ => qf_sm_a _ _ _
theorem qf_bx_s (F : Nat → Int → Int → Nat) (n : Nat) : qf_bx (fun x y => qf_sm (fun i => F i x y) n) = qf_sm (fun i => qf_bx (F i)) n := by
  exact (qf_sm_c fun i _ => qf_sm_s (fun j t => F t ((i : Int) - 28) ((j : Int) - 28)) n 57).trans (qf_sm_s (fun i t => qf_sm (fun j => F t ((i : Int) - 28) ((j : Int) - 28)) 57) n 57)
theorem qf_bx_x (F : Int → Int → Int → Int → Nat) : qf_bx (fun x y => qf_bx (fun z w => F x y z w)) = qf_bx (fun z w => qf_bx (fun x y => F x y z w)) := by
  show qf_bx (fun x y => qf_sm (fun i => qf_sm (fun j => F x y ((i : Int) - 28) ((j : Int) - 28)) 57) 57) = _
  rw [qf_bx_s]
  exact qf_sm_c fun i _ => qf_bx_s _ _
theorem qf_bx_1 {p : Int → Int → Prop} {x0 y0 : Int} (hx : qf_in x0) (hy : qf_in y0) (h : ∀ x y, qf_in x → qf_in y → (p x y ↔ (x = x0 ∧ y = y0))) : qf_bx (fun x y => qf_b (p x y)) = 1 := by
  obtain ⟨hx1, hx2⟩ := hx
  obtain ⟨hy1, hy2⟩ := hy
  have e : qf_bx (fun x y => qf_b (p x y)) = qf_sm (fun i => qf_b (i = (x0 + 28).toNat)) 57 := by
    refine qf_sm_c fun i hi => ?_
    by_cases z : i = (x0 + 28).toNat
    · rw [qf_b_t z]
      refine qf_sm_1 (k := (y0 + 28).toNat) (by omega) fun j hj => ?_
      rw [h _ _ ⟨by omega, by omega⟩ ⟨by omega, by omega⟩]
      constructor
      · intro w; omega
      · intro w; omega
    · rw [qf_b_f z]
      refine qf_sm_z fun j hj => qf_b_f fun w => ?_
      have := (h _ _ ⟨by omega, by omega⟩ ⟨by omega, by omega⟩).mp w
      omega
  rw [e]
  exact qf_sm_1 (k := (x0 + 28).toNat) (by omega) fun i _ => Iff.rfl
theorem qf_bx_pt {x0 y0 : Int} (hx : qf_in x0) (hy : qf_in y0) : qf_bx (fun x y => qf_b (x = x0 ∧ y = y0)) = 1 := qf_bx_1 hx hy fun _ _ _ _ => Iff.rfl
/-! fibres' sizes -/
def qf_w (d : Nat) : Nat := if d = 3 then 6 else if d = 4 then 4 else 2
theorem qf_d3 : qf_h 3 = 1 ∧ qf_A 3 0 = 1 ∧ qf_B 3 0 = 1 ∧ qf_C 3 0 = 1 := by decide +kernel
theorem qf_d4 : qf_h 4 = 1 ∧ qf_A 4 0 = 1 ∧ qf_B 4 0 = 0 ∧ qf_C 4 0 = 1 := by decide +kernel
theorem qf_fb_in {d : Nat} (v : qf_V d) {k : Nat} (hk : k < qf_h d) {n B x y : Int} (hn : n ≤ 500) (h : qf_fb (qf_A d k) (qf_B d k) (qf_C d k) n B x y) : qf_in x ∧ qf_in y := by
  obtain ⟨⟨h1, _⟩, ⟨h2, h3⟩, _, ⟨h4, _⟩, _⟩ := qf_vfm v hk
  obtain ⟨q, s, e, _⟩ := h
  exact qf_bnd (by omega) ⟨by omega, h3⟩ h4 (by rw [e]; exact hn)
theorem qf_fib {d : Nat} (v : qf_V d) {k : Nat} (hk : k < qf_h d) {n : Int} (hn : 0 < n) (hn5 : n ≤ 500) (B : Int) : qf_bx (fun x y => qf_b (qf_fb (qf_A d k) (qf_B d k) (qf_C d k) n B x y)) = qf_w d * qf_b (qf_ne (qf_A d k) (qf_B d k) (qf_C d k) n B) := by
  by_cases z : qf_ne (qf_A d k) (qf_B d k) (qf_C d k) n B
  · rw [qf_b_t z, Nat.mul_one]
    obtain ⟨x, y, h⟩ := z
    have nz := qf_fb_nz hn h
    by_cases d3 : d = 3
    · subst d3
      obtain ⟨eh, ea, eb, ec⟩ := qf_d3
      have k0 : k = 0 := by omega
      subst k0
      have IN := fun x y => qf_fb_in (x := x) (y := y) (B := B) v hk hn5
      rw [ea, eb, ec] at h IN ⊢
      have F := qf_fb_6 hn h
      have i1 := IN _ _ ((F x y).mpr (Or.inl (Or.inl ⟨rfl, rfl⟩)))
      have i2 := IN _ _ ((F (-x) (-y)).mpr (Or.inl (Or.inr ⟨rfl, rfl⟩)))
      have i3 := IN _ _ ((F (-y) (x + y)).mpr (Or.inr (Or.inl (Or.inl ⟨rfl, rfl⟩))))
      have i4 := IN _ _ ((F y (-(x + y))).mpr (Or.inr (Or.inl (Or.inr ⟨rfl, rfl⟩))))
      have i5 := IN _ _ ((F (-(x + y)) x).mpr (Or.inr (Or.inr (Or.inl ⟨rfl, rfl⟩))))
      have i6 := IN _ _ ((F (x + y) (-x)).mpr (Or.inr (Or.inr (Or.inr ⟨rfl, rfl⟩))))
      have e : ∀ x' y', qf_b (qf_fb 1 1 1 n B x' y') = (qf_b (x' = x ∧ y' = y) + qf_b (x' = -x ∧ y' = -y)) + ((qf_b (x' = -y ∧ y' = x + y) + qf_b (x' = y ∧ y' = -(x + y))) + (qf_b (x' = -(x + y) ∧ y' = x) + qf_b (x' = x + y ∧ y' = -x))) := by
        intro x' y'
        rw [qf_b_c (F x' y'), qf_b_or (by omega), qf_b_or (by omega), qf_b_or (by omega), qf_b_or (by omega), qf_b_or (by omega)]
      rw [qf_bx_c fun x' y' _ _ => e x' y', qf_bx_a, qf_bx_a, qf_bx_a, qf_bx_a, qf_bx_a, qf_bx_pt i1.1 i1.2, qf_bx_pt i2.1 i2.2, qf_bx_pt i3.1 i3.2, qf_bx_pt i4.1 i4.2, qf_bx_pt i5.1 i5.2, qf_bx_pt i6.1 i6.2]
      rfl
    · by_cases d4 : d = 4
      · subst d4
        obtain ⟨eh, ea, eb, ec⟩ := qf_d4
        have k0 : k = 0 := by omega
        subst k0
        have IN := fun x y => qf_fb_in (x := x) (y := y) (B := B) v hk hn5
        rw [ea, eb, ec] at h IN ⊢
        have F := qf_fb_4 hn h
        have i1 := IN _ _ ((F x y).mpr (Or.inl (Or.inl ⟨rfl, rfl⟩)))
        have i2 := IN _ _ ((F (-x) (-y)).mpr (Or.inl (Or.inr ⟨rfl, rfl⟩)))
        have i3 := IN _ _ ((F (-y) x).mpr (Or.inr (Or.inl ⟨rfl, rfl⟩)))
        have i4 := IN _ _ ((F y (-x)).mpr (Or.inr (Or.inr ⟨rfl, rfl⟩)))
        have e : ∀ x' y', qf_b (qf_fb 1 0 1 n B x' y') = (qf_b (x' = x ∧ y' = y) + qf_b (x' = -x ∧ y' = -y)) + (qf_b (x' = -y ∧ y' = x) + qf_b (x' = y ∧ y' = -x)) := by
          intro x' y'
          rw [qf_b_c (F x' y'), qf_b_or (by omega), qf_b_or (by omega), qf_b_or (by omega)]
        rw [qf_bx_c fun x' y' _ _ => e x' y', qf_bx_a, qf_bx_a, qf_bx_a, qf_bx_pt i1.1 i1.2, qf_bx_pt i2.1 i2.2, qf_bx_pt i3.1 i3.2, qf_bx_pt i4.1 i4.2]
        rfl
      · obtain ⟨_, _, hf, _, _, g⟩ := qf_vfm v hk
        have hd4 : (4 : Int) < d := by
          have := v.1
          have := v.2.2
          omega
        have F := qf_fb_2 hd4 hn g hf h
        have i1 := qf_fb_in v hk hn5 ((F x y).mpr (Or.inl ⟨rfl, rfl⟩))
        have i2 := qf_fb_in v hk hn5 ((F (-x) (-y)).mpr (Or.inr ⟨rfl, rfl⟩))
        have e : ∀ x' y', qf_b (qf_fb (qf_A d k) (qf_B d k) (qf_C d k) n B x' y') = qf_b (x' = x ∧ y' = y) + qf_b (x' = -x ∧ y' = -y) := by
          intro x' y'
          rw [qf_b_c (F x' y'), qf_b_or (by omega)]
        rw [qf_bx_c fun x' y' _ _ => e x' y', qf_bx_a, qf_bx_pt i1.1 i1.2, qf_bx_pt i2.1 i2.2]
        unfold qf_w
        rw [if_neg d3, if_neg d4]
  · rw [qf_b_f z, Nat.mul_zero]
    exact qf_bx_z fun x y _ _ => qf_b_f fun w => z ⟨x, y, w⟩
/-- the fibre over B isn't empty if and only if (n, B) is equivalent to the form -/
theorem qf_ne_sh {a b c n B : Int} (k : Int) (h : qf_ne a b c n B) : qf_ne a b c n (B + 2 * n * k) := by
  obtain ⟨x, y, q, s, h⟩ := h
  exact ⟨x, y, _, _, qf_E_sh k h⟩
theorem qf_ne_sw {a b c d n B C : Int} (hf : 4 * a * c = b * b + d) (hn : 0 < n) (hg : 4 * n * C = B * B + d) (h : qf_ne a b c n B) : qf_ne a b c C (-B) := by
  obtain ⟨x, y, q, s, h⟩ := h
  exact ⟨q, s, _, _, qf_E_sw hn hf hg h⟩
theorem qf_ne_run {a b c d : Int} (hd : 0 < d) (hf : 4 * a * c = b * b + d) {m : Nat} {n B C : Int} {r : Int × Int} (hn : 0 < n) (hg : 4 * n * C = B * B + d) (h : qf_run d m n B = some r) : qf_ne a b c n B ↔ qf_ne a b c r.1 r.2 := by
  constructor
  · intro p
    exact qf_run_inv hd (qf_ne a b c) (fun n B k _ q => qf_ne_sh k q) (fun n B C hn _ e q => qf_ne_sw hf hn e q) m n B C r hn hg p h
  · intro p
    refine Classical.byContradiction fun q => ?_
    refine qf_run_inv hd (fun n B => ¬ qf_ne a b c n B) (fun n B k _ q q2 => q ?_) (fun n B C hn hC e q q2 => q ?_) m n B C r hn hg q h p
    · have := qf_ne_sh (-k) q2
      rwa [show B + 2 * n * k + 2 * n * -k = B from by rw [Int.mul_neg]; omega] at this
    · have := qf_ne_sw hf hC (qf_va_sw e) q2
      rwa [Int.neg_neg] at this
theorem qf_ne_iff {d : Nat} (v : qf_V d) {k : Nat} (hk : k < qf_h d) {n : Int} (hn : 0 < n) (hn5 : n ≤ 500) (B : Int) : qf_ne (qf_A d k) (qf_B d k) (qf_C d k) n B ↔ (qf_ok d n B = true ∧ qf_run d 67 n B = some (qf_F d k)) := by
  have hd : (0 : Int) < d := by have := v.1; omega
  have hd4 : (d : Int) ≤ 400 := by have := v.2.1; omega
  obtain ⟨⟨h1, h2⟩, ⟨h3, h4⟩, hf, ⟨h5, h6⟩, h7, g⟩ := qf_vfm v hk
  constructor
  · intro ne
    obtain ⟨x, y, q, s, e⟩ := id ne
    have hg := qf_E_C hn hf e
    obtain ⟨r, hr⟩ := qf_run_1000 hd hd4 hn (by omega) hg
    obtain ⟨r1, r2⟩ := r
    have ne2 := (qf_ne_run hd hf hn hg hr).mp ne
    obtain ⟨p1, p2, p3, C', p4, p5, p6⟩ := qf_run_rdc hd _ _ _ _ _ hn hg hr
    obtain ⟨x', y', q', s', e'⟩ := ne2
    obtain ⟨e1, e2⟩ := qf_uniq (by omega) ⟨h3, h4⟩ h5 h7 hf p1 ⟨p2, p3⟩ p5 p6 p4 e'
    have er : (r1, r2) = qf_F d k := Prod.ext e1.symm e2.symm
    rw [er] at hr
    refine ⟨?_, hr⟩
    refine (qf_pr_ok hn hg).mpr ((qf_run_pr hd hn hg hr).mpr ?_)
    intro c' ec
    have : c' = qf_C d k := by
      have e3 : 4 * qf_A d k * c' = qf_B d k * qf_B d k + d := ec
      rw [← hf] at e3
      exact Int.eq_of_mul_eq_mul_left (by omega) e3
    rw [this]
    exact g
  · rintro ⟨ok, hr⟩
    refine (qf_ne_run hd hf hn (qf_ok_c ok) hr).mpr ?_
    exact ⟨1, 0, 0, 1, qf_E_id _ _ _⟩
/-! representations without common divisor -/
noncomputable def qf_pm (d k n : Nat) : Nat := qf_bx (fun x y => qf_b (qf_val (qf_A d k) (qf_B d k) (qf_C d k) x y = n ∧ Int.gcd x y = 1))
noncomputable def qf_md (d k n : Nat) : Nat := qf_sm (fun y => qf_b (qf_ok d n y = true ∧ qf_run d 67 n y = some (qf_F d k))) (2 * n)
theorem qf_prim {d : Nat} (v : qf_V d) {k : Nat} (hk : k < qf_h d) {n : Nat} (hn : 0 < n) (hn5 : n ≤ 500) : qf_pm d k n = qf_w d * qf_md d k n := by
  have n0 : (0 : Int) < n := by omega
  have e : ∀ x y, qf_b (qf_val (qf_A d k) (qf_B d k) (qf_C d k) x y = n ∧ Int.gcd x y = 1) = qf_sm (fun B => qf_b (qf_fb (qf_A d k) (qf_B d k) (qf_C d k) n B x y)) (2 * n) := by
    intro x y
    by_cases z : qf_val (qf_A d k) (qf_B d k) (qf_C d k) x y = n ∧ Int.gcd x y = 1
    · rw [qf_b_t z]
      obtain ⟨B, hB, hb⟩ := qf_fb_ex n0 z.1 z.2
      refine (qf_sm_1 (k := B.toNat) (by omega) fun i hi => ?_).symm
      constructor
      · intro w
        have := qf_fb_un n0 (B := i) (B' := B) (by omega) hB w hb
        omega
      · intro w
        rw [w, Int.toNat_of_nonneg hB.1]
        exact hb
    · rw [qf_b_f z]
      refine (qf_sm_z fun i hi => qf_b_f fun w => z ?_).symm
      obtain ⟨q, s, w⟩ := w
      exact ⟨w.1, qf_gcd1 (qf_E_det n0 w)⟩
  unfold qf_pm qf_md
  rw [qf_bx_c fun x y _ _ => e x y, qf_bx_s, ← qf_sm_m]
  refine qf_sm_c fun B _ => ?_
  rw [qf_fib v hk n0 (by omega), qf_b_c (qf_ne_iff v hk n0 (by omega) B)]
end
section
/-! all representations, by their common divisor -/
noncomputable def qf_fu (d k n : Nat) : Nat := qf_bx (fun x y => qf_b (qf_val (qf_A d k) (qf_B d k) (qf_C d k) x y = n))
theorem qf_val_m (a b c Q z w : Int) : qf_val a b c (Q * z) (Q * w) = Q * Q * qf_val a b c z w := by
  unfold qf_val
  grind
theorem qf_gcdQ {x y : Int} {Q : Nat} (hQ : 0 < Q) (h : Int.gcd x y = Q) : ∃ z w : Int, x = Q * z ∧ y = Q * w ∧ Int.gcd z w = 1 := by
  have h1 : (Int.gcd x y : Int) ∣ x := Int.gcd_dvd_left ..
  have h2 : (Int.gcd x y : Int) ∣ y := Int.gcd_dvd_right ..
  rw [h] at h1 h2
  obtain ⟨z, rfl⟩ := h1
  obtain ⟨w, rfl⟩ := h2
  refine ⟨z, w, rfl, rfl, ?_⟩
  rw [Int.gcd_mul_left, Int.natAbs_natCast] at h
  exact Nat.eq_of_mul_eq_mul_left hQ (by omega)
theorem qf_inQ {Q : Nat} {z : Int} (hQ : 0 < Q) (h : qf_in (Q * z)) : qf_in z := by
  unfold qf_in at *
  have h1 : (Q * z : Int).natAbs ≤ 28 := by omega
  rw [Int.natAbs_mul, Int.natAbs_natCast] at h1
  have h2 : 1 * z.natAbs ≤ Q * z.natAbs := Nat.mul_le_mul_right _ hQ
  omega
theorem qf_gs {d : Nat} (v : qf_V d) {k : Nat} (hk : k < qf_h d) {n m Q : Nat} (hQ : 0 < Q) (hn5 : n ≤ 500) (e : n = Q * Q * m) : qf_bx (fun x y => qf_b (qf_val (qf_A d k) (qf_B d k) (qf_C d k) x y = n ∧ Int.gcd x y = Q)) = qf_pm d k m := by
  obtain ⟨⟨h1, h2⟩, ⟨h3, h4⟩, hf, ⟨h5, h6⟩, h7, g⟩ := qf_vfm v hk
  have hQ0 : (Q : Int) ≠ 0 := by omega
  have hQQ : (Q : Int) * Q ≠ 0 := fun z => (Int.mul_eq_zero.mp z).elim hQ0 hQ0
  have e' : (n : Int) = Q * Q * m := by rw [e, Int.natCast_mul, Int.natCast_mul]
  have e1 : ∀ x y, qf_in x → qf_in y → qf_b (qf_val (qf_A d k) (qf_B d k) (qf_C d k) x y = n ∧ Int.gcd x y = Q) = qf_bx (fun z w => qf_b ((x = Q * z ∧ y = Q * w) ∧ qf_val (qf_A d k) (qf_B d k) (qf_C d k) z w = m ∧ Int.gcd z w = 1)) := by
    intro x y ix iy
    by_cases c : qf_val (qf_A d k) (qf_B d k) (qf_C d k) x y = n ∧ Int.gcd x y = Q
    · rw [qf_b_t c]
      obtain ⟨cv, cg⟩ := c
      obtain ⟨z, w, rfl, rfl, gg⟩ := qf_gcdQ hQ cg
      refine (qf_bx_1 (x0 := z) (y0 := w) (qf_inQ hQ ix) (qf_inQ hQ iy) fun z' w' _ _ => ?_).symm
      constructor
      · rintro ⟨⟨a1, a2⟩, _⟩
        exact ⟨(Int.eq_of_mul_eq_mul_left hQ0 a1).symm, (Int.eq_of_mul_eq_mul_left hQ0 a2).symm⟩
      · rintro ⟨rfl, rfl⟩
        refine ⟨⟨rfl, rfl⟩, ?_, gg⟩
        rw [qf_val_m, e'] at cv
        exact Int.eq_of_mul_eq_mul_left hQQ cv
    · rw [qf_b_f c]
      refine (qf_bx_z fun z w _ _ => qf_b_f fun t => c ?_).symm
      obtain ⟨⟨rfl, rfl⟩, tv, tg⟩ := t
      refine ⟨?_, ?_⟩
      · rw [qf_val_m, tv, e']
      · rw [Int.gcd_mul_left, tg, Int.natAbs_natCast, Nat.mul_one]
  rw [qf_bx_c e1, qf_bx_x]
  refine qf_bx_c fun z w _ _ => ?_
  by_cases c : qf_val (qf_A d k) (qf_B d k) (qf_C d k) z w = m ∧ Int.gcd z w = 1
  · rw [qf_b_t c]
    have hv : qf_val (qf_A d k) (qf_B d k) (qf_C d k) (Q * z) (Q * w) ≤ 500 := by
      rw [qf_val_m, c.1, ← e']
      omega
    have hb := qf_bnd (by omega) ⟨by omega, h4⟩ h5 hv
    refine qf_bx_1 (x0 := Q * z) (y0 := Q * w) hb.1 hb.2 fun x y _ _ => ?_
    exact ⟨fun t => t.1, fun t => ⟨t, c⟩⟩
  · rw [qf_b_f c]
    exact qf_bx_z fun x y _ _ => qf_b_f fun t => c t.2
def qf_gq (w : Nat) (M : Nat → Nat) (n i : Nat) : Nat := if n % ((i + 1) * (i + 1)) = 0 then w * M (n / ((i + 1) * (i + 1))) else 0
theorem qf_full {d : Nat} (v : qf_V d) {k : Nat} (hk : k < qf_h d) {n : Nat} (hn : 0 < n) (hn5 : n ≤ 500) : qf_fu d k n = qf_sm (qf_gq (qf_w d) (qf_md d k) n) 22 := by
  have e1 : ∀ x y, qf_b (qf_val (qf_A d k) (qf_B d k) (qf_C d k) x y = n) = qf_sm (fun i => qf_b (qf_val (qf_A d k) (qf_B d k) (qf_C d k) x y = n ∧ Int.gcd x y = i + 1)) 22 := by
    intro x y
    by_cases c : qf_val (qf_A d k) (qf_B d k) (qf_C d k) x y = n
    · rw [qf_b_t c]
      have g0 : 0 < Int.gcd x y := by
        refine Nat.pos_of_ne_zero fun z => ?_
        obtain ⟨rfl, rfl⟩ := Int.gcd_eq_zero_iff.mp z
        unfold qf_val at c
        omega
      have g22 : Int.gcd x y < 23 := by
        obtain ⟨z, w, ez, ew, gg⟩ := qf_gcdQ g0 rfl
        generalize Int.gcd x y = g at *
        rw [ez, ew, qf_val_m] at c
        generalize qf_val (qf_A d k) (qf_B d k) (qf_C d k) z w = val at *
        have h1 : (g * g : Nat) ∣ n := by
          have : ((g * g : Nat) : Int) ∣ (n : Int) := ⟨val, by rw [Int.natCast_mul]; exact c.symm⟩
          exact Int.natCast_dvd_natCast.mp this
        have h2 := Nat.le_of_dvd hn h1
        rcases Nat.lt_or_ge g 23 with h | h
        · exact h
        · have := Nat.mul_le_mul h h
          omega
      refine (qf_sm_1 (k := Int.gcd x y - 1) (by omega) fun i _ => ?_).symm
      constructor
      · rintro ⟨_, t⟩; omega
      · intro t; exact ⟨c, by omega⟩
    · rw [qf_b_f c]
      exact (qf_sm_z fun i _ => qf_b_f fun t => c t.1).symm
  unfold qf_fu
  rw [qf_bx_c fun x y _ _ => e1 x y, qf_bx_s]
  refine qf_sm_c fun i hi => ?_
  unfold qf_gq
  by_cases z : n % ((i + 1) * (i + 1)) = 0
  · rw [if_pos z]
    have e : n = (i + 1) * (i + 1) * (n / ((i + 1) * (i + 1))) := by
      have := Nat.mod_add_div n ((i + 1) * (i + 1))
      omega
    have hm : 0 < n / ((i + 1) * (i + 1)) := by
      refine Nat.pos_of_ne_zero fun t => ?_
      rw [t, Nat.mul_zero] at e
      omega
    have hm5 : n / ((i + 1) * (i + 1)) ≤ n := Nat.div_le_self _ _
    rw [← qf_prim v hk hm (by omega)]
    exact qf_gs v hk (Nat.succ_pos i) hn5 e
  · rw [if_neg z]
    refine qf_bx_z fun x y _ _ => qf_b_f fun t => z ?_
    obtain ⟨c, g⟩ := t
    obtain ⟨z', w', ez, ew, gg⟩ := qf_gcdQ (Nat.succ_pos i) g
    rw [ez, ew, qf_val_m] at c
    refine Nat.mod_eq_zero_of_dvd (Int.natCast_dvd_natCast.mp ⟨qf_val (qf_A d k) (qf_B d k) (qf_C d k) z' w', ?_⟩)
    rw [Int.natCast_mul]
    exact c.symm
/-! over all classes -/
noncomputable def qf_mo (d n : Nat) : Nat := qf_sm (fun y => qf_b (qf_ok d n y = true)) (2 * n)
theorem qf_mosum {d : Nat} (v : qf_V d) {n : Nat} (hn : 0 < n) (hn5 : n ≤ 500) : qf_sm (fun k => qf_md d k n) (qf_h d) = qf_mo d n := by
  unfold qf_md qf_mo
  rw [qf_sm_s]
  refine qf_sm_c fun y _ => ?_
  by_cases c : qf_ok d n y = true
  · rw [qf_b_t c]
    obtain ⟨k, hk, e⟩ := qf_cls v (a := n) (b := y) (by omega) (by omega) c
    refine qf_sm_1 hk fun i hi => ?_
    constructor
    · rintro ⟨_, t⟩
      rw [e] at t
      have t := Option.some.inj t
      exact (qf_vdis v hk hi (congrArg Prod.fst t) (congrArg Prod.snd t)).symm
    · rintro rfl
      exact ⟨c, e⟩
  · rw [qf_b_f c]
    exact qf_sm_z fun k _ => qf_b_f fun t => c t.1
theorem qf_allsum {d : Nat} (v : qf_V d) {n : Nat} (hn : 0 < n) (hn5 : n ≤ 500) : qf_sm (fun k => qf_fu d k n) (qf_h d) = qf_sm (qf_gq (qf_w d) (qf_mo d) n) 22 := by
  rw [qf_sm_c fun k hk => qf_full v hk hn hn5]
  show qf_sm (fun k => qf_sm (fun i => qf_gq (qf_w d) (qf_md d k) n i) 22) (qf_h d) = _
  rw [qf_sm_s]
  refine qf_sm_c fun i _ => ?_
  by_cases z : n % ((i + 1) * (i + 1)) = 0
  · have e : n = (i + 1) * (i + 1) * (n / ((i + 1) * (i + 1))) := by
      have := Nat.mod_add_div n ((i + 1) * (i + 1))
      omega
    have hm : 0 < n / ((i + 1) * (i + 1)) := by
      refine Nat.pos_of_ne_zero fun t => ?_
      rw [t, Nat.mul_zero] at e
      omega
    have hm5 : n / ((i + 1) * (i + 1)) ≤ n := Nat.div_le_self _ _
    have e2 : ∀ k, k < qf_h d → qf_gq (qf_w d) (qf_md d k) n i = qf_w d * qf_md d k (n / ((i + 1) * (i + 1))) := fun k _ => if_pos z
    rw [qf_sm_c e2, qf_sm_m, qf_mosum v hm (by omega)]
    exact (if_pos z).symm
  · have e2 : ∀ k, k < qf_h d → qf_gq (qf_w d) (qf_md d k) n i = 0 := fun k _ => if_neg z
    rw [qf_sm_z e2]
    exact (if_neg z).symm
theorem qf_w_pos (d : Nat) : 0 < qf_w d ∧ qf_w d ≤ 6 := by
  unfold qf_w
  split
  · decide
  · split <;> decide
theorem qf_pm_pos {d : Nat} (v : qf_V d) {k : Nat} (hk : k < qf_h d) {n : Nat} (hn : 0 < n) (hn5 : n ≤ 500) : 0 < qf_pm d k n ↔ ∃ y : Nat, y < 2 * n ∧ qf_ok d n y = true ∧ qf_run d 67 n y = some (qf_F d k) := by
  rw [qf_prim v hk hn hn5]
  have h : 0 < qf_w d * qf_md d k n ↔ 0 < qf_md d k n := by
    constructor
    · intro h; exact Nat.pos_of_mul_pos_left h
    · intro h; exact Nat.mul_pos (qf_w_pos d).1 h
  rw [h]
  unfold qf_md
  rw [qf_sm_pos]
  constructor
  · rintro ⟨y, hy, t⟩; exact ⟨y, hy, qf_b_pos.mp t⟩
  · rintro ⟨y, hy, t⟩; exact ⟨y, hy, qf_b_pos.mpr t⟩
/-- bounds -/
theorem qf_b_le (p : Prop) : qf_b p ≤ 1 := by
  by_cases h : p
  · rw [qf_b_t h]; exact Nat.le_refl 1
  · rw [qf_b_f h]; exact Nat.zero_le 1
theorem qf_sm_le {f : Nat → Nat} {c : Nat} : ∀ {n : Nat}, (∀ i, i < n → f i ≤ c) → qf_sm f n ≤ n * c := by
  intro n
  induction n with
  | zero => intro _; exact Nat.zero_le _
  | succ n ih =>
    intro h
    have := ih fun i hi => h i (by omega)
    have := h n (by omega)
    rw [qf_sm, Nat.succ_mul]
    omega
theorem qf_bx_le (p : Int → Int → Prop) : qf_bx (fun x y => qf_b (p x y)) ≤ 3249 := by
  have := qf_sm_le (n := 57) (f := fun i => qf_sm (fun j => qf_b (p ((i : Int) - 28) ((j : Int) - 28))) 57) (c := 57) fun i _ => by
    have := qf_sm_le (n := 57) (f := fun j => qf_b (p ((i : Int) - 28) ((j : Int) - 28))) (c := 1) fun j _ => qf_b_le _
    omega
  exact this
end
section
/-! common divisors -/
theorem zz_lremN {p q : Nat} (hp : p < 1000000000000000000) (hq : q < 1000000000000000000) : zz_l p - zz_l p / zz_l q * zz_l q = zz_l (p % q : Nat) := by
  rw [zz_lrem (by omega) (by omega)]
  exact congrArg zz_l (Int.ofNat_tmod p q).symm
section
variable {f_d : Int32} {f_count : Int32} {f_a : Int64} {f_b : Int64} {f_c : Int64} {f_divisor : Int64} {f_one : Int64} {f_other : Int64} {a_formA : Nat → Int32} {a_formB : Nat → Int32} {a_formC : Nat → Int32}
theorem xw_g28 (post : Int64 → Prop) : ∀ (n p q : Nat), q < n → p < 1000000000000000000 → q < 1000000000000000000 → post (zz_l (Nat.gcd p q : Nat)) → wX_greatest_28 post f_d f_count f_a f_b f_c f_divisor f_one f_other a_formA a_formB a_formC n (zz_l p) (zz_l q) := by
  intro n
  induction n with
  | zero => intro p q h; exact absurd h (Nat.not_lt_zero _)
  | succ n ih =>
    intro p q hq hp1 hq1 h
    refine zb_lle q 0 (fun h0 => ?_) (fun h0 => ⟨zb_lne (a := q) (by omega), zb_nm (zz_lremN hp1 hq1) (ih q (p % q) ?_ hq1 ?_ ?_)⟩)
    · have : q = 0 := by omega
      subst this
      rw [Nat.gcd_zero_right] at h
      exact h
    · have := Nat.mod_lt p (show q > 0 by omega)
      omega
    · have := Nat.mod_lt p (show q > 0 by omega)
      omega
    · rw [Nat.gcd_comm, ← Nat.gcd_rec, Nat.gcd_comm]
      exact h
theorem xw_g12 (post : Int64 → Prop) (x : Nat) (y : Int) (hx : x < 1000000000000000000) (hy : -1000000000000000000 < y ∧ y < 1000000000000000000) (h : post (zz_l (Nat.gcd x y.natAbs : Nat))) : wX_greatest_12 post (zz_l y) (zz_l x) f_d f_count f_a f_b f_c f_divisor f_one f_other a_formA a_formB a_formC := by
  refine zb_lle 0 y (fun h0 => ⟨y.natAbs + 1, ?_⟩) (fun h0 => zb_nm (e' := zz_l (y.natAbs : Nat)) ?_ ⟨y.natAbs + 1, ?_⟩)
  · have := xw_g28 (f_d := f_d) (f_count := f_count) (f_a := f_a) (f_b := f_b) (f_c := f_c) (f_divisor := f_divisor) (f_one := f_one) (f_other := f_other) (a_formA := a_formA) (a_formB := a_formB) (a_formC := a_formC) post (y.natAbs + 1) x y.natAbs (by omega) hx (by omega) h
    rw [show ((y.natAbs : Nat) : Int) = y from by omega] at this
    exact this
  · rw [zz_lneg]
    exact congrArg zz_l (by omega)
  · exact xw_g28 post (y.natAbs + 1) x y.natAbs (by omega) hx (by omega) h
theorem xw_greatest (post : Int64 → Prop) (x y : Int) (hx : -1000000000000000000 < x ∧ x < 1000000000000000000) (hy : -1000000000000000000 < y ∧ y < 1000000000000000000) (h : post (zz_l (Int.gcd x y : Nat))) : wpX_greatest post (f_d, f_count, f_a, f_b, f_c, f_divisor, f_one, f_other, a_formA, a_formB, a_formC) (zz_l x) (zz_l y) := by
  refine zb_lle 0 x (fun h0 => ?_) (fun h0 => ?_)
  · have := xw_g12 (f_d := f_d) (f_count := f_count) (f_a := f_a) (f_b := f_b) (f_c := f_c) (f_divisor := f_divisor) (f_one := f_one) (f_other := f_other) (a_formA := a_formA) (a_formB := a_formB) (a_formC := a_formC) post x.natAbs y (by omega) hy h
    rw [show ((x.natAbs : Nat) : Int) = x from by omega] at this
    exact this
  · have := xw_g12 (f_d := f_d) (f_count := f_count) (f_a := f_a) (f_b := f_b) (f_c := f_c) (f_divisor := f_divisor) (f_one := f_one) (f_other := f_other) (a_formA := a_formA) (a_formB := a_formB) (a_formC := a_formC) post x.natAbs y (by omega) hy h
    rw [show ((x.natAbs : Nat) : Int) = -x from by omega, ← zz_lneg] at this
    exact this
end
section
variable {f_d : Int32} {f_count : Int32} {f_first : Int64} {f_middle : Int64} {a_as : Nat → Int32} {a_bs : Nat → Int32} {a_cs : Nat → Int32} {a_products : Nat → Int32}
theorem yw_g28 (post : Int64 → Prop) : ∀ (n p q : Nat), q < n → p < 1000000000000000000 → q < 1000000000000000000 → post (zz_l (Nat.gcd p q : Nat)) → wY_divisor_28 post f_d f_count f_first f_middle a_as a_bs a_cs a_products n (zz_l p) (zz_l q) := by
  intro n
  induction n with
  | zero => intro p q h; exact absurd h (Nat.not_lt_zero _)
  | succ n ih =>
    intro p q hq hp1 hq1 h
    refine zb_lle q 0 (fun h0 => ?_) (fun h0 => ⟨zb_lne (a := q) (by omega), zb_nm (zz_lremN hp1 hq1) (ih q (p % q) ?_ hq1 ?_ ?_)⟩)
    · have : q = 0 := by omega
      subst this
      rw [Nat.gcd_zero_right] at h
      exact h
    · have := Nat.mod_lt p (show q > 0 by omega)
      omega
    · have := Nat.mod_lt p (show q > 0 by omega)
      omega
    · rw [Nat.gcd_comm, ← Nat.gcd_rec, Nat.gcd_comm]
      exact h
theorem yw_g12 (post : Int64 → Prop) (x : Nat) (y : Int) (hx : x < 1000000000000000000) (hy : -1000000000000000000 < y ∧ y < 1000000000000000000) (h : post (zz_l (Nat.gcd x y.natAbs : Nat))) : wY_divisor_12 post (zz_l y) (zz_l x) f_d f_count f_first f_middle a_as a_bs a_cs a_products := by
  refine zb_lle 0 y (fun h0 => ⟨y.natAbs + 1, ?_⟩) (fun h0 => zb_nm (e' := zz_l (y.natAbs : Nat)) ?_ ⟨y.natAbs + 1, ?_⟩)
  · have := yw_g28 (f_d := f_d) (f_count := f_count) (f_first := f_first) (f_middle := f_middle) (a_as := a_as) (a_bs := a_bs) (a_cs := a_cs) (a_products := a_products) post (y.natAbs + 1) x y.natAbs (by omega) hx (by omega) h
    rw [show ((y.natAbs : Nat) : Int) = y from by omega] at this
    exact this
  · rw [zz_lneg]
    exact congrArg zz_l (by omega)
  · exact yw_g28 post (y.natAbs + 1) x y.natAbs (by omega) hx (by omega) h
theorem yw_divisor (post : Int64 → Prop) (x y : Int) (hx : -1000000000000000000 < x ∧ x < 1000000000000000000) (hy : -1000000000000000000 < y ∧ y < 1000000000000000000) (h : post (zz_l (Int.gcd x y : Nat))) : wpY_divisor post (f_d, f_count, f_first, f_middle, a_as, a_bs, a_cs, a_products) (zz_l x) (zz_l y) := by
  refine zb_lle 0 x (fun h0 => ?_) (fun h0 => ?_)
  · have := yw_g12 (f_d := f_d) (f_count := f_count) (f_first := f_first) (f_middle := f_middle) (a_as := a_as) (a_bs := a_bs) (a_cs := a_cs) (a_products := a_products) post x.natAbs y (by omega) hy h
    rw [show ((x.natAbs : Nat) : Int) = x from by omega] at this
    exact this
  · have := yw_g12 (f_d := f_d) (f_count := f_count) (f_first := f_first) (f_middle := f_middle) (a_as := a_as) (a_bs := a_bs) (a_cs := a_cs) (a_products := a_products) post x.natAbs y (by omega) hy h
    rw [show ((x.natAbs : Nat) : Int) = -x from by omega, ← zz_lneg] at this
    exact this
end
section
variable {f_d : Int32} {f_count : Int32} {f_a : Int64} {f_b : Int64} {f_c : Int64} {f_divisor : Int64} {f_one : Int64} {f_other : Int64} {a_formA : Nat → Int32} {a_formB : Nat → Int32} {a_formC : Nat → Int32}
theorem xw_isForm (post : Int32 → Prop) (x y z : Int) (hx : -1000000000000000000 < x ∧ x < 1000000000000000000) (hy : -1000000000000000000 < y ∧ y < 1000000000000000000) (hz : -1000000000000000000 < z ∧ z < 1000000000000000000) (hg : Int.gcd x y < 1000000000000000000) (h1 : qf_g3 x y z = 1 → post 1) (h0 : qf_g3 x y z ≠ 1 → post 0) : wpX_isForm post (f_d, f_count, f_a, f_b, f_c, f_divisor, f_one, f_other, a_formA, a_formB, a_formC) (zz_l x) (zz_l y) (zz_l z) := by
  refine xw_greatest _ x y hx hy (xw_greatest _ (Int.gcd x y : Nat) z (by omega) hz ?_)
  have e : Int.gcd (Int.gcd x y : Nat) z = qf_g3 x y z := rfl
  rw [e]
  have hb : qf_g3 x y z < 1000000000000000000 := by
    by_cases c : Int.gcd x y = 0
    · have : qf_g3 x y z = z.natAbs := by
        unfold qf_g3
        rw [c, Nat.gcd_zero_left]
      omega
    · have : qf_g3 x y z ≤ Int.gcd x y := Nat.gcd_le_left _ (Nat.pos_of_ne_zero c)
      omega
  exact zb_leq (qf_g3 x y z : Nat) 1 (fun c => h1 (by omega)) (fun c => h0 (by omega))
end
section
variable {f_d : Int32} {f_count : Int32} {f_first : Int64} {f_middle : Int64} {a_as : Nat → Int32} {a_bs : Nat → Int32} {a_cs : Nat → Int32} {a_products : Nat → Int32}
theorem yw_isForm (post : Int32 → Prop) (d : Nat) (a b : Int) (hd : d ≤ 400) (ha : 0 < a ∧ a < 1000000) (hb : -1000000 < b ∧ b < 1000000) (h1 : qf_ok d a b = true → post 1) (h0 : qf_ok d a b = false → post 0) : wpY_isForm post (nI d, f_count, f_first, f_middle, a_as, a_bs, a_cs, a_products) (zz_l a) (zz_l b) := by
  have hbb := zz_mb (p := b) (q := b) (P := 1000000) (Q := 1000000) (by omega) (by omega)
  have hb0 := zz_sq b
  have e1 : zz_l b * zz_l b + (nI d).toInt64 = zz_l (b * b + d) := by
    rw [zz_nI, zz_i2l (by omega), zz_lmul, zz_ladd]
  have e2 : 4 * zz_l a = zz_l (4 * a) := zz_lmul 4 a
  refine zb_nm e1 ?_
  rw [e2, zz_lrem (by omega) (by omega), zz_ldiv (by omega) (by omega), Int.tmod_eq_emod_of_nonneg (by omega), Int.tdiv_eq_ediv_of_nonneg (by omega)]
  have hm := Int.emod_nonneg (b * b + d) (show 4 * a ≠ 0 by omega)
  have hm2 := Int.emod_lt_of_pos (b * b + d) (show 0 < 4 * a by omega)
  have hc0 : 0 ≤ (b * b + d) / (4 * a) := Int.ediv_nonneg (by omega) (by omega)
  have hc1 : (b * b + d) / (4 * a) ≤ b * b + d := Int.ediv_le_self _ (by omega)
  have hg : Int.gcd a b ≤ a.natAbs := Nat.gcd_le_left _ (by omega)
  refine ⟨zb_lne (a := 4 * a) (by omega), zb_leq ((b * b + d) % (4 * a)) 0 (fun z => ?_) (fun z => ?_)⟩
  · refine yw_divisor _ a b (by omega) (by omega) ⟨zb_lne (a := 4 * a) (by omega), yw_divisor _ (Int.gcd a b : Nat) ((b * b + d) / (4 * a)) (by omega) (by omega) ?_⟩
    have e : Int.gcd (Int.gcd a b : Nat) ((b * b + d) / (4 * a)) = qf_g3 a b (qf_c d a b) := rfl
    rw [e]
    have hb : qf_g3 a b (qf_c d a b) ≤ Int.gcd a b := Nat.gcd_le_left _ (Nat.pos_of_ne_zero fun t => by
      have := (Int.gcd_eq_zero_iff.mp t).1
      omega)
    refine zb_leq (qf_g3 a b (qf_c d a b) : Nat) 1 (fun c => h1 ?_) (fun c => h0 ?_)
    · unfold qf_ok
      rw [decide_eq_true z, decide_eq_true (show qf_g3 a b (qf_c d a b) = 1 by omega)]
      rfl
    · unfold qf_ok
      rw [decide_eq_true z, decide_eq_false (show ¬ qf_g3 a b (qf_c d a b) = 1 by omega)]
      rfl
  · refine h0 ?_
    unfold qf_ok
    rw [decide_eq_false z]
    rfl
end
end
section
/-! the lists of both sides -/
def qf_SL (d : Nat) (L : List (Int × Int)) (fA fB fC : Nat → Int32) : Prop := ∀ k, k < L.length → fA k = zz_i (qf_at L k).1 ∧ fB k = zz_i (qf_at L k).2 ∧ fC k = zz_i (qf_c d (qf_at L k).1 (qf_at L k).2)
def qf_S (d : Nat) (fA fB fC : Nat → Int32) : Prop := qf_SL d (qf_L d) fA fB fC
theorem qf_us {f : Nat → Int32} {k : Nat} {x : Int32} : upd f k x k = x := if_pos rfl
theorem qf_un {f : Nat → Int32} {k j : Nat} {x : Int32} (h : j ≠ k) : upd f k x j = f j := if_neg h
theorem qf_at_l {L M : List (Int × Int)} {k : Nat} (h : k < L.length) : qf_at (L ++ M) k = qf_at L k := by
  unfold qf_at
  rw [List.getD_eq_getElem?_getD, List.getD_eq_getElem?_getD, List.getElem?_append_left h]
theorem qf_at_r {L : List (Int × Int)} {p : Int × Int} : qf_at (L ++ [p]) L.length = p := by
  unfold qf_at
  rw [List.getD_eq_getElem?_getD, List.getElem?_append_right (Nat.le_refl _), Nat.sub_self]
  rfl
theorem qf_SL_p {d : Nat} {L : List (Int × Int)} {fA fB fC : Nat → Int32} (h : qf_SL d L fA fB fC) (x y : Int) : qf_SL d (L ++ [(x, y)]) (upd fA L.length (zz_i x)) (upd fB L.length (zz_i y)) (upd fC L.length (zz_i (qf_c d x y))) := by
  intro k hk
  rw [List.length_append, List.length_singleton] at hk
  by_cases z : k = L.length
  · subst z
    rw [qf_at_r, qf_us, qf_us, qf_us]
    exact ⟨rfl, rfl, rfl⟩
  · rw [qf_at_l (by omega), qf_un z, qf_un z, qf_un z]
    exact h k (by omega)
theorem qf_SL_0 (d : Nat) (fA fB fC : Nat → Int32) : qf_SL d [] fA fB fC := fun _ h => absurd h (Nat.not_lt_zero _)
theorem qf_row_len (d x : Int) : ∀ {m M : Nat}, m ≤ M → (qf_row d x m).length ≤ (qf_row d x M).length := by
  intro m M h
  induction h with
  | refl => exact Nat.le_refl _
  | step _ ih =>
    rw [qf_row, List.length_append]
    omega
theorem qf_all_len (d : Int) : ∀ {m M : Nat}, m ≤ M → (qf_all d m).length ≤ (qf_all d M).length := by
  intro m M h
  induction h with
  | refl => exact Nat.le_refl _
  | step _ ih =>
    rw [qf_all, List.length_append]
    omega
theorem qf_len_lt {d : Nat} (v : qf_V d) {k m : Nat} (hk : k < 11) (hm : m ≤ 2 * (k + 1)) : (qf_all d k ++ qf_row d (k + 1) m).length < 64 := by
  have h1 := qf_row_len d (k + 1) hm
  have h2 := qf_all_len d (show k + 1 ≤ 11 by omega)
  rw [qf_all, List.length_append, qf_vall v] at h2
  have h3 := (qf_vh v).2
  unfold qf_h at h3
  rw [List.length_append]
  omega
theorem qf_row_nil {d x : Int} (h : d < 3 * x * x) : ∀ m, qf_row d x m = [] := by
  intro m
  induction m with
  | zero => rfl
  | succ m ih =>
    rw [qf_row, ih]
    have : qf_gd d x (1 - x + m) = false := by
      unfold qf_gd
      rw [decide_eq_false (by omega)]
      rfl
    rw [this]
    rfl
theorem qf_all_end {d : Int} {k : Nat} (h : d < 3 * ((k : Int) + 1) * ((k : Int) + 1)) : ∀ {K : Nat}, k ≤ K → qf_all d K = qf_all d k := by
  intro K hK
  induction hK with
  | refl => rfl
  | step hm ih =>
    rename_i m
    have hm : k ≤ m := hm
    rw [qf_all, ih, qf_row_nil, List.append_nil]
    have h1 := Int.mul_le_mul (a := 3 * ((k : Int) + 1)) (b := (k : Int) + 1) (c := 3 * ((m : Int) + 1)) (d := (m : Int) + 1) (by omega) (by omega) (by omega) (by omega)
    omega
theorem qf_gd_iff {d x y : Int} (h3 : 3 * x * x ≤ d) : qf_gd d x y = true ↔ qf_ok d x y = true ∧ x ≤ qf_c d x y ∧ (x < qf_c d x y ∨ 0 ≤ y) := by
  unfold qf_gd
  rw [Bool.and_eq_true, Bool.and_eq_true, Bool.and_eq_true, Bool.or_eq_true, decide_eq_true_eq, decide_eq_true_eq, decide_eq_true_eq, decide_eq_true_eq]
  exact ⟨fun t => t.2, fun t => ⟨h3, t⟩⟩
theorem qf_ok_iff {d x y : Int} : qf_ok d x y = true ↔ (y * y + d) % (4 * x) = 0 ∧ qf_g3 x y (qf_c d x y) = 1 := by
  unfold qf_ok
  rw [Bool.and_eq_true, decide_eq_true_eq, decide_eq_true_eq]
/-- ranges of c -/
theorem qf_c_rng {d a b : Int} (hd : 0 ≤ d) (ha : 0 < a) : 0 ≤ qf_c d a b ∧ qf_c d a b ≤ b * b + d := by
  have := zz_sq b
  exact ⟨Int.ediv_nonneg (by omega) (by omega), Int.ediv_le_self _ (by omega)⟩
section
variable {f_d : Int32} {f_count : Int32} {f_a : Int64} {f_b : Int64} {f_c : Int64} {f_divisor : Int64} {f_one : Int64} {f_other : Int64} {a_formA : Nat → Int32} {a_formB : Nat → Int32} {a_formC : Nat → Int32}
theorem xw_a56 (post : SX → Prop) (d n : Nat) (x y c : Int) (hx : 0 < x ∧ x ≤ 11) (hy : -11 ≤ y ∧ y ≤ 11) (hc : 0 ≤ c ∧ c ≤ 1000) (hn : n < 64) (h1 : qf_g3 x y c = 1 → post (nI d, nI (n + 1), f_a, f_b, f_c, f_divisor, f_one, f_other, upd a_formA n (zz_i x), upd a_formB n (zz_i y), upd a_formC n (zz_i c))) (h0 : qf_g3 x y c ≠ 1 → post (nI d, nI n, f_a, f_b, f_c, f_divisor, f_one, f_other, a_formA, a_formB, a_formC)) : wX_addReduced_56 post (zz_i x) (zz_i y) (zz_i c) 1 (nI d) (nI n) f_a f_b f_c f_divisor f_one f_other a_formA a_formB a_formC := by
  have hcl : (nI n).toNatClampNeg = n := nI_clamp (by omega)
  refine br_f (by decide) ?_
  rw [zz_i2l (by omega), zz_i2l (by omega), zz_i2l (by omega)]
  have hg : Int.gcd x y ≤ x.natAbs := Nat.gcd_le_left _ (by omega)
  have hv : vp_in (nI n) 64 := vp_in_nI hn (by decide)
  refine xw_isForm _ x y c (by omega) (by omega) (by omega) (by omega) (fun g => br_f (by decide) (br_f (nI_ge (b := 64) hn (by decide)) ?_)) (fun g => br_t rfl (h0 g))
  rw [hcl]
  exact ⟨hv, nm_e ⟨hv, nm_e ⟨hv, nm_e (nm_r (nI_1 n) (h1 g))⟩⟩⟩
theorem xw_add (post : SX → Prop) (d n : Nat) (x y : Int) (hd : d ≤ 400) (hx : 0 < x ∧ x ≤ 11) (hy : -11 ≤ y ∧ y ≤ 11) (h3 : 3 * x * x ≤ d) (hn : n < 64) (h1 : qf_gd d x y = true → post (nI d, nI (n + 1), f_a, f_b, f_c, f_divisor, f_one, f_other, upd a_formA n (zz_i x), upd a_formB n (zz_i y), upd a_formC n (zz_i (qf_c d x y)))) (h0 : ¬ qf_gd d x y = true → post (nI d, nI n, f_a, f_b, f_c, f_divisor, f_one, f_other, a_formA, a_formB, a_formC)) : wpX_addReduced post (nI d, nI n, f_a, f_b, f_c, f_divisor, f_one, f_other, a_formA, a_formB, a_formC) (zz_i x) (zz_i y) := by
  have hyy := zz_mb (p := y) (q := y) (P := 11) (Q := 11) (by omega) (by omega)
  have hy0 := zz_sq y
  have e1 : zz_i y * zz_i y + nI d = zz_i (y * y + d) := by rw [zz_nI, zz_imul, zz_iadd]
  have e2 : 4 * zz_i x = zz_i (4 * x) := zz_imul 4 x
  have hcr := qf_c_rng (d := d) (a := x) (b := y) (by omega) hx.1
  have hm := Int.emod_nonneg (y * y + d) (show 4 * x ≠ 0 by omega)
  have hm2 := Int.emod_lt_of_pos (y * y + d) (show 0 < 4 * x by omega)
  have hG := qf_gd_iff (y := y) h3
  rw [qf_ok_iff] at hG
  refine zb_nm e1 (zb_ile x 0 (fun t => absurd t (by omega)) (fun _ => ?_))
  rw [e2]
  refine ⟨zb_ine (a := 4 * x) (by omega), zb_nm (e' := zz_i (qf_c d x y)) ?_ ⟨zb_ine (a := 4 * x) (by omega), ?_⟩⟩
  · rw [zz_idiv (by omega) (by omega), Int.tdiv_eq_ediv_of_nonneg (by omega)]
    rfl
  · rw [zz_irem (by omega) (by omega), Int.tmod_eq_emod_of_nonneg (by omega)]
    refine zb_ieq ((y * y + d) % (4 * x)) 0 (fun z => ?_) (fun z => br_t rfl (h0 fun t => z (hG.mp t).1.1))
    refine zb_ilt (qf_c d x y) x (fun z1 => br_t rfl (h0 fun t => ?_)) (fun z1 => zb_ilt x (qf_c d x y) (fun z2 => ?_) (fun z2 => zb_ilt y 0 (fun z3 => br_t rfl (h0 fun t => ?_)) (fun z3 => ?_)))
    · have := (hG.mp t).2.1
      omega
    · exact xw_a56 post d n x y _ hx hy (by omega) hn (fun g => h1 (hG.mpr ⟨⟨z, g⟩, z1, Or.inl z2⟩)) (fun g => h0 fun t => g (hG.mp t).1.2)
    · have := (hG.mp t).2.2
      omega
    · exact xw_a56 post d n x y _ hx hy (by omega) hn (fun g => h1 (hG.mpr ⟨⟨z, g⟩, z1, Or.inr z3⟩)) (fun g => h0 fun t => g (hG.mp t).1.2)
theorem xw_f24 (post : SX → Prop) (J : Int32 → Int32 → Int32 → Int64 → Int64 → Int64 → Int64 → Int64 → Int64 → (Nat → Int32) → (Nat → Int32) → (Nat → Int32) → Prop) (d k : Nat) (v : qf_V d) (hk : k < 11) (h3 : 3 * ((k : Int) + 1) * ((k : Int) + 1) ≤ d) (K : ∀ fA fB fC : Nat → Int32, qf_SL d (qf_all d (k + 1)) fA fB fC → J (zz_i ((k : Int) + 1 + 1)) (nI d) (nI (qf_all d (k + 1)).length) f_a f_b f_c f_divisor f_one f_other fA fB fC) : ∀ (m m' n : Nat) (fA fB fC : Nat → Int32), m' + m = 2 * (k + 1) → m < n → qf_SL d (qf_all d k ++ qf_row d (k + 1) m') fA fB fC → wX_findClasses_24 post J (zz_i ((k : Int) + 1)) n (zz_i (1 - ((k : Int) + 1) + m')) (nI d) (nI (qf_all d k ++ qf_row d (k + 1) m').length) f_a f_b f_c f_divisor f_one f_other fA fB fC := by
  intro m
  induction m with
  | zero =>
    intro m' n fA fB fC hm hn h
    obtain ⟨n, rfl⟩ : ∃ j, n = j + 1 := ⟨n - 1, by omega⟩
    have hm' : m' = 2 * (k + 1) := by omega
    subst hm'
    exact zb_ilt ((k : Int) + 1) (1 - ((k : Int) + 1) + (2 * (k + 1) : Nat)) (fun _ => zb_nm (zz_iadd _ 1) (K fA fB fC h)) (fun t => absurd t (by omega))
  | succ m ih =>
    intro m' n fA fB fC hm hn h
    obtain ⟨n, rfl⟩ : ∃ j, n = j + 1 := ⟨n - 1, by omega⟩
    have hl := qf_len_lt v hk (show m' ≤ 2 * (k + 1) by omega)
    refine zb_ilt ((k : Int) + 1) (1 - ((k : Int) + 1) + m') (fun t => absurd t (by omega)) (fun _ => ?_)
    have en : zz_i (1 - ((k : Int) + 1) + m') + 1 = zz_i (1 - ((k : Int) + 1) + (m' + 1 : Nat)) := by
      have := zz_iadd (1 - ((k : Int) + 1) + m') 1
      rw [show 1 - ((k : Int) + 1) + m' + 1 = 1 - ((k : Int) + 1) + (m' + 1 : Nat) from by omega] at this
      exact this
    refine xw_add _ d _ ((k : Int) + 1) (1 - ((k : Int) + 1) + m') v.2.1 (by omega) (by omega) h3 hl (fun g => zb_nm en ?_) (fun g => zb_nm en ?_)
    · have er : qf_all d k ++ qf_row d ((k : Int) + 1) (m' + 1) = (qf_all d k ++ qf_row d ((k : Int) + 1) m') ++ [((k : Int) + 1, 1 - ((k : Int) + 1) + (m' : Int))] := by
        rw [qf_row, if_pos g, List.append_assoc]
      have := ih (m' + 1) n (upd fA (qf_all d k ++ qf_row d ((k : Int) + 1) m').length (zz_i ((k : Int) + 1))) (upd fB (qf_all d k ++ qf_row d ((k : Int) + 1) m').length (zz_i (1 - ((k : Int) + 1) + m'))) (upd fC (qf_all d k ++ qf_row d ((k : Int) + 1) m').length (zz_i (qf_c d ((k : Int) + 1) (1 - ((k : Int) + 1) + m')))) (by omega) (by omega) (by rw [er]; exact qf_SL_p h _ _)
      rw [er, List.length_append (bs := [_]), List.length_singleton] at this
      exact this
    · have er : qf_row d ((k : Int) + 1) (m' + 1) = qf_row d ((k : Int) + 1) m' := by
        rw [qf_row, if_neg g, List.append_nil]
      have := ih (m' + 1) n fA fB fC (by omega) (by omega) (by rw [er]; exact h)
      rw [er] at this
      exact this
theorem xw_f7 (post : SX → Prop) (d : Nat) (v : qf_V d) (K : ∀ fA fB fC : Nat → Int32, qf_S d fA fB fC → post (nI d, nI (qf_h d), f_a, f_b, f_c, f_divisor, f_one, f_other, fA, fB, fC)) : ∀ (m k n : Nat) (fA fB fC : Nat → Int32), k + m = 11 → m < n → qf_SL d (qf_all d k) fA fB fC → wX_findClasses_7 post n (zz_i ((k : Int) + 1)) (nI d) (nI (qf_all d k).length) f_a f_b f_c f_divisor f_one f_other fA fB fC := by
  intro m
  induction m with
  | zero =>
    intro k n fA fB fC hm hn h
    obtain ⟨n, rfl⟩ : ∃ j, n = j + 1 := ⟨n - 1, by omega⟩
    have hk : k = 11 := by omega
    subst hk
    have := v.2.1
    rw [qf_vall v] at h ⊢
    refine zb_ilt d (3 * 12 * 12) (fun _ => K fA fB fC h) (fun t => absurd t (by omega)) (zz_nI d)
  | succ m ih =>
    intro k n fA fB fC hm hn h
    obtain ⟨n, rfl⟩ : ∃ j, n = j + 1 := ⟨n - 1, by omega⟩
    have hv := v.2.1
    have hkk := zz_mb (p := 3 * ((k : Int) + 1)) (q := (k : Int) + 1) (P := 36) (Q := 12) (by omega) (by omega)
    have e3 : 3 * zz_i ((k : Int) + 1) * zz_i ((k : Int) + 1) = zz_i (3 * ((k : Int) + 1) * ((k : Int) + 1)) := by
      rw [show 3 * zz_i ((k : Int) + 1) = zz_i (3 * ((k : Int) + 1)) from zz_imul 3 _, zz_imul]
    refine zb_ilt d (3 * ((k : Int) + 1) * ((k : Int) + 1)) (fun t => ?_) (fun t => ?_) (zz_nI d) e3
    · have ee := qf_all_end t (show k ≤ 11 by omega)
      rw [qf_vall v] at ee
      rw [← ee] at h ⊢
      exact K fA fB fC h
    · have en : -zz_i ((k : Int) + 1) + 1 = zz_i (1 - ((k : Int) + 1) + (0 : Nat)) := by
        rw [zz_ineg]
        have := zz_iadd (-((k : Int) + 1)) 1
        rw [show -((k : Int) + 1) + 1 = 1 - ((k : Int) + 1) + (0 : Nat) from by omega] at this
        exact this
      refine zb_nm en ⟨2 * (k + 1) + 1, ?_⟩
      have := xw_f24 (f_a := f_a) (f_b := f_b) (f_c := f_c) (f_divisor := f_divisor) (f_one := f_one) (f_other := f_other) post (wX_findClasses_7 post n) d k v (by omega) t (fun fA fB fC h => by
        have := ih (k + 1) n fA fB fC (by omega) (by omega) h
        exact this) (2 * (k + 1)) 0 (2 * (k + 1) + 1) fA fB fC (by omega) (by omega) (by rw [qf_row, List.append_nil]; exact h)
      rw [qf_row, List.append_nil] at this
      exact this
theorem xw_findClasses (post : SX → Prop) (d : Nat) (v : qf_V d) (K : ∀ fA fB fC : Nat → Int32, qf_S d fA fB fC → post (nI d, nI (qf_h d), f_a, f_b, f_c, f_divisor, f_one, f_other, fA, fB, fC)) : wpX_findClasses post (nI d, f_count, f_a, f_b, f_c, f_divisor, f_one, f_other, a_formA, a_formB, a_formC) :=
  ⟨12, xw_f7 post d v K 11 0 12 a_formA a_formB a_formC (by omega) (by omega) (qf_SL_0 _ _ _ _)⟩
end
end
section
/-! the kind of a form: the component -/
theorem qf_fin_eq {d a b : Int} (h : ¬ qf_c d a (qf_sh a b) < a) {n : Nat} {r : Int × Int} (e : qf_run d (n + 1) a b = some r) : r = (a, qf_fin d a (qf_sh a b)) := by
  rw [qf_run, if_neg h] at e
  exact (Option.some.inj e).symm
theorem qf_run_step {d a b : Int} (h : qf_c d a (qf_sh a b) < a) {n : Nat} {r : Int × Int} (e : qf_run d (n + 1) a b = some r) : 0 < qf_c d a (qf_sh a b) ∧ qf_run d n (qf_c d a (qf_sh a b)) (-(qf_sh a b)) = some r := by
  rw [qf_run, if_pos h] at e
  by_cases z : 0 < qf_c d a (qf_sh a b)
  · rw [if_pos z] at e
    exact ⟨z, e⟩
  · rw [if_neg z] at e
    exact absurd e nofun
theorem qf_floor {x y : Int} (hy : 0 < y) : x / y = if x < 0 then (if x.tdiv y * y = x then x.tdiv y else x.tdiv y - 1) else x.tdiv y := by
  by_cases h : x < 0
  · rw [if_pos h]
    have e := Int.mul_tdiv_add_tmod x y
    have r2 : -y < x.tmod y ∧ x.tmod y ≤ 0 := by
      have e2 := Int.neg_tmod (-x) y
      rw [Int.neg_neg] at e2
      have h1 := Int.tmod_nonneg y (show 0 ≤ -x by omega)
      have h2 := Int.tmod_lt_of_pos (-x) hy
      omega
    have e3 : x.tdiv y * y = y * x.tdiv y := Int.mul_comm _ _
    by_cases z : x.tdiv y * y = x
    · rw [if_pos z]
      exact ((Int.ediv_emod_unique (r := 0) (q := x.tdiv y) hy).mpr ⟨by omega, by omega, hy⟩).1
    · rw [if_neg z]
      refine ((Int.ediv_emod_unique (r := x.tmod y + y) (q := x.tdiv y - 1) hy).mpr ⟨?_, by omega, by omega⟩).1
      rw [Int.mul_sub]
      omega
  · rw [if_neg h]
    exact (Int.tdiv_eq_ediv_of_nonneg (by omega)).symm
theorem qf_shX {a b : Int} (ha : 0 < a) : b + 2 * a * ((a - b) / (2 * a)) = qf_sh a b := by
  refine (qf_sh_eq (k := (a - b) / (2 * a)) ha ?_ rfl).symm
  have h := Int.emod_add_mul_ediv (a - b) (2 * a)
  have h1 := Int.emod_nonneg (a - b) (show 2 * a ≠ 0 by omega)
  have h2 := Int.emod_lt_of_pos (a - b) (show 0 < 2 * a by omega)
  omega
theorem qf_c_b {d a b : Int} (hd : 0 ≤ d ∧ d ≤ 400) (ha : 0 < a ∧ a < 1000000) : 0 ≤ qf_c d a (qf_sh a b) ∧ qf_c d a (qf_sh a b) < 2000000000000 ∧ qf_sh a b * qf_sh a b ≤ 1000000000000 := by
  have hr := qf_sh_rng b ha.1
  have h := qf_c_rng (b := qf_sh a b) hd.1 ha.1
  have hm := zz_mb (p := qf_sh a b) (q := qf_sh a b) (P := 1000000) (Q := 1000000) (by omega) (by omega)
  omega
section
variable {f_d : Int32} {f_count : Int32} {f_a : Int64} {f_b : Int64} {f_c : Int64} {f_divisor : Int64} {f_one : Int64} {f_other : Int64} {a_formA : Nat → Int32} {a_formB : Nat → Int32} {a_formC : Nat → Int32}
theorem xw_find3 (post : Int32 → Prop) (d : Nat) (v : qf_V d) (hS : qf_S d a_formA a_formB a_formC) (k : Nat) (hk : k < qf_h d) (h : post (nI k)) : ∀ m i n : Nat, i + m = k → m < n → wX_find_3 post (zz_l (qf_A d k)) (zz_l (qf_B d k)) (nI d) (nI (qf_h d)) f_a f_b f_c f_divisor f_one f_other a_formA a_formB a_formC n (nI i) := by
  have hh := (qf_vh v).2
  intro m
  induction m with
  | zero =>
    intro i n hi hn
    obtain ⟨n, rfl⟩ : ∃ j, n = j + 1 := ⟨n - 1, by omega⟩
    have : i = k := by omega
    subst this
    have hcl : (nI i).toNatClampNeg = i := nI_clamp (by omega)
    obtain ⟨s1, s2, _⟩ := hS i hk
    obtain ⟨⟨f1, f2⟩, ⟨f3, f4⟩, _⟩ := qf_vfm v hk
    have hv : vp_in (nI i) 64 := vp_in_nI (by omega) (by decide)
    refine br_f (nI_ge hk (by omega)) ⟨hv, br_t ?_ ⟨hv, br_t ?_ h⟩⟩
    · rw [hcl, s1]
      exact zz_i2l (show -2000000000 < qf_A d i ∧ qf_A d i < 2000000000 by omega)
    · rw [hcl, s2]
      exact zz_i2l (show -2000000000 < qf_B d i ∧ qf_B d i < 2000000000 by omega)
  | succ m ih =>
    intro i n hi hn
    obtain ⟨n, rfl⟩ : ∃ j, n = j + 1 := ⟨n - 1, by omega⟩
    have hi' : i < qf_h d := by omega
    have hcl : (nI i).toNatClampNeg = i := nI_clamp (by omega)
    obtain ⟨s1, s2, _⟩ := hS i hi'
    obtain ⟨⟨f1, f2⟩, ⟨f3, f4⟩, _⟩ := qf_vfm v hi'
    obtain ⟨⟨g1, g2⟩, ⟨g3, g4⟩, _⟩ := qf_vfm v hk
    have hv : vp_in (nI i) 64 := vp_in_nI (by omega) (by decide)
    have e1 : (a_formA (nI i).toNatClampNeg).toInt64 = zz_l (qf_A d i) := by
      rw [hcl, s1]
      exact zz_i2l (show -2000000000 < qf_A d i ∧ qf_A d i < 2000000000 by omega)
    have e2 : (a_formB (nI i).toNatClampNeg).toInt64 = zz_l (qf_B d i) := by
      rw [hcl, s2]
      exact zz_i2l (show -2000000000 < qf_B d i ∧ qf_B d i < 2000000000 by omega)
    have nx := ih (i + 1) n (by omega) (by omega)
    refine br_f (nI_ge hi' (by omega)) ⟨hv, zb_leq (qf_A d i) (qf_A d k) (fun t1 => ⟨hv, zb_leq (qf_B d i) (qf_B d k) (fun t2 => ?_) (fun _ => nm_r (nI_1 i) nx) e2⟩) (fun _ => nm_r (nI_1 i) nx) e1⟩
    have := qf_vdis v hi' hk t1 t2
    omega
theorem xw_find (post : Int32 → Prop) (d : Nat) (v : qf_V d) (hS : qf_S d a_formA a_formB a_formC) (k : Nat) (hk : k < qf_h d) (h : post (nI k)) : wpX_find post (nI d, nI (qf_h d), f_a, f_b, f_c, f_divisor, f_one, f_other, a_formA, a_formB, a_formC) (zz_l (qf_A d k)) (zz_l (qf_B d k)) :=
  ⟨k + 1, xw_find3 post d v hS k hk h k 0 (k + 1) (by omega) (by omega)⟩
theorem xw_floor (post : Int64 → Prop) (x y : Int) (hx : -1000000000000000000 < x ∧ x < 1000000000000000000) (hy : 0 < y ∧ y < 1000000000000000000) (h : post (zz_l (x / y))) : wpX_floor post (f_d, f_count, f_a, f_b, f_c, f_divisor, f_one, f_other, a_formA, a_formB, a_formC) (zz_l x) (zz_l y) := by
  refine zb_lle y 0 (fun t => absurd t (by omega)) (fun _ => ⟨zb_lne (a := y) (by omega), ?_⟩)
  rw [zz_ldiv (by omega) (by omega)]
  rw [qf_floor hy.1] at h
  have e := Int.mul_tdiv_add_tmod x y
  refine zb_lle 0 x (fun t => ?_) (fun t => ?_)
  · rw [if_neg (by omega)] at h
    exact h
  · rw [if_pos t] at h
    have e2 := Int.neg_tmod (-x) y
    rw [Int.neg_neg] at e2
    have h1 := Int.tmod_nonneg y (show 0 ≤ -x by omega)
    have h2 := Int.tmod_lt_of_pos (-x) hy.1
    have e3 : x.tdiv y * y = y * x.tdiv y := Int.mul_comm _ _
    refine zb_leq (x.tdiv y * y) x (fun z => ?_) (fun z => ?_) (zz_lmul _ _)
    · rw [if_pos z] at h
      exact h
    · rw [if_neg z] at h
      rw [show zz_l (x.tdiv y) - 1 = zz_l (x.tdiv y - 1) from zz_lsub _ 1]
      exact h
theorem xw_shift (post : SX → Prop) (d : Nat) (a b : Int) (hd : d ≤ 400) (ha : 0 < a ∧ a < 1000000) (hb : -1000000 < b ∧ b < 1000000) (h : post (nI d, f_count, zz_l a, zz_l (qf_sh a b), zz_l (qf_c d a (qf_sh a b)), f_divisor, f_one, f_other, a_formA, a_formB, a_formC)) : wpX_shift post (nI d, f_count, zz_l a, zz_l b, f_c, f_divisor, f_one, f_other, a_formA, a_formB, a_formC) := by
  have hq := qf_c_b (d := d) (b := b) (by omega) ha
  have hs0 := zz_sq (qf_sh a b)
  refine zb_lle a 0 (fun t => absurd t (by omega)) (fun _ => ?_)
  rw [show 2 * zz_l a = zz_l (2 * a) from zz_lmul 2 a]
  unfold wX_shift_21
  rw [zz_lsub]
  refine xw_floor _ (a - b) (2 * a) (by omega) (by omega) (zb_nm (e' := zz_l (qf_sh a b)) ?_ ?_)
  · rw [zz_lmul, zz_ladd, qf_shX ha.1]
  · rw [show 2 * zz_l (2 * a) = zz_l (4 * a) from by rw [show 2 * zz_l (2 * a) = zz_l (2 * (2 * a)) from zz_lmul 2 _]; exact congrArg zz_l (by omega)]
    refine ⟨zb_lne (a := 4 * a) (by omega), zb_nm (e' := zz_l (qf_c d a (qf_sh a b))) ?_ h⟩
    rw [zz_nI, zz_i2l (by omega), zz_lmul, zz_ladd, zz_ldiv (by omega) (by omega), Int.tdiv_eq_ediv_of_nonneg (by omega)]
    rfl
theorem xw_r61 (post : Int32 → SX → Prop) (d : Nat) (v : qf_V d) (hS : qf_S d a_formA a_formB a_formC) (a b : Int) (ha : 0 < a ∧ a < 1000000) (k : Nat) (hk : k < qf_h d) (hr : qf_F d k = (a, qf_fin d a (qf_sh a b))) (K : ∀ fa fb fc fd fo ft : Int64, post (nI k) (nI d, nI (qf_h d), fa, fb, fc, fd, fo, ft, a_formA, a_formB, a_formC)) : wX_reduceWork_61 post (nI d) (nI (qf_h d)) (zz_l a) (zz_l (qf_sh a b)) (zz_l (qf_c d a (qf_sh a b))) f_divisor f_one f_other a_formA a_formB a_formC := by
  have hv := v.2.1
  have hq := qf_c_b (d := d) (b := b) (by omega) ha
  have hrg := qf_sh_rng b ha.1
  have ea : qf_A d k = a := congrArg Prod.fst hr
  have eb : qf_B d k = qf_fin d a (qf_sh a b) := congrArg Prod.snd hr
  have F := fun post h => xw_find (f_a := zz_l a) (f_c := zz_l (qf_c d a (qf_sh a b))) (f_divisor := f_divisor) (f_one := f_one) (f_other := f_other) (f_b := zz_l (qf_fin d a (qf_sh a b))) post d v hS k hk h
  rw [ea, eb] at F
  unfold qf_fin at F
  refine zb_leq a (qf_c d a (qf_sh a b)) (fun t => zb_lle 0 (qf_sh a b) (fun t2 => ?_) (fun t2 => zb_nm (zz_lneg _) ?_)) (fun t => ?_)
  · rw [if_neg (by omega)] at F
    exact F _ (K _ _ _ _ _ _)
  · rw [if_pos ⟨t, t2⟩] at F
    exact F _ (K _ _ _ _ _ _)
  · rw [if_neg (fun z => t z.1)] at F
    exact F _ (K _ _ _ _ _ _)
theorem xw_r6 (post : Int32 → SX → Prop) (d : Nat) (v : qf_V d) (hS : qf_S d a_formA a_formB a_formC) (k : Nat) (hk : k < qf_h d) (K : ∀ fa fb fc fd fo ft : Int64, post (nI k) (nI d, nI (qf_h d), fa, fb, fc, fd, fo, ft, a_formA, a_formB, a_formC)) : ∀ (m i n : Nat) (a b : Int), i + m ≤ 100 → m < n → (0 < a ∧ a < 1000000) → qf_run d (m + 1) a b = some (qf_F d k) → wX_reduceWork_6 post n (nI i) (nI d) (nI (qf_h d)) (zz_l a) (zz_l (qf_sh a b)) (zz_l (qf_c d a (qf_sh a b))) f_divisor f_one f_other a_formA a_formB a_formC := by
  have hv := v.2.1
  intro m
  induction m with
  | zero =>
    intro i n a b hi hn ha hr
    obtain ⟨n, rfl⟩ : ∃ j, n = j + 1 := ⟨n - 1, by omega⟩
    have hq := qf_c_b (d := d) (b := b) (by omega) ha
    have hc : ¬ qf_c d a (qf_sh a b) < a := fun t => absurd (qf_run_step t hr).2 (by rw [qf_run]; exact nofun)
    have W := xw_r61 (f_divisor := f_divisor) (f_one := f_one) (f_other := f_other) post d v hS a b ha k hk (qf_fin_eq hc hr) K
    exact br_c (fun _ => W) (fun _ => zb_lle a (qf_c d a (qf_sh a b)) (fun _ => W) (fun t => absurd t hc))
  | succ m ih =>
    intro i n a b hi hn ha hr
    obtain ⟨n, rfl⟩ : ∃ j, n = j + 1 := ⟨n - 1, by omega⟩
    have hq := qf_c_b (d := d) (b := b) (by omega) ha
    have hrg := qf_sh_rng b ha.1
    refine br_f (nI_ge (b := 100) (by omega) (by decide)) (zb_lle a (qf_c d a (qf_sh a b)) (fun t => ?_) (fun t => ?_))
    · exact xw_r61 (f_divisor := f_divisor) (f_one := f_one) (f_other := f_other) post d v hS a b ha k hk (qf_fin_eq (by omega) hr) K
    · obtain ⟨hc, hr2⟩ := qf_run_step t hr
      refine zb_nm (zz_lneg _) (xw_shift _ d (qf_c d a (qf_sh a b)) (-(qf_sh a b)) hv (by omega) (by omega) (nm_r (nI_1 i) ?_))
      exact ih (i + 1) n _ _ (by omega) (by omega) (by omega) hr2
theorem xw_cow (post : Int32 → SX → Prop) (d : Nat) (v : qf_V d) (hS : qf_S d a_formA a_formB a_formC) (a b : Int) (ha : 0 < a ∧ a < 1000000) (hb : -1000000 < b ∧ b < 1000000) (k : Nat) (hk : k < qf_h d) {M : Nat} (hM : M ≤ 101) (hr : qf_run d M a b = some (qf_F d k)) (K : ∀ fa fb fc fd fo ft : Int64, post (nI k) (nI d, nI (qf_h d), fa, fb, fc, fd, fo, ft, a_formA, a_formB, a_formC)) : wpX_classOfWork post (nI d, nI (qf_h d), f_a, f_b, f_c, f_divisor, f_one, f_other, a_formA, a_formB, a_formC) (zz_l a) (zz_l b) := by
  have hr2 := qf_run_le hM hr
  unfold wpX_classOfWork wpX_reduceWork
  refine xw_shift _ d a b v.2.1 ha hb ⟨101, ?_⟩
  exact xw_r6 _ d v hS k hk K 100 0 101 a b (by omega) (by omega) ha hr2
end
end
section
/-! rows of kit/rows/PURE-ROWS (pasted) -/
theorem pk_sub {a b : Nat} (h : b ≤ a) : nI a - nI b = nI (a - b) := by
  obtain ⟨c, rfl⟩ : ∃ c, a = c + b := ⟨a - b, by omega⟩
  rw [← nI_add, Int32.add_sub_cancel, Nat.add_sub_cancel]
theorem pk_mul (a b : Nat) : nI a * nI b = nI (a * b) := (Int32.ofNat_mul a b).symm
theorem pk_div {a d : Nat} (ha : a < 2 ^ 31) (h0 : 0 < d) (hd : d < 2 ^ 31) : nI a / nI d = nI (a / d) := by
  apply Int32.toInt_inj.mp
  rw [lg_idiv_nonneg (by rw [nI_toInt ha]; omega) (by rw [nI_toInt hd]; omega), nI_toInt ha, nI_toInt hd, nI_toInt (Nat.lt_of_le_of_lt (Nat.div_le_self a d) ha)]
  first | rfl | exact (Int.natCast_ediv _ _).symm
theorem pk_rem {a d : Nat} (ha : a < 2 ^ 31) (h0 : 0 < d) (hd : d < 2 ^ 31) : nI a - nI a / nI d * nI d = nI (a % d) := by
  rw [pk_div ha h0 hd, pk_mul, pk_sub (Nat.div_mul_le_self a d)]
  exact congrArg nI (by have := Nat.div_add_mod' a d; omega)
theorem pk_ix (x : Int32) {n : Nat} (hn : n < 2 ^ 31) : x < 0 ∨ nI n ≤ x ∨ ∃ j : Nat, j < n ∧ x = nI j := by
  by_cases h : x < 0
  · exact Or.inl h
  · obtain ⟨j, hj, rfl⟩ := nI_of h
    by_cases h2 : j < n
    · exact Or.inr (Or.inr ⟨j, h2, rfl⟩)
    · exact Or.inr (Or.inl (nI_le (by omega) hj))
theorem pk_le {x y : Int32} {A B : Prop} (a b : Nat) (f : a ≤ b → A) (g : b < a → B) (hx : x = nI a := by rfl) (hy : y = nI b := by rfl) (ha : a < 2 ^ 31 := by omega) (hb : b < 2 ^ 31 := by omega) : (x ≤ y → A) ∧ (¬ x ≤ y → B) := by
  subst hx hy
  rw [nI_leI ha hb]
  exact ⟨f, fun z => g (by omega)⟩
theorem pk_lt {x y : Int32} {A B : Prop} (a b : Nat) (f : a < b → A) (g : b ≤ a → B) (hx : x = nI a := by rfl) (hy : y = nI b := by rfl) (ha : a < 2 ^ 31 := by omega) (hb : b < 2 ^ 31 := by omega) : (x < y → A) ∧ (¬ x < y → B) := by
  subst hx hy
  rw [nI_ltI ha hb]
  exact ⟨f, fun z => g (by omega)⟩
theorem pk_eq {x y : Int32} {A B : Prop} (a b : Nat) (f : a = b → A) (g : a ≠ b → B) (hx : x = nI a := by rfl) (hy : y = nI b := by rfl) (ha : a < 2 ^ 31 := by omega) (hb : b < 2 ^ 31 := by omega) : (x = y → A) ∧ (¬ x = y → B) := by
  subst hx hy
  rw [nI_eq ha hb]
  exact ⟨f, g⟩
theorem pk_tn {n : Nat} (h : n < 2 ^ 32) : (nI n).toBitVec.toNat = n := Nat.mod_eq_of_lt h
theorem pk_and (x : Int32) {m : Int32} (k : Nat) (hm : m.toBitVec.toNat = 2 ^ k - 1) : x &&& m = nI (x.toBitVec.toNat % 2 ^ k) := by
  apply Int32.toBitVec_inj.mp
  apply BitVec.eq_of_toNat_eq
  rw [Int32.toBitVec_and, BitVec.toNat_and, hm, Nat.and_two_pow_sub_one_eq_mod]
  show _ = (BitVec.ofNat 32 _).toNat
  rw [BitVec.toNat_ofNat]
  exact (Nat.mod_eq_of_lt (Nat.lt_of_le_of_lt (Nat.mod_le _ _) x.toBitVec.isLt)).symm
theorem pk_andN {n : Nat} (h : n < 2 ^ 32) {m : Int32} (k : Nat) (hm : m.toBitVec.toNat = 2 ^ k - 1) : nI n &&& m = nI (n % 2 ^ k) := by
  rw [pk_and _ k hm, pk_tn h]
theorem pk_shr (a s : Int32) (k : Nat) (hs : (s.toBitVec.smod 32).toNat = k) : (a >>> s).toInt = a.toInt >>> k := by
  show (a.toBitVec.sshiftRight (s.toBitVec.smod 32).toNat).toInt = _
  rw [hs, BitVec.toInt_sshiftRight]
  rfl
theorem pk_shrN {n : Nat} (h : n < 2 ^ 31) (s : Int32) (k : Nat) (hs : (s.toBitVec.smod 32).toNat = k) : nI n >>> s = nI (n / 2 ^ k) := by
  apply Int32.toInt_inj.mp
  have h2 : n / 2 ^ k ≤ n := Nat.div_le_self _ _
  rw [pk_shr _ _ k hs, nI_toInt h, nI_toInt (by omega), Int.shiftRight_eq_div_pow]
  rfl
theorem pk_least (P : Nat → Prop) (h : ∃ k, P k) : ∃ k, P k ∧ ∀ j, j < k → ¬ P j := by
  obtain ⟨k, hk⟩ := h
  induction k using Nat.strongRecOn with
  | ind k ih =>
    by_cases e : ∃ j, j < k ∧ P j
    · obtain ⟨j, hj, pj⟩ := e
      exact ih j hj pj
    · exact ⟨k, hk, fun j hj pj => e ⟨j, hj, pj⟩⟩
end
section
/-! products: the component -/
theorem qf_tmod {x y : Int} (hy : 0 < y) : x % y = if 0 ≤ x.tmod y then x.tmod y else x.tmod y + y := by
  have e := Int.mul_tdiv_add_tmod x y
  have h2 : x.tmod y < y := Int.tmod_lt_of_pos x hy
  have h3 : -y < x.tmod y := by
    have e2 := Int.neg_tmod (-x) y
    rw [Int.neg_neg] at e2
    have h4 := Int.tmod_lt_of_pos (-x) hy
    omega
  by_cases h : 0 ≤ x.tmod y
  · rw [if_pos h]
    exact ((Int.ediv_emod_unique (r := x.tmod y) (q := x.tdiv y) hy).mpr ⟨by omega, h, h2⟩).2
  · rw [if_neg h]
    refine ((Int.ediv_emod_unique (r := x.tmod y + y) (q := x.tdiv y - 1) hy).mpr ⟨?_, by omega, by omega⟩).2
    rw [Int.mul_sub]
    omega
theorem qf_tmod_b {x y : Int} (hy : y ≠ 0) : -(y.natAbs : Int) < x.tmod y ∧ x.tmod y < y.natAbs := by
  have h1 : (x.tmod y).natAbs < y.natAbs := by
    rw [Int.natAbs_tmod]
    exact Nat.mod_lt _ (by omega)
  omega
section
variable {f_d : Int32} {f_count : Int32} {f_a : Int64} {f_b : Int64} {f_c : Int64} {f_divisor : Int64} {f_one : Int64} {f_other : Int64} {a_formA : Nat → Int32} {a_formB : Nat → Int32} {a_formC : Nat → Int32}
theorem xw_ex18 (post : SX → Prop) : ∀ (n : Nat) (p q u v s t g o w : Int), (-1000000 < p ∧ p < 1000000) → (-1000000 < q ∧ q < 1000000) → qf_ex n p q u v s t = some (g, o, w) → post (f_d, f_count, f_a, f_b, f_c, zz_l g, zz_l o, zz_l w, a_formA, a_formB, a_formC) → wX_extend_18 post f_d f_count f_a f_b f_c f_divisor f_one f_other a_formA a_formB a_formC n (zz_l p) (zz_l q) (zz_l u) (zz_l v) (zz_l s) (zz_l t) := by
  intro n
  induction n with
  | zero => intro p q u v s t g o w _ _ e; exact absurd e (by rw [qf_ex]; exact nofun)
  | succ n ih =>
    intro p q u v s t g o w hp hq e h
    rw [qf_ex] at e
    refine zb_leq q 0 (fun z => ?_) (fun z => ?_)
    · rw [if_pos z] at e
      refine zb_lle 0 p (fun z2 => ?_) (fun z2 => ?_)
      · rw [if_neg (by omega)] at e
        cases e
        exact br_t rfl (br_t rfl (br_t rfl h))
      · rw [if_pos z2] at e
        cases e
        rw [← zz_lneg, ← zz_lneg, ← zz_lneg] at h
        exact br_f (by decide) (br_f (by decide) (br_f (by decide) (nm_e h)))
    · rw [if_neg z] at e
      have hb := qf_tmod_b (x := p) z
      refine ⟨zb_lne (a := q) z, zb_nm (zz_ldiv (by omega) (by omega)) (zb_nm (e' := zz_l (p - p.tdiv q * q)) (by rw [zz_lmul, zz_lsub]) (zb_nm (e' := zz_l (u - p.tdiv q * s)) (by rw [zz_lmul, zz_lsub]) (zb_nm (e' := zz_l (v - p.tdiv q * t)) (by rw [zz_lmul, zz_lsub]) ?_)))⟩
      refine ih q _ s t _ _ g o w hq ?_ e h
      rw [zz_tm]
      omega
theorem xw_extend (post : SX → Prop) (x y g o w : Int) (hx : -1000000 < x ∧ x < 1000000) (hy : -1000000 < y ∧ y < 1000000) (e : qf_ex 40 x y 1 0 0 1 = some (g, o, w)) (h : post (f_d, f_count, f_a, f_b, f_c, zz_l g, zz_l o, zz_l w, a_formA, a_formB, a_formC)) : wpX_extend post (f_d, f_count, f_a, f_b, f_c, f_divisor, f_one, f_other, a_formA, a_formB, a_formC) (zz_l x) (zz_l y) :=
  ⟨40, xw_ex18 post 40 x y 1 0 0 1 g o w hx hy e h⟩
theorem xw_modulo (post : Int64 → Prop) (x y : Int) (hx : -1000000000000 < x ∧ x < 1000000000000) (hy : 0 < y ∧ y < 1000000) (h : post (zz_l (x % y))) : wpX_modulo post (f_d, f_count, f_a, f_b, f_c, f_divisor, f_one, f_other, a_formA, a_formB, a_formC) (zz_l x) (zz_l y) := by
  refine zb_lle y 0 (fun t => absurd t (by omega)) (fun _ => ⟨zb_lne (a := y) (by omega), ?_⟩)
  rw [zz_lrem (by omega) (by omega)]
  have hb := qf_tmod_b (x := x) (show y ≠ 0 by omega)
  rw [qf_tmod hy.1] at h
  refine zb_lle 0 (x.tmod y) (fun t => ?_) (fun t => ?_)
  · rw [if_pos t] at h
    exact h
  · rw [if_neg (by omega)] at h
    rw [zz_ladd]
    exact h
theorem xw_m90 (post : Int32 → SX → Prop) (d : Nat) (v : qf_V d) (hS : qf_S d a_formA a_formB a_formC) (j k : Nat) (hj : j < qf_h d) (hk : k < qf_h d) (a1 b1 a2 b2 o2 x1 y2 g : Int) (ha1 : 0 < a1 ∧ a1 < 100) (ha2 : 0 < a2 ∧ a2 < 100) (hb1 : -100 < b1 ∧ b1 < 100) (hb2 : -100 < b2 ∧ b2 < 100) (hg : 0 < g ∧ g < 100) (h : qf_cx2 d (a1.tdiv g) (a2.tdiv g) b2 (o2 * x1 * ((b1 - b2).tdiv 2) - y2 * qf_C d j) (qf_F d k) = true) (K : ∀ fa fb fc fd fo ft : Int64, post (nI k) (nI d, nI (qf_h d), fa, fb, fc, fd, fo, ft, a_formA, a_formB, a_formC)) : wX_multiply_90 post (nI j) (zz_l a1) (zz_l a2) (zz_l b1) (zz_l b2) (zz_l o2) (zz_l g) (nI d) (nI (qf_h d)) f_a f_b f_c f_divisor (zz_l x1) (zz_l y2) a_formA a_formB a_formC := by
  have hh := (qf_vh v).2
  simp only [qf_cx2, Bool.and_eq_true, decide_eq_true_eq] at h
  obtain ⟨h1, h2, h3, h4, h5⟩ := h
  have h5 := qf_ise h5
  have hcl : (nI j).toNatClampNeg = j := nI_clamp (by omega)
  obtain ⟨_, _, s3⟩ := hS j hj
  obtain ⟨_, _, _, ⟨f5, f6⟩, _⟩ := qf_vfm v hj
  obtain ⟨⟨f1, f2⟩, _⟩ := qf_vfm v hj
  have eC : (a_formC (nI j).toNatClampNeg).toInt64 = zz_l (qf_C d j) := by
    rw [hcl, s3]
    exact zz_i2l (show -2000000000 < qf_C d j ∧ qf_C d j < 2000000000 by omega)
  have hgn : ¬ zz_l g = 0 := zb_lne (a := g) (by omega)
  have ed1 : zz_l a1 / zz_l g = zz_l (a1.tdiv g) := zz_ldiv (by omega) (by omega)
  have ed2 : zz_l a2 / zz_l g = zz_l (a2.tdiv g) := zz_ldiv (by omega) (by omega)
  have e3 : (zz_l b1 - zz_l b2) / 2 = zz_l ((b1 - b2).tdiv 2) := by
    rw [zz_lsub]
    exact zz_ldiv (b := 2) (by omega) (by omega)
  have hP := zz_mb (p := a1.tdiv g) (q := a2.tdiv g) (P := 100) (Q := 100) (by omega) (by omega)
  have hP0 := Int.mul_pos h1.1 h2.1
  unfold wX_multiply_90
  rw [ed1, ed2, e3, eC]
  refine zb_nm (zz_lmul _ _) ⟨hgn, hgn, zb_nm (zz_lmul _ _) ⟨hgn, nm_e ⟨by decide, vp_in_nI (by omega) (by decide), zb_nm (e' := zz_l (o2 * x1 * ((b1 - b2).tdiv 2) - y2 * qf_C d j)) (by rw [zz_lmul, zz_lmul, zz_lsub]) ⟨hgn, ?_⟩⟩⟩⟩
  refine xw_modulo _ _ (a1.tdiv g) (by omega) (by omega) (zb_nm (e' := zz_l (b2 + 2 * a2.tdiv g * ((o2 * x1 * ((b1 - b2).tdiv 2) - y2 * qf_C d j) % a1.tdiv g))) ?_ ?_)
  · rw [show 2 * zz_l (a2.tdiv g) = zz_l (2 * a2.tdiv g) from zz_lmul 2 _, zz_lmul, zz_ladd]
  · exact xw_cow _ d v hS _ _ (by omega) (by omega) k hk (by omega) h5 K
theorem xw_mul (post : Int32 → SX → Prop) (d : Nat) (v : qf_V d) (hS : qf_S d a_formA a_formB a_formC) (i j : Nat) (hi : i < qf_h d) (hj : j < qf_h d) (K : ∀ fa fb fc fd fo ft : Int64, post (nI (qf_T d i j)) (nI d, nI (qf_h d), fa, fb, fc, fd, fo, ft, a_formA, a_formB, a_formC)) : wpX_multiply post (nI d, nI (qf_h d), f_a, f_b, f_c, f_divisor, f_one, f_other, a_formA, a_formB, a_formC) (nI i) (nI j) := by
  have hh := (qf_vh v).2
  have hci : (nI i).toNatClampNeg = i := nI_clamp (by omega)
  have hcj : (nI j).toNatClampNeg = j := nI_clamp (by omega)
  obtain ⟨i1, i2, _⟩ := hS i hi
  obtain ⟨j1, j2, _⟩ := hS j hj
  obtain ⟨⟨f1, f2⟩, ⟨f3, f4⟩, _⟩ := qf_vfm v hi
  obtain ⟨⟨g1, g2⟩, ⟨g3, g4⟩, _⟩ := qf_vfm v hj
  have e1 : (a_formA (nI i).toNatClampNeg).toInt64 = zz_l (qf_A d i) := by
    rw [hci, i1]
    exact zz_i2l (show -2000000000 < qf_A d i ∧ qf_A d i < 2000000000 by omega)
  have e2 : (a_formA (nI j).toNatClampNeg).toInt64 = zz_l (qf_A d j) := by
    rw [hcj, j1]
    exact zz_i2l (show -2000000000 < qf_A d j ∧ qf_A d j < 2000000000 by omega)
  have e3 : (a_formB (nI i).toNatClampNeg).toInt64 = zz_l (qf_B d i) := by
    rw [hci, i2]
    exact zz_i2l (show -2000000000 < qf_B d i ∧ qf_B d i < 2000000000 by omega)
  have e4 : (a_formB (nI j).toNatClampNeg).toInt64 = zz_l (qf_B d j) := by
    rw [hcj, j2]
    exact zz_i2l (show -2000000000 < qf_B d j ∧ qf_B d j < 2000000000 by omega)
  have vi : vp_in (nI i) 64 := vp_in_nI (by omega) (by decide)
  have vj : vp_in (nI j) 64 := vp_in_nI (by omega) (by decide)
  have h := qf_vcx v hi hj
  have hT := qf_vTlt v hi hj
  unfold qf_cx at h
  change qf_cx0 d (qf_A d i) (qf_B d i) (qf_A d j) (qf_B d j) (qf_F d (qf_T d i j)) (qf_ex 40 (qf_A d i) (qf_A d j) 1 0 0 1) = true at h
  rcases e5 : qf_ex 40 (qf_A d i) (qf_A d j) 1 0 0 1 with _ | ⟨G1, O1, O2⟩
  · rw [e5] at h
    exact absurd h Bool.false_ne_true
  · rw [e5, qf_cx0, Bool.and_eq_true, decide_eq_true_eq] at h
    obtain ⟨hG1, h⟩ := h
    rcases e6 : qf_ex 40 G1 ((qf_B d i + qf_B d j).tdiv 2) 1 0 0 1 with _ | ⟨G, X1, Y2⟩
    · rw [e6] at h
      exact absurd h Bool.false_ne_true
    · rw [e6, qf_cx1, Bool.and_eq_true, decide_eq_true_eq] at h
      obtain ⟨hG, h⟩ := h
      have hhalf : -1000000 < (qf_B d i + qf_B d j).tdiv 2 ∧ (qf_B d i + qf_B d j).tdiv 2 < 1000000 := by
        have := Int.mul_tdiv_add_tmod (qf_B d i + qf_B d j) 2
        have := qf_tmod_b (x := qf_B d i + qf_B d j) (y := 2) (by decide)
        omega
      refine ⟨vi, zb_nm e1 ⟨vj, zb_nm e2 ⟨vi, zb_nm e3 ⟨vj, zb_nm e4 ⟨by decide, zb_nm (e' := zz_l ((qf_B d i + qf_B d j).tdiv 2)) ?_ ?_⟩⟩⟩⟩⟩
      · rw [zz_ladd]
        exact zz_ldiv (b := 2) (by omega) (by omega)
      · refine xw_extend _ _ _ G1 O1 O2 (by omega) (by omega) e5 (xw_extend _ _ _ G X1 Y2 (by omega) hhalf e6 ?_)
        refine zb_lle G 0 (fun t => absurd t (by omega)) (fun _ => ?_)
        exact xw_m90 post d v hS j _ hj hT _ _ _ _ _ _ _ _ (by omega) (by omega) (by omega) (by omega) hG h K
theorem xw_inv (post : Int32 → SX → Prop) (d : Nat) (v : qf_V d) (hS : qf_S d a_formA a_formB a_formC) (i : Nat) (hi : i < qf_h d) (K : ∀ fa fb fc fd fo ft : Int64, post (nI (qf_I d i)) (nI d, nI (qf_h d), fa, fb, fc, fd, fo, ft, a_formA, a_formB, a_formC)) : wpX_inverseOf post (nI d, nI (qf_h d), f_a, f_b, f_c, f_divisor, f_one, f_other, a_formA, a_formB, a_formC) (nI i) := by
  have hh := (qf_vh v).2
  have hci : (nI i).toNatClampNeg = i := nI_clamp (by omega)
  obtain ⟨i1, i2, _⟩ := hS i hi
  obtain ⟨⟨f1, f2⟩, ⟨f3, f4⟩, _⟩ := qf_vfm v hi
  obtain ⟨k1, k2, k3⟩ := qf_vI v hi
  have e1 : (a_formA (nI i).toNatClampNeg).toInt64 = zz_l (qf_A d i) := by
    rw [hci, i1]
    exact zz_i2l (show -2000000000 < qf_A d i ∧ qf_A d i < 2000000000 by omega)
  have e3 : (-(a_formB (nI i).toNatClampNeg)).toInt64 = zz_l (-(qf_B d i)) := by
    rw [hci, i2, zz_ineg]
    exact zz_i2l (show -2000000000 < -(qf_B d i) ∧ -(qf_B d i) < 2000000000 by omega)
  have vi : vp_in (nI i) 64 := vp_in_nI (by omega) (by decide)
  refine ⟨vi, vi, ?_⟩
  rw [e1, e3]
  exact xw_cow _ d v hS _ _ (by omega) (by omega) _ k1 (by omega) k3 K
theorem qf_d4r {d : Nat} (v : qf_V d) : nI d - nI d / 4 * 4 = nI (d % 4) := pk_rem (d := 4) (by have := v.2.1; omega) (by decide) (by decide)
theorem xw_neutral (post : Int32 → SX → Prop) (d : Nat) (v : qf_V d) (hS : qf_S d a_formA a_formB a_formC) (K : ∀ fa fb fc fd fo ft : Int64, post (nI 0) (nI d, nI (qf_h d), fa, fb, fc, fd, fo, ft, a_formA, a_formB, a_formC)) : wpX_neutral post (nI d, nI (qf_h d), f_a, f_b, f_c, f_divisor, f_one, f_other, a_formA, a_formB, a_formC) := by
  have hv := v.2.1
  have hn := qf_vneu v
  refine ⟨by decide, ?_⟩
  rw [qf_d4r v]
  refine pk_eq (d % 4) 0 (fun z => ?_) (fun z => ?_)
  · rw [if_pos z] at hn
    exact xw_cow _ d v hS 1 0 (by omega) (by omega) 0 (qf_vh v).1 (by omega) hn K
  · rw [if_neg z] at hn
    exact xw_cow _ d v hS 1 1 (by omega) (by omega) 0 (qf_vh v).1 (by omega) hn K
end
end
section
/-! powers, orders, roots, squares: the component -/
theorem qf_and1 {l : Nat} (h : l ≤ 1000) : nI l &&& 1 = nI (l % 2) := pk_andN (by omega) 1 (by decide)
theorem qf_shr1 {l : Nat} (h : l ≤ 1000) : nI l >>> ((1 : Int32) &&& 31) = nI (l / 2) := pk_shrN (by omega) _ 1 (by decide)
section
variable {f_d f_count : Int32} {f_a f_b f_c f_divisor f_one f_other : Int64} {a_formA a_formB a_formC : Nat → Int32}
theorem xw_p62 (post : Int32 → SX → Prop) (J : Int32 → Int32 → Int32 → Int32 → Int32 → Int64 → Int64 → Int64 → Int64 → Int64 → Int64 → (Nat → Int32) → (Nat → Int32) → (Nat → Int32) → Prop) (d : Nat) (v : qf_V d) (hS : qf_S d a_formA a_formB a_formC) (r s l : Nat) (hs : s < qf_h d) (hl : l ≤ 1000) (K : ∀ fa fb fc fd fo ft : Int64, J (nI r) (nI (qf_T d s s)) (nI (l / 2)) (nI d) (nI (qf_h d)) fa fb fc fd fo ft a_formA a_formB a_formC) : wX_powerOf_62 post J (nI r) (nI s) (nI l) (nI d) (nI (qf_h d)) f_a f_b f_c f_divisor f_one f_other a_formA a_formB a_formC :=
  xw_mul _ d v hS s s hs hs fun fa fb fc fd fo ft => nm_r (qf_shr1 hl) (K fa fb fc fd fo ft)
theorem xw_p41 (post : Int32 → SX → Prop) (d : Nat) (v : qf_V d) (hS : qf_S d a_formA a_formB a_formC) : ∀ (n r s l : Nat) (fa fb fc fd fo ft : Int64), r < qf_h d → s < qf_h d → l ≤ 1000 → l < n → (∀ fa fb fc fd fo ft : Int64, post (nI (qf_T d r (qf_pw (qf_T d) s l))) (nI d, nI (qf_h d), fa, fb, fc, fd, fo, ft, a_formA, a_formB, a_formC)) → wX_powerOf_41 post n (nI r) (nI s) (nI l) (nI d) (nI (qf_h d)) fa fb fc fd fo ft a_formA a_formB a_formC := by
  intro n
  induction n with
  | zero => intro r s l fa fb fc fd fo ft _ _ _ h; exact absurd h (Nat.not_lt_zero _)
  | succ n ih =>
    intro r s l fa fb fc fd fo ft hr hs hl hn K
    refine pk_le l 0 (fun z => ?_) (fun z => ?_)
    · have : l = 0 := by omega
      subst this
      have e : qf_T d r (qf_pw (qf_T d) s 0) = r := (qf_vT0 v hr).2
      rw [e] at K
      exact K _ _ _ _ _ _
    · have hss := qf_vTlt v hs hs
      have e2 : qf_pw (qf_T d) (qf_T d s s) (l / 2) = qf_pw (qf_T d) s (2 * (l / 2)) := qf_pwsq v hs _
      rw [qf_and1 hl]
      refine pk_eq (l % 2) 1 (fun z1 => ?_) (fun z1 => ?_)
      · have hrs := qf_vTlt v hr hs
        refine xw_mul _ d v hS r s hr hs fun _ _ _ _ _ _ => ?_
        refine xw_p62 post _ d v hS _ s l hs hl fun _ _ _ _ _ _ => ?_
        refine ih _ _ _ _ _ _ _ _ _ hrs hss (by omega) (by omega) ?_
        have e3 : qf_T d (qf_T d r s) (qf_pw (qf_T d) (qf_T d s s) (l / 2)) = qf_T d r (qf_pw (qf_T d) s l) := by
          rw [e2, qf_vk3 v hr hs (qf_pwlt v hs _)]
          have e4 := qf_pwadd v hs 1 (2 * (l / 2))
          rw [qf_pw1 v hs, show 1 + 2 * (l / 2) = l from by omega] at e4
          rw [e4]
        rw [e3]
        exact K
      · refine xw_p62 post _ d v hS _ s l hs hl fun _ _ _ _ _ _ => ?_
        refine ih _ _ _ _ _ _ _ _ _ hr hss (by omega) (by omega) ?_
        rw [e2, show 2 * (l / 2) = l from by omega]
        exact K
/-- powers with any exponent up to 1000 -/
def qf_pwi (d i : Nat) (e : Int) : Nat := if e < 0 then qf_pw (qf_T d) (qf_I d i) e.natAbs else qf_pw (qf_T d) i e.natAbs
theorem xw_p16 (post : Int32 → SX → Prop) (d : Nat) (v : qf_V d) (hS : qf_S d a_formA a_formB a_formC) (i : Nat) (hi : i < qf_h d) (e b : Int) (he : -1000 ≤ e ∧ e ≤ 1000) (hb : b = 0 ∨ b = 1) (hn : qf_run d 50 1 b = some (qf_F d 0)) (K : ∀ fa fb fc fd fo ft : Int64, post (nI (qf_pwi d i e)) (nI d, nI (qf_h d), fa, fb, fc, fd, fo, ft, a_formA, a_formB, a_formC)) : wX_powerOf_16 post (nI i) (zz_i e) (zz_l b) 1 (nI d) (nI (qf_h d)) f_a f_b f_c f_divisor f_one f_other a_formA a_formB a_formC := by
  have h0 := (qf_vh v).1
  obtain ⟨k1, _, _⟩ := qf_vI v hi
  refine xw_cow _ d v hS 1 b (by omega) (by omega) 0 h0 (by omega) hn fun fa fb fc fd fo ft => ?_
  unfold qf_pwi at K
  refine zb_ile 0 e (fun t => ⟨e.natAbs + 1, ?_⟩) (fun t => ?_)
  · rw [if_neg (by omega)] at K
    rw [zz_nT t, show e.toNat = e.natAbs from by omega]
    refine xw_p41 post d v hS _ 0 i e.natAbs _ _ _ _ _ _ h0 hi (by omega) (by omega) ?_
    rw [(qf_vT0 v (qf_pwlt v hi _)).1]
    exact K
  · rw [if_pos t] at K
    refine xw_inv _ d v hS i hi fun fa fb fc fd fo ft => zb_nm (e' := nI e.natAbs) ?_ ⟨e.natAbs + 1, ?_⟩
    · rw [zz_ineg, zz_nI]
      exact congrArg zz_i (by omega)
    · refine xw_p41 post d v hS _ 0 (qf_I d i) e.natAbs _ _ _ _ _ _ h0 k1 (by omega) (by omega) ?_
      rw [(qf_vT0 v (qf_pwlt v k1 _)).1]
      exact K
theorem xw_powerOf (post : Int32 → SX → Prop) (d : Nat) (v : qf_V d) (hS : qf_S d a_formA a_formB a_formC) (i : Nat) (hi : i < qf_h d) (e : Int) (he : -1000 ≤ e ∧ e ≤ 1000) (K : ∀ fa fb fc fd fo ft : Int64, post (nI (qf_pwi d i e)) (nI d, nI (qf_h d), fa, fb, fc, fd, fo, ft, a_formA, a_formB, a_formC)) : wpX_powerOf post (nI d, nI (qf_h d), f_a, f_b, f_c, f_divisor, f_one, f_other, a_formA, a_formB, a_formC) (nI i) (zz_i e) := by
  have hv := v.2.1
  have hn := qf_vneu v
  refine ⟨by decide, ?_⟩
  rw [qf_d4r v]
  refine pk_eq (d % 4) 0 (fun z => ?_) (fun z => ?_)
  · rw [if_pos z] at hn
    exact xw_p16 post d v hS i hi e 0 he (Or.inl rfl) hn K
  · rw [if_neg z] at hn
    exact xw_p16 post d v hS i hi e 1 he (Or.inr rfl) hn K
theorem xw_o21 (post : Int32 → SX → Prop) (d : Nat) (v : qf_V d) (hS : qf_S d a_formA a_formB a_formC) (i : Nat) (hi : i < qf_h d) (E : Nat) (hE : E < qf_h d) (h0 : qf_pw (qf_T d) i (E + 1) = 0) (hm : ∀ j, j < E → qf_pw (qf_T d) i (j + 1) ≠ 0) (K : ∀ fa fb fc fd fo ft : Int64, post (nI (E + 1)) (nI d, nI (qf_h d), fa, fb, fc, fd, fo, ft, a_formA, a_formB, a_formC)) : ∀ (m e n : Nat) (fa fb fc fd fo ft : Int64), e + m = E → m < n → wX_order_21 post (nI i) (nI 0) n (nI (qf_pw (qf_T d) i (e + 1))) (nI (e + 1)) (nI d) (nI (qf_h d)) fa fb fc fd fo ft a_formA a_formB a_formC := by
  have hh := (qf_vh v).2
  intro m
  induction m with
  | zero =>
    intro e n fa fb fc fd fo ft he hn
    obtain ⟨n, rfl⟩ : ∃ j, n = j + 1 := ⟨n - 1, by omega⟩
    have : e = E := by omega
    subst this
    rw [h0]
    exact br_t rfl (K _ _ _ _ _ _)
  | succ m ih =>
    intro e n fa fb fc fd fo ft he hn
    obtain ⟨n, rfl⟩ : ∃ j, n = j + 1 := ⟨n - 1, by omega⟩
    have hl := qf_pwlt v hi (e + 1)
    refine br_f (fun t => hm e (by omega) ((nI_eq (by omega) (by omega)).mp t)) (br_f (nI_nlt (by omega) (by omega)) ?_)
    refine xw_mul _ d v hS _ i hl hi fun _ _ _ _ _ _ => nm_r (nI_1 (e + 1)) ?_
    exact ih (e + 1) n _ _ _ _ _ _ (by omega) (by omega)
theorem xw_ro25 (post : Int32 → SX → Prop) (d : Nat) (v : qf_V d) (hS : qf_S d a_formA a_formB a_formC) (m : Nat) (hm : m ≤ 1000) (K : ∀ fa fb fc fd fo ft : Int64, post (nI (qf_cnt (fun k => qf_pw (qf_T d) k m == 0) (qf_h d))) (nI d, nI (qf_h d), fa, fb, fc, fd, fo, ft, a_formA, a_formB, a_formC)) : ∀ (r k n : Nat) (fa fb fc fd fo ft : Int64), k + r = qf_h d → r < n → wX_roots_25 post (nI m) (nI 0) n (nI (qf_cnt (fun k => qf_pw (qf_T d) k m == 0) k)) (nI k) (nI d) (nI (qf_h d)) fa fb fc fd fo ft a_formA a_formB a_formC := by
  have hh := (qf_vh v).2
  intro r
  induction r with
  | zero =>
    intro k n fa fb fc fd fo ft he hn
    obtain ⟨n, rfl⟩ : ∃ j, n = j + 1 := ⟨n - 1, by omega⟩
    have : k = qf_h d := by omega
    subst this
    exact br_t (nI_le (Nat.le_refl _) (by omega)) (K _ _ _ _ _ _)
  | succ r ih =>
    intro k n fa fb fc fd fo ft he hn
    obtain ⟨n, rfl⟩ : ∃ j, n = j + 1 := ⟨n - 1, by omega⟩
    have hk : k < qf_h d := by omega
    have hl := qf_pwlt v hk m
    refine br_f (nI_ge hk (by omega)) ?_
    rw [zz_nI m]
    refine xw_powerOf _ d v hS k hk m (by omega) fun _ _ _ _ _ _ => ?_
    have ep : qf_pwi d k (m : Int) = qf_pw (qf_T d) k m := by
      unfold qf_pwi
      rw [if_neg (by omega), Int.natAbs_natCast]
    rw [ep, ← zz_nI m]
    refine pk_eq (qf_pw (qf_T d) k m) 0 (fun z => ?_) (fun z => ?_)
    · have ec : qf_cnt (fun k => qf_pw (qf_T d) k m == 0) (k + 1) = qf_cnt (fun k => qf_pw (qf_T d) k m == 0) k + 1 := if_pos (beq_iff_eq.mpr z)
      have := ih (k + 1) n
      rw [ec] at this
      exact nm_r (nI_1 _) (nm_r (nI_1 k) (this _ _ _ _ _ _ (by omega) (by omega)))
    · have ec : qf_cnt (fun k => qf_pw (qf_T d) k m == 0) (k + 1) = qf_cnt (fun k => qf_pw (qf_T d) k m == 0) k := if_neg (fun t => z (eq_of_beq t))
      have := ih (k + 1) n
      rw [ec] at this
      exact nm_r (nI_1 k) (this _ _ _ _ _ _ (by omega) (by omega))
theorem xw_roots (post : Int32 → SX → Prop) (d : Nat) (v : qf_V d) (hS : qf_S d a_formA a_formB a_formC) (m : Nat) (hm : 1 ≤ m ∧ m ≤ 1000) (K : ∀ fa fb fc fd fo ft : Int64, post (nI (qf_cnt (fun k => qf_pw (qf_T d) k m == 0) (qf_h d))) (nI d, nI (qf_h d), fa, fb, fc, fd, fo, ft, a_formA, a_formB, a_formC)) : wpX_roots post (nI d, nI (qf_h d), f_a, f_b, f_c, f_divisor, f_one, f_other, a_formA, a_formB, a_formC) (nI m) := by
  refine br_f (nI_nlt (b := 1) hm.1 (by omega)) (br_t (nI_le (b := 1000) hm.2 (by decide)) ?_)
  refine xw_neutral _ d v hS fun _ _ _ _ _ _ => ⟨qf_h d + 1, ?_⟩
  exact xw_ro25 post d v hS m hm.2 K (qf_h d) 0 (qf_h d + 1) _ _ _ _ _ _ (by omega) (by omega)
/-! bad classes -/
theorem xw_bad1 (post : Int32 → Prop) (h : Nat) (x : Int32) (hx : x < 0 ∨ nI h ≤ x) (hp : post 1) : wpX_badClass post (f_d, nI h, f_a, f_b, f_c, f_divisor, f_one, f_other, a_formA, a_formB, a_formC) x := by
  rcases hx with z | z
  · exact br_t z hp
  · by_cases w : x < 0
    · exact br_t w hp
    · exact br_f w (br_f (Int32.not_lt.mpr z) hp)
theorem xw_bad0 (post : Int32 → Prop) (h k : Nat) (hk : k < h) (hh : h < 1000) (hp : post 0) : wpX_badClass post (f_d, nI h, f_a, f_b, f_c, f_divisor, f_one, f_other, a_formA, a_formB, a_formC) (nI k) :=
  br_f (nI_pos (by omega)) (br_t (nI_lt hk (by omega)) hp)
end
section
variable {f_d : Int32} {f_count : Int32} {f_first : Int64} {f_middle : Int64} {a_as : Nat → Int32} {a_bs : Nat → Int32} {a_cs : Nat → Int32} {a_products : Nat → Int32}
theorem yw_bad1 (post : Int32 → Prop) (h : Nat) (x : Int32) (hx : x < 0 ∨ nI h ≤ x) (hp : post 1) : wpY_noClass post (f_d, nI h, f_first, f_middle, a_as, a_bs, a_cs, a_products) x := by
  rcases hx with z | z
  · exact br_t z hp
  · by_cases w : x < 0
    · exact br_t w hp
    · exact br_f w (br_f (Int32.not_lt.mpr z) hp)
theorem yw_bad0 (post : Int32 → Prop) (h k : Nat) (hk : k < h) (hh : h < 1000) (hp : post 0) : wpY_noClass post (f_d, nI h, f_first, f_middle, a_as, a_bs, a_cs, a_products) (nI k) :=
  br_f (nI_pos (by omega)) (br_t (nI_lt hk (by omega)) hp)
end
end
section
/-! middle numbers, numbers given, the least kind: the component -/
theorem qf_okN {d n y : Nat} : qf_ok d n y = true ↔ (y * y + d) % (4 * n) = 0 ∧ qf_g3 n y (((y * y + d) / (4 * n) : Nat) : Int) = 1 := by
  rw [qf_ok_iff]
  have e1 : ((y : Int) * y + d) = ((y * y + d : Nat) : Int) := by rw [Int.natCast_add, Int.natCast_mul]
  have e2 : (4 * (n : Int)) = ((4 * n : Nat) : Int) := by rw [Int.natCast_mul]; rfl
  unfold qf_c
  rw [e1, e2, ← Int.natCast_emod, ← Int.natCast_ediv]
  constructor
  · rintro ⟨h1, h2⟩; exact ⟨by omega, h2⟩
  · rintro ⟨h1, h2⟩; exact ⟨by omega, h2⟩
theorem qf_nr {m : Nat} (h : m ≤ 2000000) : -1000000000000000000 < (m : Int) ∧ (m : Int) < 1000000000000000000 := by omega
def qf_lst (d n y : Nat) (b : Int32) : Prop := (b = -1000001 ∧ ∀ z, z < y → ¬ qf_ok d n z = true) ∨ (∃ k, k < qf_h d ∧ b = nI k ∧ (∃ z, z < y ∧ qf_ok d n z = true ∧ qf_run d 67 n z = some (qf_F d k)) ∧ ∀ z k', z < y → k' < qf_h d → qf_ok d n z = true → qf_run d 67 n z = some (qf_F d k') → k ≤ k')
def qf_mk (d : Nat) (kk : Int32) (p : Nat → Nat → Prop) : Prop := (∃ k, k < qf_h d ∧ kk = nI k ∧ ∀ n y : Nat, p n y ↔ (qf_ok d n y = true ∧ qf_run d 67 n y = some (qf_F d k))) ∨ (kk = -1 ∧ ∀ n y : Nat, p n y ↔ qf_ok d n y = true)
theorem qf_smS (f : Nat → Nat) (n : Nat) : qf_sm f (n + 1) = qf_sm f n + f n := rfl
theorem qf_same {d : Nat} (v : qf_V d) {a b : Int} {n m i j : Nat} (hi : i < qf_h d) (hj : j < qf_h d) (h : qf_run d n a b = some (qf_F d i)) (h2 : qf_run d m a b = some (qf_F d j)) : i = j := by
  have e := qf_run_det h h2
  exact qf_vdis v hi hj (congrArg Prod.fst e) (congrArg Prod.snd e)
section
variable {f_a f_b f_c f_divisor f_one f_other : Int64} {a_formA a_formB a_formC : Nat → Int32}
theorem xw_m5 (post : Int32 → SX → Prop) (d : Nat) (v : qf_V d) (hS : qf_S d a_formA a_formB a_formC) (kk : Int32) (p : Nat → Nat → Prop) (hp : qf_mk d kk p) (n : Nat) (hn : 0 < n ∧ n ≤ 500) (K : ∀ fa fb fc fd fo ft : Int64, post (nI (qf_sm (fun y => qf_b (p n y)) (2 * n))) (nI d, nI (qf_h d), fa, fb, fc, fd, fo, ft, a_formA, a_formB, a_formC)) : ∀ (r y n' : Nat) (fa fb fc fd fo ft : Int64), y + r = 2 * n → r < n' → wX_middles_5 post kk (nI n) n' (nI (qf_sm (fun y => qf_b (p n y)) y)) (nI y) (nI d) (nI (qf_h d)) fa fb fc fd fo ft a_formA a_formB a_formC := by
  have hh := (qf_vh v).2
  have hv := v.2.1
  intro r
  induction r with
  | zero =>
    intro y n' fa fb fc fd fo ft he hn'
    obtain ⟨n', rfl⟩ : ∃ j, n' = j + 1 := ⟨n' - 1, by omega⟩
    have : y = 2 * n := by omega
    subst this
    exact pk_le (2 * n) (2 * n) (fun _ => K _ _ _ _ _ _) (fun t => absurd t (by omega)) (pk_mul 2 n)
  | succ r ih =>
    intro y n' fa fb fc fd fo ft he hn'
    obtain ⟨n', rfl⟩ : ∃ j, n' = j + 1 := ⟨n' - 1, by omega⟩
    have hyy : y * y ≤ 1000 * 1000 := Nat.mul_le_mul (by omega) (by omega)
    have e1 : nI y * nI y + nI d = nI (y * y + d) := by rw [pk_mul, nI_add]
    have e4 : 4 * nI n = nI (4 * n) := pk_mul 4 n
    have hN : ∀ fa fb fc fd fo ft : Int64, ¬ p n y → ∀ z, z = nI y + 1 → wX_middles_5 post kk (nI n) n' (nI (qf_sm (fun y => qf_b (p n y)) y)) z (nI d) (nI (qf_h d)) fa fb fc fd fo ft a_formA a_formB a_formC := by
      intro fa fb fc fd fo ft hq
      refine nm_r (nI_1 y) ?_
      have := ih (y + 1) n' fa fb fc fd fo ft (by omega) (by omega)
      rw [qf_smS, qf_b_f hq, Nat.add_zero] at this
      exact this
    have hY : ∀ fa fb fc fd fo ft : Int64, p n y → ∀ w, w = nI (qf_sm (fun y => qf_b (p n y)) y) + 1 → ∀ z, z = nI y + 1 → wX_middles_5 post kk (nI n) n' w z (nI d) (nI (qf_h d)) fa fb fc fd fo ft a_formA a_formB a_formC := by
      intro fa fb fc fd fo ft hq
      refine nm_r (nI_1 _) (nm_r (nI_1 y) ?_)
      have := ih (y + 1) n' fa fb fc fd fo ft (by omega) (by omega)
      rw [qf_smS, qf_b_t hq] at this
      exact this
    have hnok : ¬ qf_ok d n y = true → ¬ p n y := by
      intro t q
      rcases hp with ⟨k, _, _, hp⟩ | ⟨_, hp⟩
      · exact t ((hp n y).mp q).1
      · exact t ((hp n y).mp q)
    have hc1 : (y * y + d) / (4 * n) ≤ y * y + d := Nat.div_le_self _ _
    refine pk_le (2 * n) y (fun t => absurd t (by omega)) (fun _ => nm_r e1 ?_) (pk_mul 2 n)
    rw [e4, pk_rem (by omega) (by omega) (by omega), pk_div (by omega) (by omega) (by omega), nI_l (n := n) (by omega), nI_l (n := y) (by omega), nI_l (n := (y * y + d) / (4 * n)) (by omega), zz_lN, zz_lN, zz_lN]
    have h4n : ¬ nI (4 * n) = 0 := nI_ne0 (by omega) (by omega)
    have hg : Int.gcd n y ≤ (n : Int).natAbs := Nat.gcd_le_left _ (by omega)
    refine ⟨h4n, pk_eq ((y * y + d) % (4 * n)) 0 (fun z => ⟨h4n, ?_⟩) (fun z => hN _ _ _ _ _ _ (hnok fun t => z (qf_okN.mp t).1)) rfl rfl (by have := Nat.mod_lt (y * y + d) (show 4 * n > 0 by omega); omega)⟩
    refine xw_isForm _ n y _ (by omega) (by omega) (qf_nr (Nat.le_trans hc1 (by omega))) (by omega) (fun g => br_f (by decide) ?_) (fun g => br_t rfl (hN _ _ _ _ _ _ (hnok fun t => g (qf_okN.mp t).2)))
    have hok : qf_ok d n y = true := qf_okN.mpr ⟨z, g⟩
    rcases id hp with ⟨k, hk, rfl, hp'⟩ | ⟨rfl, hp'⟩
    · obtain ⟨k', hk', hr⟩ := qf_cls v (a := n) (b := y) (by omega) (by omega) hok
      refine br_t (nI_pos' (by omega)) (xw_cow _ d v hS n y (by omega) (by omega) k' hk' (by omega) hr fun _ _ _ _ _ _ => ?_)
      refine pk_eq k' k (fun t => ?_) (fun t => ?_)
      · subst t
        exact hY _ _ _ _ _ _ ((hp' n y).mpr ⟨hok, hr⟩)
      · exact hN _ _ _ _ _ _ fun q => t (qf_same v hk' hk hr ((hp' n y).mp q).2)
    · exact br_f (by decide) (br_t rfl (hY _ _ _ _ _ _ ((hp' n y).mpr hok)))
theorem xw_middles (post : Int32 → SX → Prop) (d : Nat) (v : qf_V d) (hS : qf_S d a_formA a_formB a_formC) (kk : Int32) (p : Nat → Nat → Prop) (hp : qf_mk d kk p) (n : Nat) (hn : 0 < n ∧ n ≤ 500) (K : ∀ fa fb fc fd fo ft : Int64, post (nI (qf_sm (fun y => qf_b (p n y)) (2 * n))) (nI d, nI (qf_h d), fa, fb, fc, fd, fo, ft, a_formA, a_formB, a_formC)) : wpX_middles post (nI d, nI (qf_h d), f_a, f_b, f_c, f_divisor, f_one, f_other, a_formA, a_formB, a_formC) kk (nI n) :=
  ⟨2 * n + 1, xw_m5 post d v hS kk p hp n hn K (2 * n) 0 (2 * n + 1) _ _ _ _ _ _ (by omega) (by omega)⟩
theorem xw_turns (post : Int32 → Prop) (d : Nat) (v : qf_V d) (h : post (nI (qf_w d))) : wpX_turns post (nI d, nI (qf_h d), f_a, f_b, f_c, f_divisor, f_one, f_other, a_formA, a_formB, a_formC) := by
  have hv := v.2.1
  unfold qf_w at h
  refine pk_eq d 3 (fun z => ?_) (fun z => pk_eq d 4 (fun z2 => ?_) (fun z2 => ?_))
  · rw [if_pos z] at h
    exact h
  · rw [if_neg z, if_pos z2] at h
    exact h
  · rw [if_neg z, if_neg z2] at h
    exact h
theorem qf_gq_end {w n i : Nat} {M : Nat → Nat} (hn : 0 < n) (hi : i ≤ 22) (h : n < (i + 1) * (i + 1)) : qf_sm (qf_gq w M n) 22 = qf_sm (qf_gq w M n) i := by
  refine qf_sm_x hi fun j hj _ => ?_
  have h2 : (i + 1) * (i + 1) ≤ (j + 1) * (j + 1) := Nat.mul_le_mul (by omega) (by omega)
  refine if_neg ?_
  rw [Nat.mod_eq_of_lt (by omega)]
  omega
theorem xw_g5 (post : Int32 → SX → Prop) (d : Nat) (v : qf_V d) (hS : qf_S d a_formA a_formB a_formC) (kk : Int32) (p : Nat → Nat → Prop) (hp : qf_mk d kk p) (n : Nat) (hn : 0 < n ∧ n ≤ 500) (K : ∀ fa fb fc fd fo ft : Int64, post (nI (qf_sm (qf_gq (qf_w d) (fun m => qf_sm (fun y => qf_b (p m y)) (2 * m)) n) 22)) (nI d, nI (qf_h d), fa, fb, fc, fd, fo, ft, a_formA, a_formB, a_formC)) : ∀ (r i n' : Nat) (fa fb fc fd fo ft : Int64), i + r = 22 → r < n' → wX_givesWithSquares_5 post kk (nI n) n' (nI (qf_sm (qf_gq (qf_w d) (fun m => qf_sm (fun y => qf_b (p m y)) (2 * m)) n) i)) (nI (i + 1)) (nI d) (nI (qf_h d)) fa fb fc fd fo ft a_formA a_formB a_formC := by
  intro r
  induction r with
  | zero =>
    intro i n' fa fb fc fd fo ft he hn'
    obtain ⟨n', rfl⟩ : ∃ j, n' = j + 1 := ⟨n' - 1, by omega⟩
    have : i = 22 := by omega
    subst this
    exact pk_lt n (23 * 23) (fun _ => K _ _ _ _ _ _) (fun t => absurd t (by omega))
  | succ r ih =>
    intro i n' fa fb fc fd fo ft he hn'
    obtain ⟨n', rfl⟩ : ∃ j, n' = j + 1 := ⟨n' - 1, by omega⟩
    have hii : (i + 1) * (i + 1) ≤ 23 * 23 := Nat.mul_le_mul (by omega) (by omega)
    have hi0 : 0 < (i + 1) * (i + 1) := Nat.mul_pos (by omega) (by omega)
    have e1 : nI (i + 1) * nI (i + 1) = nI ((i + 1) * (i + 1)) := pk_mul _ _
    have hnz : ¬ nI ((i + 1) * (i + 1)) = 0 := nI_ne0 hi0 (by omega)
    refine pk_lt n ((i + 1) * (i + 1)) (fun t => ?_) (fun t => ?_) rfl e1
    · rw [qf_gq_end hn.1 (by omega) t] at K
      exact K _ _ _ _ _ _
    · rw [e1, pk_rem (by omega) hi0 (by omega), pk_div (by omega) hi0 (by omega)]
      have := Nat.mod_lt n hi0
      refine ⟨hnz, pk_eq (n % ((i + 1) * (i + 1))) 0 (fun z => ?_) (fun z => ?_)⟩
      · refine xw_turns _ d v ⟨hnz, ?_⟩
        have hm : 0 < n / ((i + 1) * (i + 1)) := Nat.div_pos t hi0
        have hm5 : n / ((i + 1) * (i + 1)) ≤ n := Nat.div_le_self _ _
        refine xw_middles _ d v hS kk p hp _ ⟨hm, by omega⟩ fun _ _ _ _ _ _ => ?_
        have eg : qf_gq (qf_w d) (fun m => qf_sm (fun y => qf_b (p m y)) (2 * m)) n i = qf_w d * qf_sm (fun y => qf_b (p (n / ((i + 1) * (i + 1))) y)) (2 * (n / ((i + 1) * (i + 1)))) := if_pos z
        have := ih (i + 1) n'
        rw [qf_smS, eg] at this
        exact nm_r (by rw [pk_mul, nI_add]) (nm_r (nI_1 (i + 1)) (this _ _ _ _ _ _ (by omega) (by omega)))
      · have eg : qf_gq (qf_w d) (fun m => qf_sm (fun y => qf_b (p m y)) (2 * m)) n i = 0 := if_neg z
        have := ih (i + 1) n'
        rw [qf_smS, eg, Nat.add_zero] at this
        exact nm_r (nI_1 (i + 1)) (this _ _ _ _ _ _ (by omega) (by omega))
theorem xw_gws (post : Int32 → SX → Prop) (d : Nat) (v : qf_V d) (hS : qf_S d a_formA a_formB a_formC) (kk : Int32) (p : Nat → Nat → Prop) (hp : qf_mk d kk p) (n : Nat) (hn : 0 < n ∧ n ≤ 500) (K : ∀ fa fb fc fd fo ft : Int64, post (nI (qf_sm (qf_gq (qf_w d) (fun m => qf_sm (fun y => qf_b (p m y)) (2 * m)) n) 22)) (nI d, nI (qf_h d), fa, fb, fc, fd, fo, ft, a_formA, a_formB, a_formC)) : wpX_givesWithSquares post (nI d, nI (qf_h d), f_a, f_b, f_c, f_divisor, f_one, f_other, a_formA, a_formB, a_formC) kk (nI n) :=
  ⟨23, xw_g5 post d v hS kk p hp n hn K 22 0 23 _ _ _ _ _ _ (by omega) (by omega)⟩
theorem xw_l16 (post : Int32 → SX → Prop) (d : Nat) (v : qf_V d) (hS : qf_S d a_formA a_formB a_formC) (n : Nat) (hn : 0 < n ∧ n ≤ 500) (K : ∀ b, qf_lst d n (2 * n) b → ∀ fa fb fc fd fo ft : Int64, post b (nI d, nI (qf_h d), fa, fb, fc, fd, fo, ft, a_formA, a_formB, a_formC)) : ∀ (r y n' : Nat) (b : Int32) (fa fb fc fd fo ft : Int64), y + r = 2 * n → r < n' → qf_lst d n y b → wX_least_16 post (nI n) n' b (nI y) (nI d) (nI (qf_h d)) fa fb fc fd fo ft a_formA a_formB a_formC := by
  have hh := (qf_vh v).2
  have hv := v.2.1
  intro r
  induction r with
  | zero =>
    intro y n' b fa fb fc fd fo ft he hn' hb
    obtain ⟨n', rfl⟩ : ∃ j, n' = j + 1 := ⟨n' - 1, by omega⟩
    have : y = 2 * n := by omega
    subst this
    exact pk_le (2 * n) (2 * n) (fun _ => K b hb _ _ _ _ _ _) (fun t => absurd t (by omega)) (pk_mul 2 n)
  | succ r ih =>
    intro y n' b fa fb fc fd fo ft he hn' hb
    obtain ⟨n', rfl⟩ : ∃ j, n' = j + 1 := ⟨n' - 1, by omega⟩
    have hyy : y * y ≤ 1000 * 1000 := Nat.mul_le_mul (by omega) (by omega)
    have e1 : nI y * nI y + nI d = nI (y * y + d) := by rw [pk_mul, nI_add]
    have e4 : 4 * nI n = nI (4 * n) := pk_mul 4 n
    have hN : ¬ qf_ok d n y = true → qf_lst d n (y + 1) b := by
      intro hq
      rcases hb with ⟨h1, h2⟩ | ⟨k, h1, h2, ⟨z, h3, h4⟩, h5⟩
      · refine Or.inl ⟨h1, fun z hz => ?_⟩
        by_cases t : z = y
        · rw [t]; exact hq
        · exact h2 z (by omega)
      · refine Or.inr ⟨k, h1, h2, ⟨z, by omega, h4⟩, fun z k' hz hk' ho hr => ?_⟩
        by_cases t : z = y
        · rw [t] at ho; exact absurd ho hq
        · exact h5 z k' (by omega) hk' ho hr
    have hc1 : (y * y + d) / (4 * n) ≤ y * y + d := Nat.div_le_self _ _
    refine pk_le (2 * n) y (fun t => absurd t (by omega)) (fun _ => nm_r e1 ?_) (pk_mul 2 n)
    rw [e4, pk_rem (by omega) (by omega) (by omega), pk_div (by omega) (by omega) (by omega), nI_l (n := n) (by omega), nI_l (n := y) (by omega), nI_l (n := (y * y + d) / (4 * n)) (by omega), zz_lN, zz_lN, zz_lN]
    have h4n : ¬ nI (4 * n) = 0 := nI_ne0 (by omega) (by omega)
    have hg : Int.gcd n y ≤ (n : Int).natAbs := Nat.gcd_le_left _ (by omega)
    refine ⟨h4n, pk_eq ((y * y + d) % (4 * n)) 0 (fun z => ⟨h4n, ?_⟩) (fun z => nm_r (nI_1 y) (ih (y + 1) n' b _ _ _ _ _ _ (by omega) (by omega) (hN fun t => z (qf_okN.mp t).1))) rfl rfl (by have := Nat.mod_lt (y * y + d) (show 4 * n > 0 by omega); omega)⟩
    refine xw_isForm _ n y _ (by omega) (by omega) (qf_nr (Nat.le_trans hc1 (by omega))) (by omega) (fun g => br_f (by decide) ?_) (fun g => br_t rfl (nm_r (nI_1 y) (ih (y + 1) n' b _ _ _ _ _ _ (by omega) (by omega) (hN fun t => g (qf_okN.mp t).2))))
    have hok : qf_ok d n y = true := qf_okN.mpr ⟨z, g⟩
    obtain ⟨k', hk', hr⟩ := qf_cls v (a := n) (b := y) (by omega) (by omega) hok
    refine xw_cow _ d v hS n y (by omega) (by omega) k' hk' (by omega) hr fun _ _ _ _ _ _ => ?_
    rcases hb with ⟨rfl, h2⟩ | ⟨k, h1, rfl, ⟨z1, h3, h4⟩, h5⟩
    · refine br_t rfl (nm_r (nI_1 y) (ih (y + 1) n' _ _ _ _ _ _ _ (by omega) (by omega) ?_))
      refine Or.inr ⟨k', hk', rfl, ⟨y, by omega, hok, hr⟩, fun z1 k2 hz hk2 ho hr2 => ?_⟩
      by_cases t : z1 = y
      · subst t
        rw [qf_same v hk' hk2 hr hr2]
        exact Nat.le_refl _
      · exact absurd ho (h2 z1 (by omega))
    · have hne : ¬ nI k = -1000001 := by
        have hi : (nI k).toInt = (k : Int) := nI_toInt (by omega)
        have hm : ((-1000001 : Int32)).toInt = -1000001 := by decide
        intro t
        rw [t, hm] at hi
        omega
      refine br_f hne (pk_le k k' (fun t => nm_r (nI_1 y) (ih (y + 1) n' _ _ _ _ _ _ _ (by omega) (by omega) ?_)) (fun t => nm_r (nI_1 y) (ih (y + 1) n' _ _ _ _ _ _ _ (by omega) (by omega) ?_)))
      · refine Or.inr ⟨k, h1, rfl, ⟨z1, by omega, h4⟩, fun z2 k2 hz hk2 ho hr2 => ?_⟩
        by_cases t2 : z2 = y
        · subst t2
          rw [← qf_same v hk' hk2 hr hr2]
          exact t
        · exact h5 z2 k2 (by omega) hk2 ho hr2
      · refine Or.inr ⟨k', hk', rfl, ⟨y, by omega, hok, hr⟩, fun z2 k2 hz hk2 ho hr2 => ?_⟩
        by_cases t2 : z2 = y
        · subst t2
          rw [qf_same v hk' hk2 hr hr2]
          exact Nat.le_refl _
        · have := h5 z2 k2 (by omega) hk2 ho hr2
          omega
end
end
section
/-! the kind of a form: the reference -/
section
variable {f_first f_middle : Int64} {a_as a_bs a_cs a_products : Nat → Int32}
theorem yw_f59 (post : Int32 → Prop) (J : Int64 → Int64 → Prop) (d : Nat) (v : qf_V d) (hS : qf_S d a_as a_bs a_cs) (a s : Int) (ha : 0 < a ∧ a < 1000000) (hs : -a < s ∧ s ≤ a) (hno : ∀ i, i < qf_h d → ¬ (qf_A d i = a ∧ qf_B d i = s)) (h : J (zz_l (qf_c d a s)) (zz_l (-s))) : ∀ r i n : Nat, i + r = qf_h d → r < n → wY_find_59 post J (zz_l a) (zz_l s) (nI d) (nI (qf_h d)) f_first f_middle a_as a_bs a_cs a_products n (nI i) := by
  have hh := (qf_vh v).2
  have hv := v.2.1
  intro r
  induction r with
  | zero =>
    intro i n hi hn
    obtain ⟨n, rfl⟩ : ∃ j, n = j + 1 := ⟨n - 1, by omega⟩
    have : i = qf_h d := by omega
    subst this
    have hss := qf_sqle hs
    have haa := zz_mb (p := a) (q := a) (P := 1000000) (Q := 1000000) (by omega) (by omega)
    have hs0 := zz_sq s
    refine br_t (nI_le (Nat.le_refl _) (by omega)) ?_
    rw [show 4 * zz_l a = zz_l (4 * a) from zz_lmul 4 a]
    refine ⟨zb_lne (a := 4 * a) (by omega), zb_nm (e' := zz_l (qf_c d a s)) ?_ (zb_nm (zz_lneg _) h)⟩
    rw [zz_nI, zz_i2l (by omega), zz_lmul, zz_ladd, zz_ldiv (by omega) (by omega), Int.tdiv_eq_ediv_of_nonneg (by omega)]
    rfl
  | succ r ih =>
    intro i n hi hn
    obtain ⟨n, rfl⟩ : ∃ j, n = j + 1 := ⟨n - 1, by omega⟩
    have hi' : i < qf_h d := by omega
    have hcl : (nI i).toNatClampNeg = i := nI_clamp (by omega)
    obtain ⟨s1, s2, _⟩ := hS i hi'
    obtain ⟨⟨f1, f2⟩, ⟨f3, f4⟩, _⟩ := qf_vfm v hi'
    have hvp : vp_in (nI i) 64 := vp_in_nI (by omega) (by decide)
    have e1 : (a_as (nI i).toNatClampNeg).toInt64 = zz_l (qf_A d i) := by
      rw [hcl, s1]
      exact zz_i2l (show -2000000000 < qf_A d i ∧ qf_A d i < 2000000000 by omega)
    have e2 : (a_bs (nI i).toNatClampNeg).toInt64 = zz_l (qf_B d i) := by
      rw [hcl, s2]
      exact zz_i2l (show -2000000000 < qf_B d i ∧ qf_B d i < 2000000000 by omega)
    have nx := ih (i + 1) n (by omega) (by omega)
    exact br_f (nI_ge hi' (by omega)) ⟨hvp, zb_leq (qf_A d i) a (fun t1 => ⟨hvp, zb_leq (qf_B d i) s (fun t2 => absurd ⟨t1, t2⟩ (hno i hi')) (fun _ => nm_r (nI_1 i) nx) e2⟩) (fun _ => nm_r (nI_1 i) nx) e1⟩
theorem yw_f59m (post : Int32 → Prop) (J : Int64 → Int64 → Prop) (d : Nat) (v : qf_V d) (hS : qf_S d a_as a_bs a_cs) (k : Nat) (hk : k < qf_h d) (h : post (nI k)) : ∀ m i n : Nat, i + m = k → m < n → wY_find_59 post J (zz_l (qf_A d k)) (zz_l (qf_B d k)) (nI d) (nI (qf_h d)) f_first f_middle a_as a_bs a_cs a_products n (nI i) := by
  have hh := (qf_vh v).2
  intro m
  induction m with
  | zero =>
    intro i n hi hn
    obtain ⟨n, rfl⟩ : ∃ j, n = j + 1 := ⟨n - 1, by omega⟩
    have : i = k := by omega
    subst this
    have hcl : (nI i).toNatClampNeg = i := nI_clamp (by omega)
    obtain ⟨s1, s2, _⟩ := hS i hk
    obtain ⟨⟨f1, f2⟩, ⟨f3, f4⟩, _⟩ := qf_vfm v hk
    have hv : vp_in (nI i) 64 := vp_in_nI (by omega) (by decide)
    refine br_f (nI_ge hk (by omega)) ⟨hv, br_t ?_ ⟨hv, br_t ?_ h⟩⟩
    · rw [hcl, s1]
      exact zz_i2l (show -2000000000 < qf_A d i ∧ qf_A d i < 2000000000 by omega)
    · rw [hcl, s2]
      exact zz_i2l (show -2000000000 < qf_B d i ∧ qf_B d i < 2000000000 by omega)
  | succ m ih =>
    intro i n hi hn
    obtain ⟨n, rfl⟩ : ∃ j, n = j + 1 := ⟨n - 1, by omega⟩
    have hi' : i < qf_h d := by omega
    have hcl : (nI i).toNatClampNeg = i := nI_clamp (by omega)
    obtain ⟨s1, s2, _⟩ := hS i hi'
    obtain ⟨⟨f1, f2⟩, ⟨f3, f4⟩, _⟩ := qf_vfm v hi'
    obtain ⟨⟨g1, g2⟩, ⟨g3, g4⟩, _⟩ := qf_vfm v hk
    have hv : vp_in (nI i) 64 := vp_in_nI (by omega) (by decide)
    have e1 : (a_as (nI i).toNatClampNeg).toInt64 = zz_l (qf_A d i) := by
      rw [hcl, s1]
      exact zz_i2l (show -2000000000 < qf_A d i ∧ qf_A d i < 2000000000 by omega)
    have e2 : (a_bs (nI i).toNatClampNeg).toInt64 = zz_l (qf_B d i) := by
      rw [hcl, s2]
      exact zz_i2l (show -2000000000 < qf_B d i ∧ qf_B d i < 2000000000 by omega)
    have nx := ih (i + 1) n (by omega) (by omega)
    refine br_f (nI_ge hi' (by omega)) ⟨hv, zb_leq (qf_A d i) (qf_A d k) (fun t1 => ⟨hv, zb_leq (qf_B d i) (qf_B d k) (fun t2 => ?_) (fun _ => nm_r (nI_1 i) nx) e2⟩) (fun _ => nm_r (nI_1 i) nx) e1⟩
    have := qf_vdis v hi' hk t1 t2
    omega
theorem yw_f6 (post : Int32 → Prop) (d : Nat) (n : Nat) (a b : Int) (ha : 0 < a ∧ a < 1000000) (hb : -1000000 < b ∧ b < 1000000) (h : ∃ n59 : Nat, wY_find_59 post (wY_find_6 post (nI d) (nI (qf_h d)) f_first f_middle a_as a_bs a_cs a_products n) (zz_l a) (zz_l (qf_sh a b)) (nI d) (nI (qf_h d)) f_first f_middle a_as a_bs a_cs a_products n59 0) : wY_find_6 post (nI d) (nI (qf_h d)) f_first f_middle a_as a_bs a_cs a_products (n + 1) (zz_l a) (zz_l b) := by
  have e2 : 2 * zz_l a = zz_l (2 * a) := zz_lmul 2 a
  have hm := Int.mul_tdiv_add_tmod b (2 * a)
  have hr := qf_tmod_b (x := b) (show 2 * a ≠ 0 by omega)
  show ¬ 2 * zz_l a = 0 ∧ _
  rw [e2]
  refine ⟨zb_lne (a := 2 * a) (by omega), zb_nm (zz_lrem (by omega) (by omega)) ?_⟩
  refine zb_lle (b.tmod (2 * a)) a (fun t => ?_) (fun t => ?_)
  · unfold wY_find_36
    rw [e2]
    refine zb_llt (-a) (b.tmod (2 * a)) (fun t2 => ?_) (fun t2 => zb_nm (e' := zz_l (b.tmod (2 * a) + 2 * a)) (zz_ladd _ _) ?_) (zz_lneg a)
    · rw [qf_sh_eq (x := b.tmod (2 * a)) (k := -(b.tdiv (2 * a))) ha.1 (by omega) (by rw [Int.mul_neg]; omega)] at h
      exact h
    · rw [qf_sh_eq (x := b.tmod (2 * a) + 2 * a) (k := -(b.tdiv (2 * a)) + 1) ha.1 (by omega) (by rw [Int.mul_add, Int.mul_neg]; omega)] at h
      exact h
  · refine zb_nm (e' := zz_l (b.tmod (2 * a) - 2 * a)) (zz_lsub _ _) ?_
    unfold wY_find_36
    rw [qf_sh_eq (x := b.tmod (2 * a) - 2 * a) (k := -(b.tdiv (2 * a)) - 1) ha.1 (by omega) (by rw [Int.mul_sub, Int.mul_neg]; omega)] at h
    exact zb_llt (-a) (b.tmod (2 * a) - 2 * a) (fun _ => h) (fun t2 => absurd t2 (by omega)) (zz_lneg a)
theorem yw_find6 (post : Int32 → Prop) (d : Nat) (v : qf_V d) (hS : qf_S d a_as a_bs a_cs) (k : Nat) (hk : k < qf_h d) (h : post (nI k)) : ∀ (m n : Nat) (a b : Int), (0 < a ∧ a < 1000000) → (-1000000 < b ∧ b < 1000000) → qf_run d m a b = some (qf_F d k) → m + 1 < n → wY_find_6 post (nI d) (nI (qf_h d)) f_first f_middle a_as a_bs a_cs a_products n (zz_l a) (zz_l b) := by
  have hv := v.2.1
  intro m
  induction m with
  | zero => intro n a b _ _ e; exact absurd e (by rw [qf_run]; exact nofun)
  | succ m ih =>
    intro n a b ha hb hr hn
    obtain ⟨n, rfl⟩ : ∃ j, n = j + 1 := ⟨n - 1, by omega⟩
    have hrg := qf_sh_rng b ha.1
    refine yw_f6 post d n a b ha hb ?_
    by_cases z : qf_c d a (qf_sh a b) < a
    · obtain ⟨hc, hr2⟩ := qf_run_step z hr
      refine ⟨qf_h d + 1, yw_f59 post _ d v hS a _ ha hrg (fun i hi t => ?_) ?_ (qf_h d) 0 _ (by omega) (by omega)⟩
      · obtain ⟨_, _, _, ⟨f5, _⟩, _⟩ := qf_vfm v hi
        unfold qf_C at f5
        rw [t.1, t.2] at f5
        omega
      · exact ih n _ _ (by omega) (by omega) hr2 (by omega)
    · have hF := qf_fin_eq z hr
      by_cases w : a = qf_c d a (qf_sh a b) ∧ qf_sh a b < 0
      · have hF2 : qf_F d k = (a, -(qf_sh a b)) := by
          rw [hF]
          unfold qf_fin
          rw [if_pos w]
        refine ⟨qf_h d + 1, yw_f59 post _ d v hS a _ ha hrg (fun i hi t => ?_) ?_ (qf_h d) 0 _ (by omega) (by omega)⟩
        · obtain ⟨_, _, _, _, f7, _⟩ := qf_vfm v hi
          unfold qf_C at f7
          rw [t.1, t.2] at f7
          have := f7 w.1
          omega
        · rw [← w.1]
          obtain ⟨n, rfl⟩ : ∃ j, n = j + 1 := ⟨n - 1, by omega⟩
          refine yw_f6 post d n a _ ha (by omega) ⟨k + 1, ?_⟩
          have ea : qf_A d k = a := congrArg Prod.fst hF2
          have eb : qf_B d k = -(qf_sh a b) := congrArg Prod.snd hF2
          rw [qf_sh_eq (x := -(qf_sh a b)) (b := -(qf_sh a b)) (k := 0) ha.1 (by omega) (by omega), ← eb, ← ea]
          exact yw_f59m post _ d v hS k hk h k 0 _ (by omega) (by omega)
      · have hF2 : qf_F d k = (a, qf_sh a b) := by
          rw [hF]
          unfold qf_fin
          rw [if_neg w]
        have ea : qf_A d k = a := congrArg Prod.fst hF2
        have eb : qf_B d k = qf_sh a b := congrArg Prod.snd hF2
        refine ⟨k + 1, ?_⟩
        rw [← eb, ← ea]
        exact yw_f59m post _ d v hS k hk h k 0 _ (by omega) (by omega)
theorem yw_find (post : Int32 → Prop) (d : Nat) (v : qf_V d) (hS : qf_S d a_as a_bs a_cs) (a b : Int) (ha : 0 < a ∧ a < 1000000) (hb : -1000000 < b ∧ b < 1000000) (k : Nat) (hk : k < qf_h d) {M : Nat} (hr : qf_run d M a b = some (qf_F d k)) (h : post (nI k)) : wpY_find post (nI d, nI (qf_h d), f_first, f_middle, a_as, a_bs, a_cs, a_products) (zz_l a) (zz_l b) :=
  ⟨M + 2, yw_find6 post d v hS k hk h M (M + 2) a b ha hb hr (by omega)⟩
end
end
section
/-! products: the reference -/
theorem qf_mid_b {a b c p r q s : Int} (ha : 1 ≤ a ∧ a ≤ 11) (hb : -11 ≤ b ∧ b ≤ 11) (hc : 1 ≤ c ∧ c ≤ 101) (hp : 0 ≤ p ∧ p ≤ 12) (hr : -12 ≤ r ∧ r ≤ 12) (hq : -13 ≤ q ∧ q ≤ 13) (hs : -13 ≤ s ∧ s ≤ 13) : -100000 < qf_mid a b c p r q s ∧ qf_mid a b c p r q s < 100000 := by
  have h1 := zz_mb (p := 2 * a) (q := p) (P := 22) (Q := 12) (by omega) (by omega)
  have h2 := zz_mb (p := 2 * a * p) (q := q) (P := 264) (Q := 13) (by omega) (by omega)
  have h3 := zz_mb (p := p) (q := s) (P := 12) (Q := 13) (by omega) (by omega)
  have h4 := zz_mb (p := q) (q := r) (P := 13) (Q := 12) (by omega) (by omega)
  have h5 := zz_mb (p := b) (q := p * s + q * r) (P := 11) (Q := 312) (by omega) (by omega)
  have h6 := zz_mb (p := 2 * c) (q := r) (P := 202) (Q := 12) (by omega) (by omega)
  have h7 := zz_mb (p := 2 * c * r) (q := s) (P := 2424) (Q := 13) (by omega) (by omega)
  unfold qf_mid
  omega
theorem qf_val_b {a b c x y : Int} {M : Nat} (hM : M ≤ 28) (ha : 1 ≤ a ∧ a ≤ 11) (hb : -11 ≤ b ∧ b ≤ 11) (hc : 1 ≤ c ∧ c ≤ 101) (hx : -(M : Int) ≤ x ∧ x ≤ M) (hy : -(M : Int) ≤ y ∧ y ≤ M) : -200000 < qf_val a b c x y ∧ qf_val a b c x y < 200000 := by
  have h1 := zz_mb (p := a) (q := x) (P := 11) (Q := 28) (by omega) (by omega)
  have h2 := zz_mb (p := a * x) (q := x) (P := 308) (Q := 28) (by omega) (by omega)
  have h3 := zz_mb (p := b) (q := x) (P := 11) (Q := 28) (by omega) (by omega)
  have h4 := zz_mb (p := b * x) (q := y) (P := 308) (Q := 28) (by omega) (by omega)
  have h5 := zz_mb (p := c) (q := y) (P := 101) (Q := 28) (by omega) (by omega)
  have h6 := zz_mb (p := c * y) (q := y) (P := 2828) (Q := 28) (by omega) (by omega)
  unfold qf_val
  omega
/-- the middle number doesn't depend on the partner, but for a multiple of 2 n -/
theorem qf_mid_u {a b c p r q s q' s' : Int} (h : p * s - q * r = 1) (h' : p * s' - q' * r = 1) : ∃ k, qf_mid a b c p r q' s' = qf_mid a b c p r q s + 2 * qf_val a b c p r * k := by
  refine ⟨s * (q' - q) - q * (s' - s), ?_⟩
  have e1 : p * (s * (q' - q) - q * (s' - s)) = q' - q := by
    have : p * (s * (q' - q) - q * (s' - s)) = (p * s - q * r) * (q' - q) - q * ((p * s' - q' * r) - (p * s - q * r)) := by grind
    rw [this, h, h']
    omega
  have e2 : r * (s * (q' - q) - q * (s' - s)) = s' - s := by
    have : r * (s * (q' - q) - q * (s' - s)) = (p * s - q * r) * (s' - s) - s * ((p * s' - q' * r) - (p * s - q * r)) := by grind
    rw [this, h, h']
    omega
  generalize s * (q' - q) - q * (s' - s) = k at *
  have eq : q' = q + p * k := by omega
  have es : s' = s + r * k := by omega
  rw [eq, es]
  unfold qf_mid qf_val
  grind
theorem qf_sy_r {a b c o x : Int} : ∀ {m : Nat} {p : Int × Int}, m ≤ 25 → qf_sy a b c o x m = some p → p.1 = x ∧ -12 ≤ p.2 ∧ p.2 ≤ 12 := by
  intro m
  induction m with
  | zero => intro p _ h; exact absurd h nofun
  | succ m ih =>
    intro p hm h
    rw [qf_sy] at h
    split at h
    · cases h
      refine ⟨rfl, ?_⟩
      show -12 ≤ 12 - (m : Int) ∧ 12 - (m : Int) ≤ 12
      omega
    · exact ih (by omega) h
theorem qf_sx_r {a b c o X Y : Int} : ∀ (m : Nat), m ≤ 13 → qf_sx a b c o m = some (X, Y) → 0 ≤ X ∧ X ≤ 12 ∧ -12 ≤ Y ∧ Y ≤ 12 := by
  intro m
  induction m with
  | zero => intro _ h; exact absurd h nofun
  | succ m ih =>
    intro hm h
    rw [qf_sx] at h
    split at h
    · rename_i p hp
      cases h
      have := qf_sy_r (by omega) hp
      have h1 : X = 12 - (m : Int) := this.1
      have h2 : -12 ≤ Y ∧ Y ≤ 12 := this.2
      omega
    · exact ih (by omega) h
section
variable {f_first f_middle : Int64} {a_as a_bs a_cs a_products : Nat → Int32}
theorem yw_c15 (post : SY → Prop) (J : Int32 → Prop) (d : Nat) (v : qf_V d) (hS : qf_S d a_as a_bs a_cs) (j : Nat) (hj : j < qf_h d) (p r N q : Int) (hp : 0 ≤ p ∧ p ≤ 12) (hr : -12 ≤ r ∧ r ≤ 12) (hq : -13 ≤ q ∧ q ≤ 13) (K : ∀ s : Int, (-13 ≤ s ∧ s ≤ 13) → p * s - q * r = 1 → post (nI d, nI (qf_h d), zz_l N, zz_l (qf_mid (qf_A d j) (qf_B d j) (qf_C d j) p r q s), a_as, a_bs, a_cs, a_products)) : ∀ (m n : Nat) (s : Int), s + m = 14 → -13 ≤ s → m < n → ((∀ z : Int, s ≤ z → z ≤ 13 → p * z - q * r ≠ 1) → J (zz_i (q + 1))) → wY_complete_15 post J (nI j) (zz_i p) (zz_i r) (zz_l N) (zz_i q) (nI d) (nI (qf_h d)) f_first f_middle a_as a_bs a_cs a_products n (zz_i s) := by
  have hh := (qf_vh v).2
  have hcl : (nI j).toNatClampNeg = j := nI_clamp (by omega)
  obtain ⟨s1, s2, s3⟩ := hS j hj
  obtain ⟨⟨f1, f2⟩, ⟨f3, f4⟩, _, ⟨f5, f6⟩, _⟩ := qf_vfm v hj
  have hv : vp_in (nI j) 64 := vp_in_nI (by omega) (by decide)
  have s1 : a_as j = zz_i (qf_A d j) := s1
  have s2 : a_bs j = zz_i (qf_B d j) := s2
  have s3 : a_cs j = zz_i (qf_C d j) := s3
  intro m
  induction m with
  | zero =>
    intro n s hs h13 hn hJ
    obtain ⟨n, rfl⟩ : ∃ j, n = j + 1 := ⟨n - 1, by omega⟩
    exact zb_ilt 13 s (fun _ => zb_nm (zz_iadd q 1) (hJ fun z h1 h2 => absurd h1 (by omega))) (fun t => absurd t (by omega))
  | succ m ih =>
    intro n s hs h13 hn hJ
    obtain ⟨n, rfl⟩ : ∃ j, n = j + 1 := ⟨n - 1, by omega⟩
    have b1 := zz_mb (p := p) (q := s) (P := 12) (Q := 13) (by omega) (by omega)
    have b2 := zz_mb (p := q) (q := r) (P := 13) (Q := 12) (by omega) (by omega)
    refine zb_ilt 13 s (fun t => absurd t (by omega)) (fun _ => zb_ieq (p * s - q * r) 1 (fun t => ⟨hv, hv, hv, zb_nm (e' := zz_l (qf_mid (qf_A d j) (qf_B d j) (qf_C d j) p r q s)) ?_ (K s (by omega) t)⟩) (fun t => zb_nm (zz_iadd s 1) (ih n (s + 1) (by omega) (by omega) (by omega) fun hz => hJ fun z h1 h2 => ?_)) (by rw [zz_imul, zz_imul, zz_isub]))
    · have hb := qf_mid_b (a := qf_A d j) (b := qf_B d j) (c := qf_C d j) (p := p) (r := r) (q := q) (s := s) (by omega) (by omega) (by omega) hp hr hq (by omega)
      rw [hcl, s1, s2, s3, show 2 * zz_i (qf_A d j) = zz_i (2 * qf_A d j) from zz_imul 2 _, show 2 * zz_i (qf_C d j) = zz_i (2 * qf_C d j) from zz_imul 2 _]
      simp only [zz_imul, zz_iadd]
      exact zz_i2l (show -2000000000 < qf_mid (qf_A d j) (qf_B d j) (qf_C d j) p r q s ∧ qf_mid (qf_A d j) (qf_B d j) (qf_C d j) p r q s < 2000000000 by omega)
    · by_cases w : z = s
      · rw [w]; exact t
      · exact hz z (by omega) h2
theorem yw_c4 (post : SY → Prop) (d : Nat) (v : qf_V d) (hS : qf_S d a_as a_bs a_cs) (j : Nat) (hj : j < qf_h d) (p r N q0 s0 : Int) (hp : 0 ≤ p ∧ p ≤ 12) (hr : -12 ≤ r ∧ r ≤ 12) (hq0 : -13 ≤ q0 ∧ q0 ≤ 13) (hs0 : -13 ≤ s0 ∧ s0 ≤ 13) (h0 : p * s0 - q0 * r = 1) (K : ∀ q s : Int, (-13 ≤ q ∧ q ≤ 13) → (-13 ≤ s ∧ s ≤ 13) → p * s - q * r = 1 → post (nI d, nI (qf_h d), zz_l N, zz_l (qf_mid (qf_A d j) (qf_B d j) (qf_C d j) p r q s), a_as, a_bs, a_cs, a_products)) : ∀ (m n : Nat) (q : Int), q + m = q0 → -13 ≤ q → m < n → wY_complete_4 post (nI j) (zz_i p) (zz_i r) (zz_l N) (nI d) (nI (qf_h d)) f_first f_middle a_as a_bs a_cs a_products n (zz_i q) := by
  intro m
  induction m with
  | zero =>
    intro n q hq h13 hn
    obtain ⟨n, rfl⟩ : ∃ j, n = j + 1 := ⟨n - 1, by omega⟩
    have : q = q0 := by omega
    subst this
    exact zb_ilt 13 q (fun t => absurd t (by omega)) (fun _ => ⟨28, yw_c15 post _ d v hS j hj p r N q hp hr (by omega) (fun s hs e => K q s (by omega) hs e) 27 28 (-13) (by omega) (by omega) (by omega) fun hz => absurd h0 (hz s0 (by omega) (by omega))⟩)
  | succ m ih =>
    intro n q hq h13 hn
    obtain ⟨n, rfl⟩ : ∃ j, n = j + 1 := ⟨n - 1, by omega⟩
    exact zb_ilt 13 q (fun t => absurd t (by omega)) (fun _ => ⟨28, yw_c15 post _ d v hS j hj p r N q hp hr (by omega) (fun s hs e => K q s (by omega) hs e) 27 28 (-13) (by omega) (by omega) (by omega) fun _ => ih n (q + 1) (by omega) (by omega) (by omega)⟩)
theorem yw_complete (post : SY → Prop) (d : Nat) (v : qf_V d) (hS : qf_S d a_as a_bs a_cs) (j : Nat) (hj : j < qf_h d) (p r N q0 s0 : Int) (hp : 0 ≤ p ∧ p ≤ 12) (hr : -12 ≤ r ∧ r ≤ 12) (hq0 : -13 ≤ q0 ∧ q0 ≤ 13) (hs0 : -13 ≤ s0 ∧ s0 ≤ 13) (h0 : p * s0 - q0 * r = 1) (K : ∀ q s : Int, (-13 ≤ q ∧ q ≤ 13) → (-13 ≤ s ∧ s ≤ 13) → p * s - q * r = 1 → post (nI d, nI (qf_h d), zz_l N, zz_l (qf_mid (qf_A d j) (qf_B d j) (qf_C d j) p r q s), a_as, a_bs, a_cs, a_products)) : wpY_complete post (nI d, nI (qf_h d), f_first, f_middle, a_as, a_bs, a_cs, a_products) (nI j) (zz_i p) (zz_i r) (zz_l N) :=
  ⟨27, yw_c4 post d v hS j hj p r N q0 s0 hp hr hq0 hs0 h0 K (q0 + 13).toNat 27 (-13) (by omega) (by omega) (by omega)⟩
/-! seek: when a pair is found -/
theorem yw_s17d (post : SY → Prop) (J : Int32 → Int32 → Int32 → Int64 → Int64 → (Nat → Int32) → (Nat → Int32) → (Nat → Int32) → (Nat → Int32) → Prop) (f_d f_count x1 x2 : Int32) (x y N : Int) (n : Nat) (hN : 0 < N ∧ N < 1000000) (hx : 0 ≤ x ∧ x ≤ 12) (h : J (zz_i (x + 1)) f_d f_count (zz_l N) f_middle a_as a_bs a_cs a_products) : wY_seek_17 post J x1 x2 (zz_i x) (n + 1) (zz_i y) f_d f_count (zz_l N) f_middle a_as a_bs a_cs a_products :=
  br_c (fun _ => zb_nm (zz_iadd x 1) h) (fun _ => br_f (zb_lne (a := N) (by omega)) (zb_nm (zz_iadd x 1) h))
theorem yw_s7d (post : SY → Prop) (f_d f_count x1 x2 : Int32) (N : Int) (hN : 0 < N ∧ N < 1000000) (h : post (f_d, f_count, zz_l N, f_middle, a_as, a_bs, a_cs, a_products)) : ∀ (m n : Nat) (x : Int), x + m = 13 → 0 ≤ x → m < n → wY_seek_7 post x1 x2 n (zz_i x) f_d f_count (zz_l N) f_middle a_as a_bs a_cs a_products := by
  intro m
  induction m with
  | zero =>
    intro n x hx h0 hn
    obtain ⟨n, rfl⟩ : ∃ j, n = j + 1 := ⟨n - 1, by omega⟩
    exact zb_ilt 12 x (fun _ => h) (fun t => absurd t (by omega))
  | succ m ih =>
    intro n x hx h0 hn
    obtain ⟨n, rfl⟩ : ∃ j, n = j + 1 := ⟨n - 1, by omega⟩
    exact zb_ilt 12 x (fun t => absurd t (by omega)) (fun _ => ⟨1, yw_s17d post _ f_d f_count x1 x2 x (-12) N 0 hN (by omega) (ih n (x + 1) (by omega) (by omega) (by omega))⟩)
/-- what is found at (x, y) -/
def qf_fnd (a b c o x y : Int) : Prop := (∃ q0 s0 : Int, (-13 ≤ q0 ∧ q0 ≤ 13) ∧ (-13 ≤ s0 ∧ s0 ≤ 13) ∧ x * s0 - q0 * y = 1) ∧ (0 < qf_val a b c x y ∧ qf_val a b c x y < 1000000)
theorem yw_s17 (post : SY → Prop) (J : Int32 → Int32 → Int32 → Int64 → Int64 → (Nat → Int32) → (Nat → Int32) → (Nat → Int32) → (Nat → Int32) → Prop) (d : Nat) (v : qf_V d) (hS : qf_S d a_as a_bs a_cs) (j : Nat) (hj : j < qf_h d) (o x : Int) (ho : 0 < o ∧ o ≤ 11) (hx : 0 ≤ x ∧ x ≤ 12) : ∀ (m n : Nat), m ≤ 25 → m + 1 < n → (∀ y : Int, qf_sy (qf_A d j) (qf_B d j) (qf_C d j) o x m = some (x, y) → qf_fnd (qf_A d j) (qf_B d j) (qf_C d j) o x y ∧ ∀ q s : Int, (-13 ≤ q ∧ q ≤ 13) → (-13 ≤ s ∧ s ≤ 13) → x * s - q * y = 1 → J (zz_i (x + 1)) (nI d) (nI (qf_h d)) (zz_l (qf_val (qf_A d j) (qf_B d j) (qf_C d j) x y)) (zz_l (qf_mid (qf_A d j) (qf_B d j) (qf_C d j) x y q s)) a_as a_bs a_cs a_products) → (qf_sy (qf_A d j) (qf_B d j) (qf_C d j) o x m = none → J (zz_i (x + 1)) (nI d) (nI (qf_h d)) 0 f_middle a_as a_bs a_cs a_products) → wY_seek_17 post J (nI j) (zz_i o) (zz_i x) n (zz_i (13 - (m : Int))) (nI d) (nI (qf_h d)) 0 f_middle a_as a_bs a_cs a_products := by
  have hh := (qf_vh v).2
  have hcl : (nI j).toNatClampNeg = j := nI_clamp (by omega)
  obtain ⟨s1, s2, s3⟩ := hS j hj
  obtain ⟨⟨f1, f2⟩, ⟨f3, f4⟩, _, ⟨f5, f6⟩, _⟩ := qf_vfm v hj
  have hv : vp_in (nI j) 64 := vp_in_nI (by omega) (by decide)
  have s1 : a_as j = zz_i (qf_A d j) := s1
  have s2 : a_bs j = zz_i (qf_B d j) := s2
  have s3 : a_cs j = zz_i (qf_C d j) := s3
  intro m
  induction m with
  | zero =>
    intro n _ hn _ hnone
    obtain ⟨n, rfl⟩ : ∃ j, n = j + 1 := ⟨n - 1, by omega⟩
    exact zb_ilt 12 13 (fun _ => zb_nm (zz_iadd x 1) (hnone rfl)) (fun t => absurd t (by omega))
  | succ m ih =>
    intro n hm hn hsome hnone
    obtain ⟨n, rfl⟩ : ∃ j, n = j + 1 := ⟨n - 1, by omega⟩
    have ey : (13 - ((m + 1 : Nat) : Int)) = 12 - (m : Int) := by omega
    rw [ey]
    rw [qf_sy] at hsome hnone
    have nx : zz_i (12 - (m : Int)) + 1 = zz_i (13 - (m : Int)) := by
      have := zz_iadd (12 - (m : Int)) 1
      rw [show 12 - (m : Int) + 1 = 13 - (m : Int) from by omega] at this
      exact this
    have hvb := qf_val_b (a := qf_A d j) (b := qf_B d j) (c := qf_C d j) (x := x) (y := 12 - (m : Int)) (M := 28) (by omega) (by omega) (by omega) (by omega) (by omega) (by omega)
    have eval : ((a_as (nI j).toNatClampNeg * zz_i x * zz_i x + a_bs (nI j).toNatClampNeg * zz_i x * zz_i (12 - (m : Int))) + a_cs (nI j).toNatClampNeg * zz_i (12 - (m : Int)) * zz_i (12 - (m : Int))).toInt64 = zz_l (qf_val (qf_A d j) (qf_B d j) (qf_C d j) x (12 - (m : Int))) := by
      rw [hcl, s1, s2, s3]
      simp only [zz_imul, zz_iadd]
      exact zz_i2l (show -2000000000 < qf_val (qf_A d j) (qf_B d j) (qf_C d j) x (12 - (m : Int)) ∧ qf_val (qf_A d j) (qf_B d j) (qf_C d j) x (12 - (m : Int)) < 2000000000 by omega)
    have go : ¬ qf_hit (qf_A d j) (qf_B d j) (qf_C d j) o x (12 - (m : Int)) = true → ∀ z, z = zz_i (12 - (m : Int)) + 1 → wY_seek_17 post J (nI j) (zz_i o) (zz_i x) n z (nI d) (nI (qf_h d)) 0 f_middle a_as a_bs a_cs a_products := by
      intro hz
      rw [if_neg hz] at hsome hnone
      exact zb_nm nx (ih n (by omega) (by omega) hsome hnone)
    have hgx : Int.gcd x (12 - (m : Int)) < 1000000 := by
      by_cases c : x = 0
      · rw [c]
        have : Int.gcd 0 (12 - (m : Int)) = (12 - (m : Int)).natAbs := Int.gcd_zero_left ..
        omega
      · have : Int.gcd x (12 - (m : Int)) ≤ x.natAbs := Nat.gcd_le_left _ (by omega)
        omega
    refine zb_ilt 12 (12 - (m : Int)) (fun t => absurd t (by omega)) (fun _ => br_t rfl ⟨hv, hv, hv, zb_nm eval ?_⟩)
    rw [zz_i2l (a := x) (by omega), zz_i2l (a := 12 - (m : Int)) (by omega), zz_i2l (a := o) (by omega)]
    refine yw_divisor _ _ _ (by omega) (by omega) (zb_leq (Int.gcd x (12 - (m : Int)) : Nat) 1 (fun t1 => ?_) (fun t1 => go fun z => ?_))
    · have hgo : Int.gcd (qf_val (qf_A d j) (qf_B d j) (qf_C d j) x (12 - (m : Int))) o ≤ o.natAbs := Nat.gcd_le_right _ (by omega)
      refine yw_divisor _ _ _ (by omega) (by omega) (zb_leq (Int.gcd (qf_val (qf_A d j) (qf_B d j) (qf_C d j) x (12 - (m : Int))) o : Nat) 1 (fun t2 => ?_) (fun t2 => go fun z => ?_))
      · have hz : qf_hit (qf_A d j) (qf_B d j) (qf_C d j) o x (12 - (m : Int)) = true := by
          unfold qf_hit
          rw [decide_eq_true (by omega), decide_eq_true (by omega)]
          rfl
        rw [if_pos hz] at hsome
        obtain ⟨⟨⟨q0, s0, hq0, hs0, h0⟩, hpos⟩, hK⟩ := hsome _ rfl
        refine yw_complete _ d v hS j hj x (12 - (m : Int)) _ q0 s0 hx (by omega) hq0 hs0 h0 fun q s hq hs e => zb_nm nx ?_
        obtain ⟨n, rfl⟩ : ∃ j, n = j + 1 := ⟨n - 1, by omega⟩
        exact yw_s17d post J _ _ _ _ x _ _ n hpos hx (hK q s hq hs e)
      · unfold qf_hit at z
        rw [Bool.and_eq_true, decide_eq_true_eq, decide_eq_true_eq] at z
        exact t2 (by omega)
    · unfold qf_hit at z
      rw [Bool.and_eq_true, decide_eq_true_eq] at z
      exact t1 (by omega)
theorem yw_s7 (post : SY → Prop) (d : Nat) (v : qf_V d) (hS : qf_S d a_as a_bs a_cs) (j : Nat) (hj : j < qf_h d) (o X Y : Int) (ho : 0 < o ∧ o ≤ 11) (hF : qf_fnd (qf_A d j) (qf_B d j) (qf_C d j) o X Y) (K : ∀ q s : Int, (-13 ≤ q ∧ q ≤ 13) → (-13 ≤ s ∧ s ≤ 13) → X * s - q * Y = 1 → post (nI d, nI (qf_h d), zz_l (qf_val (qf_A d j) (qf_B d j) (qf_C d j) X Y), zz_l (qf_mid (qf_A d j) (qf_B d j) (qf_C d j) X Y q s), a_as, a_bs, a_cs, a_products)) : ∀ (m n : Nat), m ≤ 13 → m + 1 < n → qf_sx (qf_A d j) (qf_B d j) (qf_C d j) o m = some (X, Y) → wY_seek_7 post (nI j) (zz_i o) n (zz_i (13 - (m : Int))) (nI d) (nI (qf_h d)) 0 f_middle a_as a_bs a_cs a_products := by
  intro m
  induction m with
  | zero => intro n _ _ e; exact absurd e nofun
  | succ m ih =>
    intro n hm hn e
    obtain ⟨n, rfl⟩ : ∃ j, n = j + 1 := ⟨n - 1, by omega⟩
    have ey : (13 - ((m + 1 : Nat) : Int)) = 12 - (m : Int) := by omega
    rw [ey]
    rw [qf_sx] at e
    refine zb_ilt 12 (12 - (m : Int)) (fun t => absurd t (by omega)) (fun _ => ⟨27, ?_⟩)
    refine yw_s17 post (wY_seek_7 post (nI j) (zz_i o) n) d v hS j hj o (12 - (m : Int)) ho (by omega) 25 27 (by omega) (by omega) (fun y hy => ?_) (fun hy => ?_)
    · rw [hy] at e
      cases e
      refine ⟨hF, fun q s hq hs e => ?_⟩
      exact yw_s7d post _ _ _ _ _ hF.2 (K q s hq hs e) m n _ (by omega) (by omega) (by omega)
    · rw [hy] at e
      have := ih n (by omega) (by omega) e
      rw [show 12 - (m : Int) + 1 = 13 - (m : Int) from by omega]
      exact this
/-! the middle number that fits both -/
theorem qf_copr {n a z : Int} (g : Int.gcd n a = 1) (h : n ∣ a * z) : n ∣ z := by
  have k1 := Int.natAbs_dvd_natAbs.mpr h
  rw [Int.natAbs_mul] at k1
  have g2 : Nat.Coprime n.natAbs a.natAbs := g
  exact Int.natAbs_dvd_natAbs.mp (g2.dvd_of_dvd_mul_left k1)
theorem yw_m19 (post : Int32 → SY → Prop) (d : Nat) (v : qf_V d) (hS : qf_S d a_as a_bs a_cs) (i k : Nat) (hi : i < qf_h d) (hk : k < qf_h d) (N m t0 : Int) (hN : 0 < N ∧ N < 20000) (hm : -1000000 < m ∧ m < 1000000) (ht0 : 0 ≤ t0 ∧ t0 < N) (g : Int.gcd N (qf_A d i) = 1) (hd : ∃ c, qf_B d i + 2 * qf_A d i * t0 - m = 2 * N * c) (hr : qf_run d 50 (qf_A d i * N) (qf_B d i + 2 * qf_A d i * t0) = some (qf_F d k)) (h : post (nI k) (nI d, nI (qf_h d), zz_l N, zz_l m, a_as, a_bs, a_cs, a_products)) : ∀ (r n : Nat) (t : Int), t + r = t0 → 0 ≤ t → r < n → wY_multiply_19 post (nI i) (nI d) (nI (qf_h d)) (zz_l N) (zz_l m) a_as a_bs a_cs a_products n (zz_l (qf_B d i + 2 * qf_A d i * t)) := by
  have hh := (qf_vh v).2
  have hcl : (nI i).toNatClampNeg = i := nI_clamp (by omega)
  obtain ⟨s1, s2, s3⟩ := hS i hi
  obtain ⟨⟨f1, f2⟩, ⟨f3, f4⟩, _⟩ := qf_vfm v hi
  have hv : vp_in (nI i) 64 := vp_in_nI (by omega) (by decide)
  have s1 : a_as i = zz_i (qf_A d i) := s1
  have e1 : (a_as (nI i).toNatClampNeg).toInt64 = zz_l (qf_A d i) := by
    rw [hcl, s1]
    exact zz_i2l (by omega)
  have e1' : (2 * a_as (nI i).toNatClampNeg).toInt64 = zz_l (2 * qf_A d i) := by
    rw [hcl, s1, show 2 * zz_i (qf_A d i) = zz_i (2 * qf_A d i) from zz_imul 2 _]
    exact zz_i2l (by omega)
  have e2 : 2 * zz_l N = zz_l (2 * N) := zz_lmul 2 N
  have hbt : ∀ t : Int, 0 ≤ t → t ≤ t0 → 0 ≤ 2 * qf_A d i * t ∧ 2 * qf_A d i * t ≤ 440000 := by
    intro t h1 h2
    have h3 := zz_mb (p := 2 * qf_A d i) (q := t) (P := 22) (Q := 20000) (by omega) (by omega)
    have h4 := Int.mul_nonneg (a := 2 * qf_A d i) (b := t) (by omega) h1
    omega
  intro r
  induction r with
  | zero =>
    intro n t ht h0 hn
    obtain ⟨n, rfl⟩ : ∃ j, n = j + 1 := ⟨n - 1, by omega⟩
    have : t = t0 := by omega
    subst this
    have hb := hbt t h0 (by omega)
    show ¬ 2 * zz_l N = 0 ∧ _
    rw [e2, zz_lsub, zz_lrem (by omega) (by omega)]
    refine ⟨zb_lne (a := 2 * N) (by omega), br_t ?_ ⟨hv, ?_⟩⟩
    · obtain ⟨c, hc⟩ := hd
      rw [hc, Int.mul_tmod_right]
      rfl
    · rw [e1, zz_lmul]
      have h5 := zz_mb (p := qf_A d i) (q := N) (P := 11) (Q := 20000) (by omega) (by omega)
      have h6 := Int.mul_pos (show 0 < qf_A d i by omega) hN.1
      exact yw_find _ d v hS _ _ (by omega) (by omega) k hk hr h
  | succ r ih =>
    intro n t ht h0 hn
    obtain ⟨n, rfl⟩ : ∃ j, n = j + 1 := ⟨n - 1, by omega⟩
    have hb := hbt t h0 (by omega)
    have htm := qf_tmod_b (x := qf_B d i + 2 * qf_A d i * t - m) (show 2 * N ≠ 0 by omega)
    show ¬ 2 * zz_l N = 0 ∧ _
    rw [e2, zz_lsub, zz_lrem (by omega) (by omega)]
    refine ⟨zb_lne (a := 2 * N) (by omega), zb_leq ((qf_B d i + 2 * qf_A d i * t - m).tmod (2 * N)) 0 (fun z => ?_) (fun z => ⟨hv, zb_nm (e' := zz_l (qf_B d i + 2 * qf_A d i * (t + 1))) ?_ (ih n (t + 1) (by omega) (by omega) (by omega))⟩)⟩
    · exfalso
      obtain ⟨c, hc⟩ := hd
      have hdv := Int.dvd_of_tmod_eq_zero z
      obtain ⟨c2, hc2⟩ := hdv
      have h7 : N ∣ qf_A d i * (t0 - t) := by
        refine ⟨c - c2, ?_⟩
        have h8 : 2 * (qf_A d i * (t0 - t)) = 2 * (N * (c - c2)) := by
          have h9 : 2 * (qf_A d i * (t0 - t)) = (qf_B d i + 2 * qf_A d i * t0 - m) - (qf_B d i + 2 * qf_A d i * t - m) := by grind
          rw [h9, hc, hc2]
          grind
        omega
      obtain ⟨c3, hc3⟩ := qf_copr g h7
      have h10 : 0 < c3 := by
        rcases Int.lt_or_le 0 c3 with w | w
        · exact w
        · have := Int.mul_nonneg (a := N) (b := -c3) (by omega) (by omega)
          rw [Int.mul_neg] at this
          omega
      have := Int.mul_le_mul_of_nonneg_left (c := N) (show 1 ≤ c3 by omega) (by omega)
      omega
    · rw [e1', zz_ladd, Int.mul_add]
      exact congrArg zz_l (by omega)
theorem yw_mul (post : Int32 → SY → Prop) (d : Nat) (v : qf_V d) (hS : qf_S d a_as a_bs a_cs) (i j : Nat) (hi : i < qf_h d) (hj : j < qf_h d) (h : ∀ ff fm : Int64, post (nI (qf_T d i j)) (nI d, nI (qf_h d), ff, fm, a_as, a_bs, a_cs, a_products)) : wpY_multiply post (nI d, nI (qf_h d), f_first, f_middle, a_as, a_bs, a_cs, a_products) (nI i) (nI j) := by
  have hh := (qf_vh v).2
  have hcl : (nI i).toNatClampNeg = i := nI_clamp (by omega)
  obtain ⟨s1, s2, s3⟩ := hS i hi
  obtain ⟨⟨f1, f2⟩, ⟨f3, f4⟩, _⟩ := qf_vfm v hi
  have hv : vp_in (nI i) 64 := vp_in_nI (by omega) (by decide)
  have s1 : a_as i = zz_i (qf_A d i) := s1
  have s2 : a_bs i = zz_i (qf_B d i) := s2
  have e1 : a_as (nI i).toNatClampNeg = zz_i (qf_A d i) := by rw [hcl, s1]
  have e2 : (a_bs (nI i).toNatClampNeg).toInt64 = zz_l (qf_B d i) := by
    rw [hcl, s2]
    exact zz_i2l (by omega)
  have hT := qf_vTlt v hi hj
  have H := qf_vcy v hi hj
  unfold qf_cy at H
  change qf_cy1 d (qf_A d i) (qf_B d i) (qf_A d j) (qf_B d j) (qf_C d j) (qf_F d (qf_T d i j)) (qf_sx (qf_A d j) (qf_B d j) (qf_C d j) (qf_A d i) 13) = true at H
  rcases e5 : qf_sx (qf_A d j) (qf_B d j) (qf_C d j) (qf_A d i) 13 with _ | ⟨X, Y⟩
  · rw [e5] at H
    exact absurd H Bool.false_ne_true
  · rw [e5, qf_cy1] at H
    simp only [Bool.and_eq_true, decide_eq_true_eq] at H
    obtain ⟨H1, H2, H3, H4⟩ := H
    rcases e6 : qf_ex 40 (qf_A d i) (qf_val (qf_A d j) (qf_B d j) (qf_C d j) X Y) 1 0 0 1 with _ | ⟨G, U, Z⟩
    · rw [e6] at H4
      exact absurd H4 Bool.false_ne_true
    · rw [e6, qf_cy2, qf_cy3] at H4
      simp only [Bool.and_eq_true, decide_eq_true_eq] at H4
      obtain ⟨H5, H6, H7, H8⟩ := H4
      have H8 := qf_ise H8
      generalize U * ((qf_mid (qf_A d j) (qf_B d j) (qf_C d j) X Y (qf_q X) (qf_s X Y) - qf_B d i) / 2) % qf_val (qf_A d j) (qf_B d j) (qf_C d j) X Y = t0 at *
      have hq0 : -13 ≤ qf_q X ∧ qf_q X ≤ 13 := by
        unfold qf_q
        split
        · omega
        · split <;> omega
      have hF : qf_fnd (qf_A d j) (qf_B d j) (qf_C d j) (qf_A d i) X Y := ⟨⟨qf_q X, qf_s X Y, hq0, H2, H1⟩, by omega⟩
      refine ⟨hv, ?_⟩
      rw [e1]
      refine ⟨15, ?_⟩
      obtain ⟨⟨g1, g2⟩, ⟨g3, g4⟩, _, ⟨g5, g6⟩, _⟩ := qf_vfm v hj
      refine yw_s7 _ d v hS j hj (qf_A d i) X Y (by omega) hF (fun q s hq hs e => ?_) 13 15 (by omega) (by omega) e5
      refine ⟨hv, zb_nm e2 ⟨t0.toNat + 1, ?_⟩⟩
      obtain ⟨kk, hkk⟩ := qf_mid_u (a := qf_A d j) (b := qf_B d j) (c := qf_C d j) H1 e
      have hX : 0 ≤ X ∧ X ≤ 12 ∧ -12 ≤ Y ∧ Y ≤ 12 := qf_sx_r 13 (by omega) e5
      have hmb := qf_mid_b (a := qf_A d j) (b := qf_B d j) (c := qf_C d j) (p := X) (r := Y) (q := q) (s := s) (by omega) (by omega) (by omega) (by omega) (by omega) hq hs
      have := yw_m19 (a_products := a_products) post d v hS i _ hi hT (qf_val (qf_A d j) (qf_B d j) (qf_C d j) X Y) (qf_mid (qf_A d j) (qf_B d j) (qf_C d j) X Y q s) t0 H5 (by omega) H6 H3 ?_ H8 (h _ _) t0.toNat (t0.toNat + 1) 0 (by omega) (by omega) (by omega)
      · rw [Int.mul_zero, Int.add_zero] at this
        exact this
      · obtain ⟨c, hc⟩ := Int.dvd_of_emod_eq_zero H7
        refine ⟨c - kk, ?_⟩
        rw [hkk, Int.mul_sub]
        omega
end
end
section
/-! the list and the products: the reference -/
def qf_Q (d i j : Nat) (pr : Nat → Int32) : Prop := ∀ i' j', i' < qf_h d → j' < qf_h d → (i' < i ∨ (i' = i ∧ j' < j)) → pr (64 * i' + j') = nI (qf_T d i' j')
def qf_P (d : Nat) (pr : Nat → Int32) : Prop := ∀ i j, i < qf_h d → j < qf_h d → pr (64 * i + j) = nI (qf_T d i j)
section
variable {f_first f_middle : Int64} {a_as a_bs a_cs a_products : Nat → Int32}
theorem yw_l66 (post : SY → Prop) (J7 J23 : Int32 → Int32 → (Nat → Int32) → (Nat → Int32) → (Nat → Int32) → (Nat → Int32) → Prop) (f_d x1 x2 x3 y : Int32) (n : Nat) (hn : n < 64) (ey : x2 + 1 = y) (h : J23 y (nI (n + 1)) (upd a_as n x1) (upd a_bs n x2) (upd a_cs n x3) a_products) : wY_list_66 post J7 J23 x1 x2 x3 f_d (nI n) f_first f_middle a_as a_bs a_cs a_products := by
  have hcl : (nI n).toNatClampNeg = n := nI_clamp (by omega)
  have hv : vp_in (nI n) 64 := vp_in_nI hn (by decide)
  unfold wY_list_66
  rw [hcl]
  exact ⟨hv, nm_e ⟨hv, nm_e ⟨hv, nm_e (nm_r (nI_1 n) (nm_r ey h))⟩⟩⟩
theorem yw_l23 (post : SY → Prop) (J : Int32 → Int32 → (Nat → Int32) → (Nat → Int32) → (Nat → Int32) → (Nat → Int32) → Prop) (d k : Nat) (v : qf_V d) (hk : k < 11) (h3 : 3 * ((k : Int) + 1) * ((k : Int) + 1) ≤ d) (K : ∀ fA fB fC : Nat → Int32, qf_SL d (qf_all d (k + 1)) fA fB fC → J (zz_i ((k : Int) + 1 + 1)) (nI (qf_all d (k + 1)).length) fA fB fC a_products) : ∀ (m m' n : Nat) (fA fB fC : Nat → Int32), m' + m = 2 * (k + 1) → m < n → qf_SL d (qf_all d k ++ qf_row d (k + 1) m') fA fB fC → wY_list_23 post J (zz_i ((k : Int) + 1)) (nI d) f_first f_middle n (zz_i (1 - ((k : Int) + 1) + m')) (nI (qf_all d k ++ qf_row d (k + 1) m').length) fA fB fC a_products := by
  have hv := v.2.1
  intro m
  induction m with
  | zero =>
    intro m' n fA fB fC hm hn h
    obtain ⟨n, rfl⟩ : ∃ j, n = j + 1 := ⟨n - 1, by omega⟩
    have hm' : m' = 2 * (k + 1) := by omega
    subst hm'
    exact zb_ilt ((k : Int) + 1) (1 - ((k : Int) + 1) + (2 * (k + 1) : Nat)) (fun _ => zb_nm (zz_iadd _ 1) (K fA fB fC h)) (fun t => absurd t (by omega))
  | succ m ih =>
    intro m' n fA fB fC hm hn h
    obtain ⟨n, rfl⟩ : ∃ j, n = j + 1 := ⟨n - 1, by omega⟩
    have hl := qf_len_lt v hk (show m' ≤ 2 * (k + 1) by omega)
    have hG := qf_gd_iff (y := 1 - ((k : Int) + 1) + m') h3
    have en : zz_i (1 - ((k : Int) + 1) + m') + 1 = zz_i (1 - ((k : Int) + 1) + (m' + 1 : Nat)) := by
      have := zz_iadd (1 - ((k : Int) + 1) + m') 1
      rw [show 1 - ((k : Int) + 1) + m' + 1 = 1 - ((k : Int) + 1) + (m' + 1 : Nat) from by omega] at this
      exact this
    have go : ¬ qf_gd d ((k : Int) + 1) (1 - ((k : Int) + 1) + m') = true → ∀ z, z = zz_i (1 - ((k : Int) + 1) + m') + 1 → wY_list_23 post J (zz_i ((k : Int) + 1)) (nI d) f_first f_middle n z (nI (qf_all d k ++ qf_row d (k + 1) m').length) fA fB fC a_products := by
      intro g
      have er : qf_row d ((k : Int) + 1) (m' + 1) = qf_row d ((k : Int) + 1) m' := by
        rw [qf_row, if_neg g, List.append_nil]
      have := ih (m' + 1) n fA fB fC (by omega) (by omega) (by rw [er]; exact h)
      rw [er] at this
      exact zb_nm en this
    have push : qf_gd d ((k : Int) + 1) (1 - ((k : Int) + 1) + m') = true → wY_list_66 post J (wY_list_23 post J (zz_i ((k : Int) + 1)) (nI d) f_first f_middle n) (zz_i ((k : Int) + 1)) (zz_i (1 - ((k : Int) + 1) + m')) (zz_i (qf_c d ((k : Int) + 1) (1 - ((k : Int) + 1) + m'))) (nI d) (nI (qf_all d k ++ qf_row d (k + 1) m').length) f_first f_middle fA fB fC a_products := by
      intro g
      refine yw_l66 post J _ _ _ _ _ _ _ hl en ?_
      have er : qf_all d k ++ qf_row d ((k : Int) + 1) (m' + 1) = (qf_all d k ++ qf_row d ((k : Int) + 1) m') ++ [((k : Int) + 1, 1 - ((k : Int) + 1) + (m' : Int))] := by
        rw [qf_row, if_pos g, List.append_assoc]
      have := ih (m' + 1) n (upd fA (qf_all d k ++ qf_row d ((k : Int) + 1) m').length (zz_i ((k : Int) + 1))) (upd fB (qf_all d k ++ qf_row d ((k : Int) + 1) m').length (zz_i (1 - ((k : Int) + 1) + m'))) (upd fC (qf_all d k ++ qf_row d ((k : Int) + 1) m').length (zz_i (qf_c d ((k : Int) + 1) (1 - ((k : Int) + 1) + m')))) (by omega) (by omega) (by rw [er]; exact qf_SL_p h _ _)
      rw [er, List.length_append (bs := [_]), List.length_singleton] at this
      exact this
    have hcr := qf_c_rng (d := d) (a := (k : Int) + 1) (b := 1 - ((k : Int) + 1) + m') (by omega) (by omega)
    have hyy := zz_mb (p := 1 - ((k : Int) + 1) + m') (q := 1 - ((k : Int) + 1) + m') (P := 11) (Q := 11) (by omega) (by omega)
    have hy0 := zz_sq (1 - ((k : Int) + 1) + m')
    have hy1 : -11 ≤ 1 - ((k : Int) + 1) + m' ∧ 1 - ((k : Int) + 1) + m' ≤ 11 := by omega
    have hy2 : ¬ (k : Int) + 1 < 1 - ((k : Int) + 1) + m' := by omega
    have hx1 : 0 < (k : Int) + 1 ∧ (k : Int) + 1 ≤ 11 := by omega
    generalize 1 - ((k : Int) + 1) + (m' : Int) = y at *
    generalize (k : Int) + 1 = x at *
    refine zb_ilt x y (fun t => absurd t hy2) (fun _ => ?_)
    rw [show 4 * zz_i x = zz_i (4 * x) from zz_imul 4 x]
    refine ⟨zb_ine (a := 4 * x) (by omega), zb_nm (e' := zz_i (qf_c d x y)) ?_ ?_⟩
    · rw [zz_nI, zz_imul, zz_iadd, zz_idiv (by omega) (by omega), Int.tdiv_eq_ediv_of_nonneg (by omega)]
      rfl
    · rw [zz_i2l (a := x) (by omega), zz_i2l (a := y) (by omega)]
      refine yw_isForm _ d x y hv (by omega) (by omega) (fun ok => br_f (by decide) ?_) (fun ok => br_t rfl (go fun g => by rw [(hG.mp g).1] at ok; exact absurd ok (by decide)))
      refine zb_ilt (qf_c d x y) x (fun t => go fun g => ?_) (fun t => zb_ilt x (qf_c d x y) (fun t2 => push (hG.mpr ⟨ok, t, Or.inl t2⟩)) (fun t2 => zb_ilt y 0 (fun t3 => go fun g => ?_) (fun t3 => push (hG.mpr ⟨ok, t, Or.inr t3⟩))))
      · have := (hG.mp g).2.1
        omega
      · have := (hG.mp g).2.2
        omega
theorem yw_l7 (post : SY → Prop) (d : Nat) (v : qf_V d) (K : ∀ fA fB fC : Nat → Int32, qf_S d fA fB fC → ∃ n120 : Nat, wY_list_120 post n120 0 (nI d) (nI (qf_h d)) f_first f_middle fA fB fC a_products) : ∀ (m k n : Nat) (fA fB fC : Nat → Int32), k + m = 11 → m < n → qf_SL d (qf_all d k) fA fB fC → wY_list_7 post (nI d) f_first f_middle n (zz_i ((k : Int) + 1)) (nI (qf_all d k).length) fA fB fC a_products := by
  intro m
  induction m with
  | zero =>
    intro k n fA fB fC hm hn h
    obtain ⟨n, rfl⟩ : ∃ j, n = j + 1 := ⟨n - 1, by omega⟩
    have hk : k = 11 := by omega
    subst hk
    have := v.2.1
    rw [qf_vall v] at h ⊢
    refine zb_ilt d (3 * 12 * 12) (fun _ => K fA fB fC h) (fun t => absurd t (by omega)) (zz_nI d)
  | succ m ih =>
    intro k n fA fB fC hm hn h
    obtain ⟨n, rfl⟩ : ∃ j, n = j + 1 := ⟨n - 1, by omega⟩
    have hv := v.2.1
    have hkk := zz_mb (p := 3 * ((k : Int) + 1)) (q := (k : Int) + 1) (P := 36) (Q := 12) (by omega) (by omega)
    have e3 : 3 * zz_i ((k : Int) + 1) * zz_i ((k : Int) + 1) = zz_i (3 * ((k : Int) + 1) * ((k : Int) + 1)) := by
      rw [show 3 * zz_i ((k : Int) + 1) = zz_i (3 * ((k : Int) + 1)) from zz_imul 3 _, zz_imul]
    refine zb_ilt d (3 * ((k : Int) + 1) * ((k : Int) + 1)) (fun t => ?_) (fun t => ?_) (zz_nI d) e3
    · have ee := qf_all_end t (show k ≤ 11 by omega)
      rw [qf_vall v] at ee
      rw [← ee] at h ⊢
      exact K fA fB fC h
    · have en : 1 - zz_i ((k : Int) + 1) = zz_i (1 - ((k : Int) + 1) + (0 : Nat)) := by
        have := zz_isub 1 ((k : Int) + 1)
        rw [show 1 - ((k : Int) + 1) = 1 - ((k : Int) + 1) + (0 : Nat) from by omega] at this
        exact this
      refine zb_nm en ⟨2 * (k + 1) + 1, ?_⟩
      have := yw_l23 (f_first := f_first) (f_middle := f_middle) (a_products := a_products) post (wY_list_7 post (nI d) f_first f_middle n) d k v (by omega) t (fun fA fB fC h => by
        have := ih (k + 1) n fA fB fC (by omega) (by omega) h
        exact this) (2 * (k + 1)) 0 (2 * (k + 1) + 1) fA fB fC (by omega) (by omega) (by rw [qf_row, List.append_nil]; exact h)
      rw [qf_row, List.append_nil] at this
      exact this
theorem yw_ix {i j : Nat} (hi : i < 64) (hj : j < 64) : 64 * nI i + nI j = nI (64 * i + j) := by
  rw [show 64 * nI i = nI (64 * i) from pk_mul 64 i, nI_add]
theorem yw_l130 (post : SY → Prop) (J : Int32 → Int32 → Int32 → Int64 → Int64 → (Nat → Int32) → (Nat → Int32) → (Nat → Int32) → (Nat → Int32) → Prop) (d : Nat) (v : qf_V d) (hS : qf_S d a_as a_bs a_cs) (i : Nat) (hi : i < qf_h d) (K : ∀ (ff fm : Int64) (pr : Nat → Int32), qf_Q d (i + 1) 0 pr → J (nI (i + 1)) (nI d) (nI (qf_h d)) ff fm a_as a_bs a_cs pr) : ∀ (r j n : Nat) (ff fm : Int64) (pr : Nat → Int32), j + r = qf_h d → r < n → qf_Q d i j pr → wY_list_130 post J (nI i) n (nI j) (nI d) (nI (qf_h d)) ff fm a_as a_bs a_cs pr := by
  have hh := (qf_vh v).2
  intro r
  induction r with
  | zero =>
    intro j n ff fm pr he hn hq
    obtain ⟨n, rfl⟩ : ∃ j, n = j + 1 := ⟨n - 1, by omega⟩
    have : j = qf_h d := by omega
    subst this
    refine br_t (nI_le (Nat.le_refl _) (by omega)) (nm_r (nI_1 i) (K ff fm pr fun i' j' hi' hj' hc => hq i' j' hi' hj' (by omega)))
  | succ r ih =>
    intro j n ff fm pr he hn hq
    obtain ⟨n, rfl⟩ : ∃ j, n = j + 1 := ⟨n - 1, by omega⟩
    have hj : j < qf_h d := by omega
    refine br_f (nI_ge hj (by omega)) (yw_mul _ d v hS i j hi hj fun ff fm => ?_)
    dsimp only
    rw [yw_ix (by omega) (by omega), nI_clamp (n := 64 * i + j) (by omega)]
    refine ⟨vp_in_nI (by omega) (by decide), nm_e (nm_r (nI_1 j) (ih (j + 1) n ff fm _ (by omega) (by omega) fun i' j' hi' hj' hc => ?_))⟩
    by_cases z : i' = i ∧ j' = j
    · rw [z.1, z.2, qf_us]
    · rw [qf_un (by omega)]
      exact hq i' j' hi' hj' (by omega)
theorem yw_l120 (post : SY → Prop) (d : Nat) (v : qf_V d) (hS : qf_S d a_as a_bs a_cs) (K : ∀ (ff fm : Int64) (pr : Nat → Int32), qf_P d pr → post (nI d, nI (qf_h d), ff, fm, a_as, a_bs, a_cs, pr)) : ∀ (r i n : Nat) (ff fm : Int64) (pr : Nat → Int32), i + r = qf_h d → r < n → qf_Q d i 0 pr → wY_list_120 post n (nI i) (nI d) (nI (qf_h d)) ff fm a_as a_bs a_cs pr := by
  have hh := (qf_vh v).2
  intro r
  induction r with
  | zero =>
    intro i n ff fm pr he hn hq
    obtain ⟨n, rfl⟩ : ∃ j, n = j + 1 := ⟨n - 1, by omega⟩
    have : i = qf_h d := by omega
    subst this
    exact br_t (nI_le (Nat.le_refl _) (by omega)) (K ff fm pr fun i' j' hi' hj' => hq i' j' hi' hj' (Or.inl hi'))
  | succ r ih =>
    intro i n ff fm pr he hn hq
    obtain ⟨n, rfl⟩ : ∃ j, n = j + 1 := ⟨n - 1, by omega⟩
    have hi : i < qf_h d := by omega
    exact br_f (nI_ge hi (by omega)) ⟨qf_h d + 1, yw_l130 post (wY_list_120 post n) d v hS i hi (fun ff fm pr hq => ih (i + 1) n ff fm pr (by omega) (by omega) hq) (qf_h d) 0 (qf_h d + 1) ff fm pr (by omega) (by omega) hq⟩
theorem yw_list (post : SY → Prop) (f_count : Int32) (d : Nat) (v : qf_V d) (K : ∀ (ff fm : Int64) (fA fB fC pr : Nat → Int32), qf_S d fA fB fC → qf_P d pr → post (nI d, nI (qf_h d), ff, fm, fA, fB, fC, pr)) : wpY_list post (nI d, f_count, f_first, f_middle, a_as, a_bs, a_cs, a_products) :=
  ⟨12, yw_l7 post d v (fun fA fB fC hS => ⟨qf_h d + 1, yw_l120 post d v hS (fun ff fm pr hp => K ff fm fA fB fC pr hS hp) (qf_h d) 0 (qf_h d + 1) _ _ _ (by omega) (by omega) fun i' j' _ _ hc => absurd hc (by omega)⟩) 11 0 12 a_as a_bs a_cs (by omega) (by omega) (qf_SL_0 _ _ _ _)⟩
end
end
section
/-! the rest of the reference -/
def qf_bi (b : Bool) : Int32 := if b = true then 1 else 0
def qf_ap (d k n : Nat) (ap : Int32) (p : Int → Int → Prop) : Prop := (ap = 0 ∧ ∀ x y, p x y ↔ qf_val (qf_A d k) (qf_B d k) (qf_C d k) x y = n) ∨ (ap = 1 ∧ ∀ x y, p x y ↔ (qf_val (qf_A d k) (qf_B d k) (qf_C d k) x y = n ∧ Int.gcd x y = 1))
section
variable {f_first f_middle : Int64} {a_as a_bs a_cs a_products : Nat → Int32}
theorem yw_pr {d : Nat} (v : qf_V d) (hP : qf_P d a_products) {i j : Nat} (hi : i < qf_h d) (hj : j < qf_h d) : vp_in (64 * nI i + nI j) 4096 ∧ a_products (64 * nI i + nI j).toNatClampNeg = nI (qf_T d i j) := by
  have hh := (qf_vh v).2
  rw [yw_ix (by omega) (by omega)]
  refine ⟨vp_in_nI (by omega) (by decide), ?_⟩
  rw [nI_clamp (by omega)]
  exact hP i j hi hj
theorem yw_neutral (post : Int32 → Prop) (d : Nat) (v : qf_V d) (hS : qf_S d a_as a_bs a_cs) (h : post (nI 0)) : wpY_neutral post (nI d, nI (qf_h d), f_first, f_middle, a_as, a_bs, a_cs, a_products) := by
  obtain ⟨s1, _, _⟩ := hS 0 (qf_vh v).1
  have s1 : a_as 0 = zz_i (qf_A d 0) := s1
  refine ⟨1, vp_in_nI (n := 0) (by decide) (by decide), br_t ?_ h⟩
  show a_as 0 = 1
  rw [s1, qf_vA0 v]
  rfl
theorem yw_i18 (post : Int32 → Prop) (d : Nat) (v : qf_V d) (hP : qf_P d a_products) (i : Nat) (hi : i < qf_h d) (h : post (nI (qf_I d i))) : ∀ r j n : Nat, j + r = qf_I d i → r < n → wY_inverse_18 post (nI i) (nI 0) (nI d) (nI (qf_h d)) f_first f_middle a_as a_bs a_cs a_products n (nI j) := by
  have hh := (qf_vh v).2
  obtain ⟨k1, k2, _⟩ := qf_vI v hi
  intro r
  induction r with
  | zero =>
    intro j n he hn
    obtain ⟨n, rfl⟩ : ∃ j, n = j + 1 := ⟨n - 1, by omega⟩
    have : j = qf_I d i := by omega
    subst this
    obtain ⟨p1, p2⟩ := yw_pr v hP hi k1
    exact ⟨p1, br_t (by rw [p2, k2]) h⟩
  | succ r ih =>
    intro j n he hn
    obtain ⟨n, rfl⟩ : ∃ j, n = j + 1 := ⟨n - 1, by omega⟩
    have hj : j < qf_h d := by omega
    obtain ⟨p1, p2⟩ := yw_pr v hP hi hj
    have hT := qf_vTlt v hi hj
    have hne := qf_vIm (d := d) (k := i) (j := j) k1 (by omega)
    refine ⟨p1, br_f (fun t => hne ?_) (nm_r (nI_1 j) (ih (j + 1) n (by omega) (by omega)))⟩
    rw [p2] at t
    exact (nI_eq (by omega) (by omega)).mp t
theorem yw_inverse (post : Int32 → Prop) (d : Nat) (v : qf_V d) (hS : qf_S d a_as a_bs a_cs) (hP : qf_P d a_products) (i : Nat) (hi : i < qf_h d) (h : post (nI (qf_I d i))) : wpY_inverse post (nI d, nI (qf_h d), f_first, f_middle, a_as, a_bs, a_cs, a_products) (nI i) := by
  have hh := (qf_vh v).2
  unfold wpY_inverse
  refine yw_bad0 _ (qf_h d) i hi (by omega) (br_t rfl ?_)
  refine yw_neutral _ d v hS ?_
  exact ⟨qf_I d i + 1, yw_i18 post d v hP i hi h (qf_I d i) 0 (qf_I d i + 1) (by omega) (by omega)⟩
theorem yw_t8 (post : Int32 → Prop) (d : Nat) (v : qf_V d) (hP : qf_P d a_products) (i : Nat) (hi : i < qf_h d) (e : Nat) (he : e ≤ 1000) (h : post (nI (qf_pw (qf_T d) i e))) : ∀ r m n : Nat, m + r = e → r < n → wY_times_8 post (nI i) (nI e) (nI d) (nI (qf_h d)) f_first f_middle a_as a_bs a_cs a_products n (nI (qf_pw (qf_T d) i m)) (nI m) := by
  intro r
  induction r with
  | zero =>
    intro m n hm hn
    obtain ⟨n, rfl⟩ : ∃ j, n = j + 1 := ⟨n - 1, by omega⟩
    have : m = e := by omega
    subst this
    exact br_t (nI_le (Nat.le_refl _) (by omega)) h
  | succ r ih =>
    intro m n hm hn
    obtain ⟨n, rfl⟩ : ∃ j, n = j + 1 := ⟨n - 1, by omega⟩
    obtain ⟨p1, p2⟩ := yw_pr v hP (qf_pwlt v hi m) hi
    exact br_f (nI_ge (by omega) (by omega)) ⟨p1, nm_r p2 (nm_r (nI_1 m) (ih (m + 1) n (by omega) (by omega)))⟩
theorem yw_times (post : Int32 → Prop) (d : Nat) (v : qf_V d) (hS : qf_S d a_as a_bs a_cs) (hP : qf_P d a_products) (i : Nat) (hi : i < qf_h d) (e : Nat) (he : e ≤ 1000) (h : post (nI (qf_pw (qf_T d) i e))) : wpY_times post (nI d, nI (qf_h d), f_first, f_middle, a_as, a_bs, a_cs, a_products) (nI i) (nI e) :=
  yw_neutral _ d v hS ⟨e + 1, yw_t8 post d v hP i hi e he h e 0 (e + 1) (by omega) (by omega)⟩
theorem yw_o21 (post : Int32 → Prop) (d : Nat) (v : qf_V d) (hP : qf_P d a_products) (i : Nat) (hi : i < qf_h d) (E : Nat) (hE : E < qf_h d) (h0 : qf_pw (qf_T d) i (E + 1) = 0) (hm : ∀ j, j < E → qf_pw (qf_T d) i (j + 1) ≠ 0) (h : post (nI (E + 1))) : ∀ (m e n : Nat), e + m = E → m < n → wY_order_21 post (nI i) (nI 0) (nI d) (nI (qf_h d)) f_first f_middle a_as a_bs a_cs a_products n (nI (e + 1)) (nI (qf_pw (qf_T d) i (e + 1))) := by
  have hh := (qf_vh v).2
  intro m
  induction m with
  | zero =>
    intro e n he hn
    obtain ⟨n, rfl⟩ : ∃ j, n = j + 1 := ⟨n - 1, by omega⟩
    have : e = E := by omega
    subst this
    rw [h0]
    exact br_t rfl h
  | succ m ih =>
    intro e n he hn
    obtain ⟨n, rfl⟩ : ∃ j, n = j + 1 := ⟨n - 1, by omega⟩
    have hl := qf_pwlt v hi (e + 1)
    obtain ⟨p1, p2⟩ := yw_pr v hP hl hi
    exact br_f (fun t => hm e (by omega) ((nI_eq (by omega) (by omega)).mp t)) (nm_r (nI_1 (e + 1)) ⟨p1, nm_r p2 (ih (e + 1) n (by omega) (by omega))⟩)
theorem yw_ro25 (post : Int32 → Prop) (d : Nat) (v : qf_V d) (hS : qf_S d a_as a_bs a_cs) (hP : qf_P d a_products) (m : Nat) (hm : m ≤ 1000) (K : post (nI (qf_cnt (fun k => qf_pw (qf_T d) k m == 0) (qf_h d)))) : ∀ (r k n : Nat), k + r = qf_h d → r < n → wY_roots_25 post (nI m) (nI 0) (nI d) (nI (qf_h d)) f_first f_middle a_as a_bs a_cs a_products n (nI (qf_cnt (fun k => qf_pw (qf_T d) k m == 0) k)) (nI k) := by
  have hh := (qf_vh v).2
  intro r
  induction r with
  | zero =>
    intro k n he hn
    obtain ⟨n, rfl⟩ : ∃ j, n = j + 1 := ⟨n - 1, by omega⟩
    have : k = qf_h d := by omega
    subst this
    exact br_t (nI_le (Nat.le_refl _) (by omega)) K
  | succ r ih =>
    intro k n he hn
    obtain ⟨n, rfl⟩ : ∃ j, n = j + 1 := ⟨n - 1, by omega⟩
    have hk : k < qf_h d := by omega
    have hl := qf_pwlt v hk m
    refine br_f (nI_ge hk (by omega)) (yw_times _ d v hS hP k hk m hm (pk_eq (qf_pw (qf_T d) k m) 0 (fun z => ?_) (fun z => ?_)))
    · have ec : qf_cnt (fun k => qf_pw (qf_T d) k m == 0) (k + 1) = qf_cnt (fun k => qf_pw (qf_T d) k m == 0) k + 1 := if_pos (beq_iff_eq.mpr z)
      have := ih (k + 1) n (by omega) (by omega)
      rw [ec] at this
      exact nm_r (nI_1 _) (nm_r (nI_1 k) this)
    · have ec : qf_cnt (fun k => qf_pw (qf_T d) k m == 0) (k + 1) = qf_cnt (fun k => qf_pw (qf_T d) k m == 0) k := if_neg (fun t => z (eq_of_beq t))
      have := ih (k + 1) n (by omega) (by omega)
      rw [ec] at this
      exact nm_r (nI_1 k) this
theorem yw_q17 (post : Int32 → Prop) (J : Int32 → Int32 → Prop) (d : Nat) (v : qf_V d) (hP : qf_P d a_products) (c k : Nat) (hk : k < qf_h d) (K : J (nI (if qf_anyb (fun i => qf_T d i i == k) (qf_h d) = true then c + 1 else c)) (nI (k + 1))) : ∀ (r i n : Nat), i + r = qf_h d → r < n → wY_squares_17 post J (nI c) (nI k) (nI d) (nI (qf_h d)) f_first f_middle a_as a_bs a_cs a_products n (qf_bi (qf_anyb (fun i => qf_T d i i == k) i)) (nI i) := by
  have hh := (qf_vh v).2
  intro r
  induction r with
  | zero =>
    intro i n he hn
    obtain ⟨n, rfl⟩ : ∃ j, n = j + 1 := ⟨n - 1, by omega⟩
    have : i = qf_h d := by omega
    subst this
    refine br_t (nI_le (Nat.le_refl _) (by omega)) ?_
    by_cases z : qf_anyb (fun i => qf_T d i i == k) (qf_h d) = true
    · rw [if_pos z] at K
      unfold qf_bi
      rw [if_pos z]
      exact br_f (by decide) (nm_r (nI_1 c) (nm_r (nI_1 k) K))
    · rw [if_neg z] at K
      unfold qf_bi
      rw [if_neg z]
      exact br_t rfl (nm_r (nI_1 k) K)
  | succ r ih =>
    intro i n he hn
    obtain ⟨n, rfl⟩ : ∃ j, n = j + 1 := ⟨n - 1, by omega⟩
    have hi : i < qf_h d := by omega
    have hT := qf_vTlt v hi hi
    obtain ⟨p1, p2⟩ := yw_pr v hP hi hi
    have nx := ih (i + 1) n (by omega) (by omega)
    have ea : qf_anyb (fun i => qf_T d i i == k) (i + 1) = (qf_anyb (fun i => qf_T d i i == k) i || (qf_T d i i == k)) := rfl
    refine br_f (nI_ge hi (by omega)) ?_
    by_cases z : qf_anyb (fun i => qf_T d i i == k) i = true
    · rw [ea, z, Bool.true_or] at nx
      rw [z]
      exact br_f (by decide) (nm_r (nI_1 i) nx)
    · have z := Bool.eq_false_iff.mpr z
      rw [ea, z, Bool.false_or] at nx
      rw [z]
      refine br_t rfl ⟨p1, ?_⟩
      rw [p2]
      refine pk_eq (qf_T d i i) k (fun t => ?_) (fun t => ?_)
      · rw [beq_iff_eq.mpr t] at nx
        exact nm_r (nI_1 i) nx
      · rw [beq_eq_false_iff_ne.mpr t] at nx
        exact nm_r (nI_1 i) nx
theorem yw_q4 (post : Int32 → Prop) (d : Nat) (v : qf_V d) (hP : qf_P d a_products) (h : post (nI (qf_cnt (fun k => qf_anyb (fun i => qf_T d i i == k) (qf_h d)) (qf_h d)))) : ∀ (r k n : Nat), k + r = qf_h d → r < n → wY_squares_4 post (nI d) (nI (qf_h d)) f_first f_middle a_as a_bs a_cs a_products n (nI (qf_cnt (fun k => qf_anyb (fun i => qf_T d i i == k) (qf_h d)) k)) (nI k) := by
  have hh := (qf_vh v).2
  intro r
  induction r with
  | zero =>
    intro k n he hn
    obtain ⟨n, rfl⟩ : ∃ j, n = j + 1 := ⟨n - 1, by omega⟩
    have : k = qf_h d := by omega
    subst this
    exact br_t (nI_le (Nat.le_refl _) (by omega)) h
  | succ r ih =>
    intro k n he hn
    obtain ⟨n, rfl⟩ : ∃ j, n = j + 1 := ⟨n - 1, by omega⟩
    have hk : k < qf_h d := by omega
    have nx := ih (k + 1) n (by omega) (by omega)
    exact br_f (nI_ge hk (by omega)) ⟨qf_h d + 1, yw_q17 post (wY_squares_4 post (nI d) (nI (qf_h d)) f_first f_middle a_as a_bs a_cs a_products n) d v hP (qf_cnt (fun k => qf_anyb (fun i => qf_T d i i == k) (qf_h d)) k) k hk nx (qf_h d) 0 (qf_h d + 1) (by omega) (by omega)⟩
theorem yw_squares (post : Int32 → Prop) (d : Nat) (v : qf_V d) (hP : qf_P d a_products) (h : post (nI (qf_cnt (fun k => qf_anyb (fun i => qf_T d i i == k) (qf_h d)) (qf_h d)))) : wpY_squares post (nI d, nI (qf_h d), f_first, f_middle, a_as, a_bs, a_cs, a_products) :=
  ⟨qf_h d + 1, yw_q4 post d v hP h (qf_h d) 0 (qf_h d + 1) (by omega) (by omega)⟩
/-! pairs tried -/
theorem yw_fo18 (post : Int32 → Prop) (J : Int32 → Int32 → Prop) (d : Nat) (v : qf_V d) (hS : qf_S d a_as a_bs a_cs) (k : Nat) (hk : k < qf_h d) (n : Nat) (hn : n ≤ 500) (ap : Int32) (p : Int → Int → Prop) (hp : qf_ap d k n ap p) (x : Int) (hx : -28 ≤ x ∧ x ≤ 28) (c : Nat) (K : J (nI (c + qf_sm (fun j => qf_b (p x ((j : Int) - 28))) 57)) (zz_i (x + 1))) : ∀ (r j n' : Nat), j + r = 57 → r < n' → wY_found_18 post J (nI k) (nI n) ap (zz_i x) (nI d) (nI (qf_h d)) f_first f_middle a_as a_bs a_cs a_products n' (nI (c + qf_sm (fun j => qf_b (p x ((j : Int) - 28))) j)) (zz_i ((j : Int) - 28)) := by
  have hh := (qf_vh v).2
  have hcl : (nI k).toNatClampNeg = k := nI_clamp (by omega)
  obtain ⟨s1, s2, s3⟩ := hS k hk
  obtain ⟨⟨f1, f2⟩, ⟨f3, f4⟩, _, ⟨f5, f6⟩, _⟩ := qf_vfm v hk
  have hv : vp_in (nI k) 64 := vp_in_nI (by omega) (by decide)
  have s1 : a_as k = zz_i (qf_A d k) := s1
  have s2 : a_bs k = zz_i (qf_B d k) := s2
  have s3 : a_cs k = zz_i (qf_C d k) := s3
  intro r
  induction r with
  | zero =>
    intro j n' he hn'
    obtain ⟨n', rfl⟩ : ∃ j, n' = j + 1 := ⟨n' - 1, by omega⟩
    have : j = 57 := by omega
    subst this
    exact zb_ilt 28 29 (fun _ => zb_nm (zz_iadd x 1) K) (fun t => absurd t (by omega))
  | succ r ih =>
    intro j n' he hn'
    obtain ⟨n', rfl⟩ : ∃ j, n' = j + 1 := ⟨n' - 1, by omega⟩
    have nx := ih (j + 1) n' (by omega) (by omega)
    rw [qf_smS] at nx
    have en : zz_i ((j : Int) - 28) + 1 = zz_i (((j + 1 : Nat) : Int) - 28) := by
      have := zz_iadd ((j : Int) - 28) 1
      rw [show (j : Int) - 28 + 1 = ((j + 1 : Nat) : Int) - 28 from by omega] at this
      exact this
    have yes : p x ((j : Int) - 28) → ∀ w, w = nI (c + qf_sm (fun j => qf_b (p x ((j : Int) - 28))) j) + 1 → ∀ z, z = zz_i ((j : Int) - 28) + 1 → wY_found_18 post J (nI k) (nI n) ap (zz_i x) (nI d) (nI (qf_h d)) f_first f_middle a_as a_bs a_cs a_products n' w z := by
      intro hq
      rw [qf_b_t hq, ← Nat.add_assoc] at nx
      exact nm_r (nI_1 _) (nm_r en nx)
    have no : ¬ p x ((j : Int) - 28) → ∀ z, z = zz_i ((j : Int) - 28) + 1 → wY_found_18 post J (nI k) (nI n) ap (zz_i x) (nI d) (nI (qf_h d)) f_first f_middle a_as a_bs a_cs a_products n' (nI (c + qf_sm (fun j => qf_b (p x ((j : Int) - 28))) j)) z := by
      intro hq
      rw [qf_b_f hq, Nat.add_zero] at nx
      exact nm_r en nx
    clear nx ih
    have hy : -28 ≤ (j : Int) - 28 ∧ (j : Int) - 28 ≤ 28 := by omega
    generalize (j : Int) - 28 = y at *
    have hvb := qf_val_b (a := qf_A d k) (b := qf_B d k) (c := qf_C d k) (x := x) (y := y) (M := 28) (by omega) (by omega) (by omega) (by omega) (by omega) (by omega)
    have eval : ((a_as (nI k).toNatClampNeg * zz_i x * zz_i x + a_bs (nI k).toNatClampNeg * zz_i x * zz_i y) + a_cs (nI k).toNatClampNeg * zz_i y * zz_i y) = zz_i (qf_val (qf_A d k) (qf_B d k) (qf_C d k) x y) := by
      rw [hcl, s1, s2, s3]
      simp only [zz_imul, zz_iadd]
      rfl
    refine zb_ilt 28 y (fun t => absurd t (by omega)) (fun _ => ⟨hv, hv, hv, zb_nm eval (zb_ieq (qf_val (qf_A d k) (qf_B d k) (qf_C d k) x y) n (fun t => ?_) (fun t => no fun q => ?_) rfl (zz_nI n))⟩)
    · rcases id hp with ⟨rfl, hp'⟩ | ⟨rfl, hp'⟩
      · exact br_t rfl (yes ((hp' x y).mpr t))
      · refine br_f (by decide) ?_
        rw [zz_i2l (a := x) (by omega), zz_i2l (a := y) (by omega)]
        have hgx : Int.gcd x y < 1000000 := by
          by_cases c : x = 0
          · rw [c]
            have : Int.gcd 0 y = y.natAbs := Int.gcd_zero_left ..
            omega
          · have : Int.gcd x y ≤ x.natAbs := Nat.gcd_le_left _ (by omega)
            omega
        exact yw_divisor _ x y (by omega) (by omega) (zb_leq (Int.gcd x y : Nat) 1 (fun t1 => yes ((hp' x y).mpr ⟨t, by omega⟩)) (fun t1 => no fun q => t1 (by have := ((hp' x y).mp q).2; omega)))
    · rcases id hp with ⟨_, hp'⟩ | ⟨_, hp'⟩
      · exact t ((hp' x y).mp q)
      · exact t ((hp' x y).mp q).1
theorem yw_fo7 (post : Int32 → Prop) (d : Nat) (v : qf_V d) (hS : qf_S d a_as a_bs a_cs) (k : Nat) (hk : k < qf_h d) (n : Nat) (hn : n ≤ 500) (ap : Int32) (p : Int → Int → Prop) (hp : qf_ap d k n ap p) (h : post (nI (qf_bx (fun x y => qf_b (p x y))))) : ∀ (r i n' : Nat), i + r = 57 → r < n' → wY_found_7 post (nI k) (nI n) ap (nI d) (nI (qf_h d)) f_first f_middle a_as a_bs a_cs a_products n' (nI (qf_sm (fun i => qf_sm (fun j => qf_b (p ((i : Int) - 28) ((j : Int) - 28))) 57) i)) (zz_i ((i : Int) - 28)) := by
  intro r
  induction r with
  | zero =>
    intro i n' he hn'
    obtain ⟨n', rfl⟩ : ∃ j, n' = j + 1 := ⟨n' - 1, by omega⟩
    have : i = 57 := by omega
    subst this
    exact zb_ilt 28 29 (fun _ => h) (fun t => absurd t (by omega))
  | succ r ih =>
    intro i n' he hn'
    obtain ⟨n', rfl⟩ : ∃ j, n' = j + 1 := ⟨n' - 1, by omega⟩
    have nx := ih (i + 1) n' (by omega) (by omega)
    rw [qf_smS, show ((i + 1 : Nat) : Int) - 28 = (i : Int) - 28 + 1 from by omega] at nx
    exact zb_ilt 28 ((i : Int) - 28) (fun t => absurd t (by omega)) (fun _ => ⟨58, yw_fo18 post (wY_found_7 post (nI k) (nI n) ap (nI d) (nI (qf_h d)) f_first f_middle a_as a_bs a_cs a_products n') d v hS k hk n hn ap p hp ((i : Int) - 28) (by omega) _ nx 57 0 58 (by omega) (by omega)⟩)
theorem yw_found (post : Int32 → Prop) (d : Nat) (v : qf_V d) (hS : qf_S d a_as a_bs a_cs) (k : Nat) (hk : k < qf_h d) (n : Nat) (hn : n ≤ 500) (ap : Int32) (p : Int → Int → Prop) (hp : qf_ap d k n ap p) (h : post (nI (qf_bx (fun x y => qf_b (p x y))))) : wpY_found post (nI d, nI (qf_h d), f_first, f_middle, a_as, a_bs, a_cs, a_products) (nI k) (nI n) ap :=
  ⟨58, yw_fo7 post d v hS k hk n hn ap p hp h 57 0 58 (by omega) (by omega)⟩
theorem yw_found0 (post : Int32 → Prop) (d : Nat) (v : qf_V d) (hS : qf_S d a_as a_bs a_cs) (k : Nat) (hk : k < qf_h d) (n : Nat) (hn : n ≤ 500) (h : post (nI (qf_fu d k n))) : wpY_found post (nI d, nI (qf_h d), f_first, f_middle, a_as, a_bs, a_cs, a_products) (nI k) (nI n) 0 :=
  yw_found post d v hS k hk n hn 0 _ (Or.inl ⟨rfl, fun _ _ => Iff.rfl⟩) h
theorem yw_found1 (post : Int32 → Prop) (d : Nat) (v : qf_V d) (hS : qf_S d a_as a_bs a_cs) (k : Nat) (hk : k < qf_h d) (n : Nat) (hn : n ≤ 500) (h : post (nI (qf_pm d k n))) : wpY_found post (nI d, nI (qf_h d), f_first, f_middle, a_as, a_bs, a_cs, a_products) (nI k) (nI n) 1 :=
  yw_found post d v hS k hk n hn 1 _ (Or.inr ⟨rfl, fun _ _ => Iff.rfl⟩) h
theorem yw_a15 (post : Int32 → Prop) (d : Nat) (v : qf_V d) (hS : qf_S d a_as a_bs a_cs) (n : Nat) (hn : n ≤ 500) (h : post (nI (qf_sm (fun k => qf_fu d k n) (qf_h d)))) : ∀ (r k n' : Nat), k + r = qf_h d → r < n' → wY_all_15 post (nI n) (nI d) (nI (qf_h d)) f_first f_middle a_as a_bs a_cs a_products n' (nI (qf_sm (fun k => qf_fu d k n) k)) (nI k) := by
  have hh := (qf_vh v).2
  intro r
  induction r with
  | zero =>
    intro k n' he hn'
    obtain ⟨n', rfl⟩ : ∃ j, n' = j + 1 := ⟨n' - 1, by omega⟩
    have : k = qf_h d := by omega
    subst this
    exact br_t (nI_le (Nat.le_refl _) (by omega)) h
  | succ r ih =>
    intro k n' he hn'
    obtain ⟨n', rfl⟩ : ∃ j, n' = j + 1 := ⟨n' - 1, by omega⟩
    have hk : k < qf_h d := by omega
    have nx := ih (k + 1) n' (by omega) (by omega)
    rw [qf_smS] at nx
    exact br_f (nI_ge hk (by omega)) (yw_found0 _ d v hS k hk n hn (nm_r (nI_add _ _) (nm_r (nI_1 k) nx)))
theorem yw_l13 (post : Int32 → Prop) (d : Nat) (v : qf_V d) (hS : qf_S d a_as a_bs a_cs) (n : Nat) (hn : 0 < n ∧ n ≤ 500) (b : Int32) (hb : qf_lst d n (2 * n) b) (h : post b) : ∀ (r k n' : Nat), k + r = qf_h d → r < n' → (∀ k0, b = nI k0 → k0 < qf_h d → k ≤ k0) → wY_least_13 post (nI n) (nI d) (nI (qf_h d)) f_first f_middle a_as a_bs a_cs a_products n' (nI k) := by
  have hh := (qf_vh v).2
  intro r
  induction r with
  | zero =>
    intro k n' he hn' hk0
    obtain ⟨n', rfl⟩ : ∃ j, n' = j + 1 := ⟨n' - 1, by omega⟩
    have : k = qf_h d := by omega
    subst this
    rcases hb with ⟨rfl, _⟩ | ⟨k0, h1, h2, _⟩
    · exact br_t (nI_le (Nat.le_refl _) (by omega)) h
    · have := hk0 k0 h2 h1
      omega
  | succ r ih =>
    intro k n' he hn' hk0
    obtain ⟨n', rfl⟩ : ∃ j, n' = j + 1 := ⟨n' - 1, by omega⟩
    have hk : k < qf_h d := by omega
    have hpl : qf_pm d k n ≤ 3249 := qf_bx_le _
    have hpp := qf_pm_pos v hk hn.1 hn.2
    refine br_f (nI_ge hk (by omega)) (yw_found1 _ d v hS k hk n hn.2 (pk_le (qf_pm d k n) 0 (fun t => nm_r (nI_1 k) (ih (k + 1) n' (by omega) (by omega) fun k0 e0 l0 => ?_)) (fun t => ?_)))
    · have h1 := hk0 k0 e0 l0
      by_cases z : k0 = k
      · exfalso
        subst z
        rcases hb with ⟨rfl, _⟩ | ⟨k1, h2, h3, ⟨z1, h4, h5⟩, _⟩
        · have hi : (nI k0).toInt = (k0 : Int) := nI_toInt (by omega)
          have hm : ((-1000001 : Int32)).toInt = -1000001 := by decide
          rw [← e0, hm] at hi
          omega
        · rw [e0] at h3
          have h3 := (nI_eq (by omega) (by omega)).mp h3
          subst h3
          have := hpp.mpr ⟨z1, h4, h5⟩
          omega
      · omega
    · obtain ⟨y, hy, hok, hr⟩ := hpp.mp t
      rcases hb with ⟨_, h2⟩ | ⟨k1, h2, rfl, _, h6⟩
      · exact absurd hok (h2 y hy)
      · have h7 := h6 y k hy hk hok hr
        have h8 := hk0 k1 rfl h2
        have : k1 = k := by omega
        rw [this] at h
        exact h
end
end
section
/-! the relation -/
/-- both sides hold the same d; count, arrays and products are those of the pure picture; the fields at work are free -/
def i_Rel (_ : Nat) (u : SX) (v : SY) : Prop := ∃ d : Nat, ∃ fa fb fc fd fo ft : Int64, ∃ gA gB gC : Nat → Int32, ∃ ff fm : Int64, ∃ hA hB hC pr : Nat → Int32, u = (nI d, nI (qf_h d), fa, fb, fc, fd, fo, ft, gA, gB, gC) ∧ v = (nI d, nI (qf_h d), ff, fm, hA, hB, hC, pr) ∧ qf_V d ∧ qf_S d gA gB gC ∧ qf_S d hA hB hC ∧ qf_P d pr
theorem rl_el {P : SX → SY → Prop} {k : Nat} {u : SX} {v : SY} (I : i_Rel k u v) (h : ∀ (d : Nat) (fa fb fc fd fo ft : Int64) (gA gB gC : Nat → Int32) (ff fm : Int64) (hA hB hC pr : Nat → Int32), qf_V d → qf_S d gA gB gC → qf_S d hA hB hC → qf_P d pr → P (nI d, nI (qf_h d), fa, fb, fc, fd, fo, ft, gA, gB, gC) (nI d, nI (qf_h d), ff, fm, hA, hB, hC, pr)) : P u v := by
  obtain ⟨d, fa, fb, fc, fd, fo, ft, gA, gB, gC, ff, fm, hA, hB, hC, pr, eu, ev, V, S1, S2, Q⟩ := I
  rw [eu, ev]
  exact h d fa fb fc fd fo ft gA gB gC ff fm hA hB hC pr V S1 S2 Q
theorem rl_in {k d : Nat} {fa fb fc fd fo ft : Int64} {gA gB gC : Nat → Int32} {ff fm : Int64} {hA hB hC pr : Nat → Int32} (V : qf_V d) (S1 : qf_S d gA gB gC) (S2 : qf_S d hA hB hC) (Q : qf_P d pr) : i_Rel k (nI d, nI (qf_h d), fa, fb, fc, fd, fo, ft, gA, gB, gC) (nI d, nI (qf_h d), ff, fm, hA, hB, hC, pr) :=
  ⟨d, fa, fb, fc, fd, fo, ft, gA, gB, gC, ff, fm, hA, hB, hC, pr, rfl, rfl, V, S1, S2, Q⟩
theorem i_up {k : Nat} {u : SX} {v : SY} (h : i_Rel k u v) : i_Rel (k + 3) u v := h
theorem i_vc0 : wpX_init (fun u => wpY_init (fun v => i_Rel 0 u v)) := by
  have V : qf_V 3 := ⟨by omega, by omega, Or.inr rfl⟩
  unfold wpX_init
  refine xw_findClasses _ 3 V fun fA fB fC hS => ?_
  dsimp only
  unfold wpY_init
  exact yw_list _ 0 3 V fun ff fm gA gB gC pr h1 h2 => rl_in V hS h1 h2
/-! numbers from 1 to 500 -/
theorem rl_num (x : Int32) : (x < 1 ∨ ¬ x ≤ 500) ∨ ∃ n : Nat, (0 < n ∧ n ≤ 500) ∧ x = nI n := by
  by_cases h1 : x < 1
  · exact Or.inl (Or.inl h1)
  · by_cases h2 : x ≤ 500
    · obtain ⟨z, rfl, hz⟩ := zz_of x
      have e1 := zz_ilt' (a := z) (b := 1) hz (by omega)
      have e2 := zz_ile' (a := z) (b := 500) hz (by omega)
      have h1 : ¬ z < 1 := fun t => h1 (e1.mpr t)
      have h2 : z ≤ 500 := e2.mp h2
      exact Or.inr ⟨z.toNat, by omega, zz_nT (by omega)⟩
    · exact Or.inl (Or.inr h2)
section
variable {f_d : Int32} {f_count : Int32} {f_a : Int64} {f_b : Int64} {f_c : Int64} {f_divisor : Int64} {f_one : Int64} {f_other : Int64} {a_formA : Nat → Int32} {a_formB : Nat → Int32} {a_formC : Nat → Int32}
theorem xw_num1 (post : Int32 → Prop) (x : Int32) (hx : x < 1 ∨ ¬ x ≤ 500) (hp : post 1) : wpX_badNumber post (f_d, f_count, f_a, f_b, f_c, f_divisor, f_one, f_other, a_formA, a_formB, a_formC) x := by
  by_cases h : x < 1
  · exact br_t h hp
  · exact br_f h (br_f (hx.resolve_left h) hp)
theorem xw_num0 (post : Int32 → Prop) (n : Nat) (hn : 0 < n ∧ n ≤ 500) (hp : post 0) : wpX_badNumber post (f_d, f_count, f_a, f_b, f_c, f_divisor, f_one, f_other, a_formA, a_formB, a_formC) (nI n) :=
  br_f (nI_nlt (b := 1) hn.1 (by omega)) (br_t (nI_le (b := 500) hn.2 (by decide)) hp)
end
section
variable {f_d : Int32} {f_count : Int32} {f_first : Int64} {f_middle : Int64} {a_as : Nat → Int32} {a_bs : Nat → Int32} {a_cs : Nat → Int32} {a_products : Nat → Int32}
theorem yw_num1 (post : Int32 → Prop) (x : Int32) (hx : x < 1 ∨ ¬ x ≤ 500) (hp : post 1) : wpY_noNumber post (f_d, f_count, f_first, f_middle, a_as, a_bs, a_cs, a_products) x := by
  by_cases h : x < 1
  · exact br_t h hp
  · exact br_f h (br_f (hx.resolve_left h) hp)
theorem yw_num0 (post : Int32 → Prop) (n : Nat) (hn : 0 < n ∧ n ≤ 500) (hp : post 0) : wpY_noNumber post (f_d, f_count, f_first, f_middle, a_as, a_bs, a_cs, a_products) (nI n) :=
  br_f (nI_nlt (b := 1) hn.1 (by omega)) (br_t (nI_le (b := 500) hn.2 (by decide)) hp)
end
theorem rl_cl {d : Nat} (V : qf_V d) (x : Int32) : (x < 0 ∨ nI (qf_h d) ≤ x) ∨ ∃ i, i < qf_h d ∧ x = nI i := by
  have hh := (qf_vh V).2
  rcases pk_ix x (n := qf_h d) (by omega) with h | h | h
  · exact Or.inl (Or.inl h)
  · exact Or.inl (Or.inr h)
  · exact Or.inr h
end
section
/-! what is owed, first half -/
theorem i_vc_discriminant {k : Nat} {u : SX} {v : SY} (I : i_Rel k u v) (hk : k + 3 ≤ 1536) (v1 : Int32) : wpX_discriminant (fun r u' => wpY_discriminant (fun r' v' => r' = r ∧ i_Rel (k + 3) u' v') v v1) u v1 := by
  refine rl_el (P := fun u v => wpX_discriminant (fun r u' => wpY_discriminant (fun r' v' => r' = r ∧ i_Rel (k + 3) u' v') v v1) u v1) I ?_
  intro d fa fb fc fd fo ft gA gB gC ff fm hA hB hC pr V S1 S2 Q
  by_cases h1 : v1 < 3
  · exact br_t h1 (br_t h1 ⟨rfl, rl_in V S1 S2 Q⟩)
  · by_cases h2 : 400 < v1
    · exact br_f h1 (br_t h2 (br_f h1 (br_t h2 ⟨rfl, rl_in V S1 S2 Q⟩)))
    · obtain ⟨z, rfl, hz⟩ := zz_of v1
      have e1 := zz_ilt' (a := z) (b := 3) hz (by omega)
      have e2 := zz_ilt' (a := 400) (b := z) (by omega) hz
      have h1' : ¬ z < 3 := fun t => h1 (e1.mpr t)
      have h2' : ¬ 400 < z := fun t => h2 (e2.mpr t)
      obtain ⟨j, hj⟩ : ∃ j : Nat, z = j := ⟨z.toNat, by omega⟩
      subst hj
      rw [← zz_nI] at h1 h2 ⊢
      have er : nI j - nI j / 4 * 4 = nI (j % 4) := pk_rem (d := 4) (by omega) (by decide) (by decide)
      have h4 := Nat.mod_lt j (show 4 > 0 by decide)
      have d4 : ¬ (4 : Int32) = 0 := by decide
      by_cases m1 : j % 4 = 1
      · have t1 : nI j - nI j / 4 * 4 = 1 := by rw [er, m1]; rfl
        exact br_f h1 (br_f h2 ⟨d4, br_t t1 (br_f h1 (br_f h2 ⟨d4, br_t t1 ⟨rfl, rl_in V S1 S2 Q⟩⟩))⟩)
      · have t1 : ¬ nI j - nI j / 4 * 4 = 1 := by
          rw [er]
          exact fun t => m1 ((nI_eq (b := 1) (by omega) (by decide)).mp t)
        by_cases m2 : j % 4 = 2
        · have t2 : nI j - nI j / 4 * 4 = 2 := by rw [er, m2]; rfl
          exact br_f h1 (br_f h2 ⟨d4, br_f t1 ⟨d4, br_t t2 (br_f h1 (br_f h2 ⟨d4, br_f t1 ⟨d4, br_t t2 ⟨rfl, rl_in V S1 S2 Q⟩⟩⟩))⟩⟩)
        · have t2 : ¬ nI j - nI j / 4 * 4 = 2 := by
            rw [er]
            exact fun t => m2 ((nI_eq (b := 2) (by omega) (by decide)).mp t)
          have V2 : qf_V j := ⟨by omega, by omega, by omega⟩
          refine br_f h1 (br_f h2 ⟨d4, br_f t1 ⟨d4, br_f t2 ?_⟩⟩)
          refine xw_findClasses _ j V2 fun fA fB fC hS => ?_
          dsimp only
          refine br_f h1 (br_f h2 ⟨d4, br_f t1 ⟨d4, br_f t2 ?_⟩⟩)
          exact yw_list _ _ j V2 fun ff fm gA gB gC pr k1 k2 => ⟨rfl, rl_in V2 hS k1 k2⟩
theorem i_vc_classes {k : Nat} {u : SX} {v : SY} (I : i_Rel k u v) (hk : k + 3 ≤ 1536) : wpX_classes (fun r => wpY_classes (fun r' => r' = r ∧ i_Rel (k + 3) u v) v) u := by
  refine rl_el (P := fun u v => wpX_classes (fun r => wpY_classes (fun r' => r' = r ∧ i_Rel (k + 3) u v) v) u) I ?_
  intro d fa fb fc fd fo ft gA gB gC ff fm hA hB hC pr V S1 S2 Q
  exact ⟨rfl, rl_in V S1 S2 Q⟩
theorem i_vc_reduced {k : Nat} {u : SX} {v : SY} (I : i_Rel k u v) (hk : k + 3 ≤ 1536) (v1 : Int32) (v2 : Int32) : wpX_reduced (fun r => wpY_reduced (fun r' => r' = r ∧ i_Rel (k + 3) u v) v v1 v2) u v1 v2 := by
  refine rl_el (P := fun u v => wpX_reduced (fun r => wpY_reduced (fun r' => r' = r ∧ i_Rel (k + 3) u v) v v1 v2) u v1 v2) I ?_
  intro d fa fb fc fd fo ft gA gB gC ff fm hA hB hC pr V S1 S2 Q
  have hh := (qf_vh V).2
  unfold wpX_reduced wpY_reduced
  dsimp only
  rcases rl_cl V v1 with hb | ⟨i, hi, rfl⟩
  · exact xw_bad1 _ _ _ hb (br_f (by decide) (yw_bad1 _ _ _ hb (br_f (by decide) ⟨rfl, rl_in V S1 S2 Q⟩)))
  · have hcl : (nI i).toNatClampNeg = i := nI_clamp (by omega)
    obtain ⟨s1, s2, s3⟩ := S1 i hi
    obtain ⟨t1, t2, t3⟩ := S2 i hi
    have hv : vp_in (nI i) 64 := vp_in_nI (by omega) (by decide)
    refine xw_bad0 _ _ i hi (by omega) (br_t rfl ?_)
    by_cases h1 : v2 < 0
    · exact br_t h1 (yw_bad0 _ _ i hi (by omega) (br_t rfl (br_t h1 ⟨rfl, rl_in V S1 S2 Q⟩)))
    · by_cases h2 : v2 ≤ 2
      · refine br_f h1 (br_t h2 ?_)
        by_cases h3 : v2 = 0
        · exact br_t h3 ⟨hv, yw_bad0 _ _ i hi (by omega) (br_t rfl (br_f h1 (br_t h2 (br_t h3 ⟨hv, by rw [hcl, s1, t1], rl_in V S1 S2 Q⟩))))⟩
        · by_cases h4 : v2 = 1
          · exact br_f h3 (br_t h4 ⟨hv, yw_bad0 _ _ i hi (by omega) (br_t rfl (br_f h1 (br_t h2 (br_f h3 (br_t h4 ⟨hv, by rw [hcl, s2, t2], rl_in V S1 S2 Q⟩)))))⟩)
          · exact br_f h3 (br_f h4 ⟨hv, yw_bad0 _ _ i hi (by omega) (br_t rfl (br_f h1 (br_t h2 (br_f h3 (br_f h4 ⟨hv, by rw [hcl, s3, t3], rl_in V S1 S2 Q⟩)))))⟩)
      · exact br_f h1 (br_f h2 (yw_bad0 _ _ i hi (by omega) (br_t rfl (br_f h1 (br_f h2 ⟨rfl, rl_in V S1 S2 Q⟩)))))
theorem i_vc_classOf {k : Nat} {u : SX} {v : SY} (I : i_Rel k u v) (hk : k + 3 ≤ 1536) (v1 : Int32) (v2 : Int32) : wpX_classOf (fun r u' => wpY_classOf (fun r' => r' = r ∧ i_Rel (k + 3) u' v) v v1 v2) u v1 v2 := by
  refine rl_el (P := fun u v => wpX_classOf (fun r u' => wpY_classOf (fun r' => r' = r ∧ i_Rel (k + 3) u' v) v v1 v2) u v1 v2) I ?_
  intro d fa fb fc fd fo ft gA gB gC ff fm hA hB hC pr V S1 S2 Q
  have hv := V.2.1
  by_cases h1 : v1 < 1
  · exact br_t h1 (br_t h1 ⟨rfl, rl_in V S1 S2 Q⟩)
  by_cases h2 : 1000 < v1
  · exact br_f h1 (br_t h2 (br_f h1 (br_t h2 ⟨rfl, rl_in V S1 S2 Q⟩)))
  by_cases h3 : v2 < -1000
  · exact br_f h1 (br_f h2 (br_t h3 (br_f h1 (br_f h2 (br_t h3 ⟨rfl, rl_in V S1 S2 Q⟩)))))
  by_cases h4 : v2 ≤ 1000
  · have Y : ∀ (r : Int32) (u' : SX), wpY_isForm (fun r_5 => (r_5 = 0 → (-1000001 : Int32) = r ∧ i_Rel (k + 3) u' (nI d, nI (qf_h d), ff, fm, hA, hB, hC, pr)) ∧ (¬ r_5 = 0 → wpY_find (fun r_15 => r_15 = r ∧ i_Rel (k + 3) u' (nI d, nI (qf_h d), ff, fm, hA, hB, hC, pr)) (nI d, nI (qf_h d), ff, fm, hA, hB, hC, pr) v1.toInt64 v2.toInt64)) (nI d, nI (qf_h d), ff, fm, hA, hB, hC, pr) v1.toInt64 v2.toInt64 → wpY_classOf (fun r' => r' = r ∧ i_Rel (k + 3) u' (nI d, nI (qf_h d), ff, fm, hA, hB, hC, pr)) (nI d, nI (qf_h d), ff, fm, hA, hB, hC, pr) v1 v2 :=
      fun r u' t => br_f h1 (br_f h2 (br_f h3 (br_t h4 t)))
    refine br_f h1 (br_f h2 (br_f h3 (br_t h4 ?_)))
    obtain ⟨a, rfl, ha⟩ := zz_of v1
    obtain ⟨b, rfl, hb⟩ := zz_of v2
    have a1 : ¬ a < 1 := fun t => h1 ((zz_ilt' (a := a) (b := 1) ha (by omega)).mpr t)
    have a2 : ¬ 1000 < a := fun t => h2 ((zz_ilt' (a := 1000) (b := a) (by omega) ha).mpr t)
    have b1 : ¬ b < -1000 := fun t => h3 ((zz_ilt' (a := b) (b := -1000) hb (by omega)).mpr t)
    have b2 : b ≤ 1000 := (zz_ile' (a := b) (b := 1000) hb (by omega)).mp h4
    rw [zz_i2l (a := a) (by omega), zz_i2l (a := b) (by omega)] at Y
    have hbb := zz_mb (p := b) (q := b) (P := 1000) (Q := 1000) (by omega) (by omega)
    have hb0 := zz_sq b
    have e1 : zz_i b * zz_i b + nI d = zz_i (b * b + d) := by rw [zz_nI, zz_imul, zz_iadd]
    have e2 : 4 * zz_i a = zz_i (4 * a) := zz_imul 4 a
    have hcr := qf_c_rng (d := d) (a := a) (b := b) (by omega) (by omega)
    have hm := Int.emod_nonneg (b * b + d) (show 4 * a ≠ 0 by omega)
    have hm2 := Int.emod_lt_of_pos (b * b + d) (show 0 < 4 * a by omega)
    have ec : (b * b + d) / (4 * a) = qf_c d a b := rfl
    have hne : ¬ zz_i (4 * a) = 0 := zb_ine (a := 4 * a) (by omega)
    have hg : Int.gcd a b ≤ a.natAbs := Nat.gcd_le_left _ (by omega)
    have none : ¬ qf_ok d a b = true → ∀ u', i_Rel (k + 3) u' (nI d, nI (qf_h d), ff, fm, hA, hB, hC, pr) → wpY_classOf (fun r' => r' = -1000001 ∧ i_Rel (k + 3) u' (nI d, nI (qf_h d), ff, fm, hA, hB, hC, pr)) (nI d, nI (qf_h d), ff, fm, hA, hB, hC, pr) (zz_i a) (zz_i b) := by
      intro no u' R
      exact Y _ _ (yw_isForm _ d a b hv (by omega) (by omega) (fun t => absurd t no) (fun _ => br_t rfl ⟨rfl, R⟩))
    refine zb_nm e1 ?_
    rw [e2, zz_irem (by omega) (by omega), zz_idiv (by omega) (by omega), Int.tmod_eq_emod_of_nonneg (by omega), Int.tdiv_eq_ediv_of_nonneg (by omega), ec, zz_i2l (a := a) (by omega), zz_i2l (a := b) (by omega), zz_i2l (a := qf_c d a b) (by omega)]
    refine ⟨hne, zb_ieq ((b * b + d) % (4 * a)) 0 (fun z => ⟨hne, ?_⟩) (fun z => none (fun t => z (qf_ok_iff.mp t).1) _ (rl_in V S1 S2 Q))⟩
    refine xw_isForm _ a b _ (by omega) (by omega) (by omega) (by omega) (fun g => br_f (by decide) ?_) (fun g => br_t rfl (none (fun t => g (qf_ok_iff.mp t).2) _ (rl_in V S1 S2 Q)))
    have ok : qf_ok d a b = true := qf_ok_iff.mpr ⟨z, g⟩
    obtain ⟨i, hi, hr⟩ := qf_cls V (a := a) (b := b) (by omega) (by omega) ok
    refine xw_cow _ d V S1 a b (by omega) (by omega) i hi (by omega) hr fun _ _ _ _ _ _ => ?_
    refine Y _ _ (yw_isForm _ d a b hv (by omega) (by omega) (fun _ => br_f (by decide) ?_) (fun t => by rw [ok] at t; exact absurd t (by decide)))
    exact yw_find _ d V S2 a b (by omega) (by omega) i hi hr ⟨rfl, rl_in V S1 S2 Q⟩
  · exact br_f h1 (br_f h2 (br_f h3 (br_f h4 (br_f h1 (br_f h2 (br_f h3 (br_f h4 ⟨rfl, rl_in V S1 S2 Q⟩)))))))
theorem i_vc_neutral {k : Nat} {u : SX} {v : SY} (I : i_Rel k u v) (hk : k + 3 ≤ 1536) : wpX_neutral (fun r u' => wpY_neutral (fun r' => r' = r ∧ i_Rel (k + 3) u' v) v) u := by
  refine rl_el (P := fun u v => wpX_neutral (fun r u' => wpY_neutral (fun r' => r' = r ∧ i_Rel (k + 3) u' v) v) u) I ?_
  intro d fa fb fc fd fo ft gA gB gC ff fm hA hB hC pr V S1 S2 Q
  exact xw_neutral _ d V S1 fun _ _ _ _ _ _ => yw_neutral _ d V S2 ⟨rfl, rl_in V S1 S2 Q⟩
theorem i_vc_product {k : Nat} {u : SX} {v : SY} (I : i_Rel k u v) (hk : k + 3 ≤ 1536) (v1 : Int32) (v2 : Int32) : wpX_product (fun r u' => wpY_product (fun r' => r' = r ∧ i_Rel (k + 3) u' v) v v1 v2) u v1 v2 := by
  refine rl_el (P := fun u v => wpX_product (fun r u' => wpY_product (fun r' => r' = r ∧ i_Rel (k + 3) u' v) v v1 v2) u v1 v2) I ?_
  intro d fa fb fc fd fo ft gA gB gC ff fm hA hB hC pr V S1 S2 Q
  have hh := (qf_vh V).2
  unfold wpX_product wpY_product
  dsimp only
  rcases rl_cl V v1 with hb | ⟨i, hi, rfl⟩
  · exact xw_bad1 _ _ _ hb (br_f (by decide) (yw_bad1 _ _ _ hb (br_f (by decide) ⟨rfl, rl_in V S1 S2 Q⟩)))
  · refine xw_bad0 _ _ i hi (by omega) (br_t rfl ?_)
    rcases rl_cl V v2 with hb | ⟨j, hj, rfl⟩
    · exact xw_bad1 _ _ _ hb (br_f (by decide) (yw_bad0 _ _ i hi (by omega) (br_t rfl (yw_bad1 _ _ _ hb (br_f (by decide) ⟨rfl, rl_in V S1 S2 Q⟩)))))
    · refine xw_bad0 _ _ j hj (by omega) (br_t rfl ?_)
      refine xw_mul _ d V S1 i j hi hj fun _ _ _ _ _ _ => ?_
      obtain ⟨p1, p2⟩ := yw_pr V Q hi hj
      exact yw_bad0 _ _ i hi (by omega) (br_t rfl (yw_bad0 _ _ j hj (by omega) (br_t rfl ⟨p1, p2, rl_in V S1 S2 Q⟩)))
theorem i_vc_inverse {k : Nat} {u : SX} {v : SY} (I : i_Rel k u v) (hk : k + 3 ≤ 1536) (v1 : Int32) : wpX_inverse (fun r u' => wpY_inverse (fun r' => r' = r ∧ i_Rel (k + 3) u' v) v v1) u v1 := by
  refine rl_el (P := fun u v => wpX_inverse (fun r u' => wpY_inverse (fun r' => r' = r ∧ i_Rel (k + 3) u' v) v v1) u v1) I ?_
  intro d fa fb fc fd fo ft gA gB gC ff fm hA hB hC pr V S1 S2 Q
  have hh := (qf_vh V).2
  unfold wpX_inverse
  dsimp only
  rcases rl_cl V v1 with hb | ⟨i, hi, rfl⟩
  · refine xw_bad1 _ _ _ hb (br_f (by decide) ?_)
    unfold wpY_inverse
    dsimp only
    exact yw_bad1 _ _ _ hb (br_f (by decide) ⟨rfl, rl_in V S1 S2 Q⟩)
  · refine xw_bad0 _ _ i hi (by omega) (br_t rfl ?_)
    refine xw_inv _ d V S1 i hi fun _ _ _ _ _ _ => ?_
    exact yw_inverse _ d V S2 Q i hi ⟨rfl, rl_in V S1 S2 Q⟩
end
section
/-! what is owed, second half -/
theorem i_vc_power {k : Nat} {u : SX} {v : SY} (I : i_Rel k u v) (hk : k + 3 ≤ 1536) (v1 : Int32) (v2 : Int32) : wpX_power (fun r u' => wpY_power (fun r' => r' = r ∧ i_Rel (k + 3) u' v) v v1 v2) u v1 v2 := by
  refine rl_el (P := fun u v => wpX_power (fun r u' => wpY_power (fun r' => r' = r ∧ i_Rel (k + 3) u' v) v v1 v2) u v1 v2) I ?_
  intro d fa fb fc fd fo ft gA gB gC ff fm hA hB hC pr V S1 S2 Q
  have hh := (qf_vh V).2
  unfold wpX_power wpY_power
  dsimp only
  rcases rl_cl V v1 with hb | ⟨i, hi, rfl⟩
  · exact xw_bad1 _ _ _ hb (br_f (by decide) (yw_bad1 _ _ _ hb (br_f (by decide) ⟨rfl, rl_in V S1 S2 Q⟩)))
  · refine xw_bad0 _ _ i hi (by omega) (br_t rfl ?_)
    by_cases h1 : v2 < -1000
    · exact br_t h1 (yw_bad0 _ _ i hi (by omega) (br_t rfl (br_t h1 ⟨rfl, rl_in V S1 S2 Q⟩)))
    by_cases h2 : v2 ≤ 1000
    · refine br_f h1 (br_t h2 ?_)
      obtain ⟨e, rfl, he⟩ := zz_of v2
      have a1 : ¬ e < -1000 := fun t => h1 ((zz_ilt' (a := e) (b := -1000) he (by omega)).mpr t)
      have a2 : e ≤ 1000 := (zz_ile' (a := e) (b := 1000) he (by omega)).mp h2
      refine xw_powerOf _ d V S1 i hi e (by omega) fun _ _ _ _ _ _ => ?_
      refine yw_bad0 _ _ i hi (by omega) (br_t rfl (br_f h1 (br_t h2 ?_)))
      unfold qf_pwi
      obtain ⟨k1, _, _⟩ := qf_vI V hi
      refine zb_ilt e 0 (fun t => ?_) (fun t => ?_)
      · rw [if_pos t]
        refine yw_inverse _ d V S2 Q i hi ?_
        rw [zz_ineg, zz_nT (z := -e) (by omega), show (-e).toNat = e.natAbs from by omega]
        exact yw_times _ d V S2 Q (qf_I d i) k1 e.natAbs (by omega) ⟨rfl, rl_in V S1 S2 Q⟩
      · rw [if_neg (by omega)]
        rw [zz_nT (z := e) (by omega), show e.toNat = e.natAbs from by omega]
        exact yw_times _ d V S2 Q i hi e.natAbs (by omega) ⟨rfl, rl_in V S1 S2 Q⟩
    · exact br_f h1 (br_f h2 (yw_bad0 _ _ i hi (by omega) (br_t rfl (br_f h1 (br_f h2 ⟨rfl, rl_in V S1 S2 Q⟩)))))
theorem i_vc_order {k : Nat} {u : SX} {v : SY} (I : i_Rel k u v) (hk : k + 3 ≤ 1536) (v1 : Int32) : wpX_order (fun r u' => wpY_order (fun r' => r' = r ∧ i_Rel (k + 3) u' v) v v1) u v1 := by
  refine rl_el (P := fun u v => wpX_order (fun r u' => wpY_order (fun r' => r' = r ∧ i_Rel (k + 3) u' v) v v1) u v1) I ?_
  intro d fa fb fc fd fo ft gA gB gC ff fm hA hB hC pr V S1 S2 Q
  have hh := (qf_vh V).2
  unfold wpX_order wpY_order
  dsimp only
  rcases rl_cl V v1 with hb | ⟨i, hi, rfl⟩
  · exact xw_bad1 _ _ _ hb (br_f (by decide) (yw_bad1 _ _ _ hb (br_f (by decide) ⟨rfl, rl_in V S1 S2 Q⟩)))
  · obtain ⟨e0, he0, hz0⟩ := qf_vord V hi
    obtain ⟨E, hE, hm⟩ := pk_least (fun e => qf_pw (qf_T d) i (e + 1) = 0) ⟨e0, hz0⟩
    have hEl : E < qf_h d := by
      rcases Nat.lt_or_ge e0 E with t | t
      · exact absurd hz0 (hm e0 t)
      · omega
    refine xw_bad0 _ _ i hi (by omega) (br_t rfl ?_)
    refine xw_neutral _ d V S1 fun _ _ _ _ _ _ => ⟨E + 1, ?_⟩
    have X := xw_o21 (a_formA := gA) (a_formB := gB) (a_formC := gC) (fun r u' => wpY_noClass (fun r_1 => (r_1 = 0 → wpY_neutral (fun r_11 => ∃ n21, wY_order_21 (fun r' => r' = r ∧ i_Rel (k + 3) u' (nI d, nI (qf_h d), ff, fm, hA, hB, hC, pr)) (nI i) r_11 (nI d) (nI (qf_h d)) ff fm hA hB hC pr n21 1 (nI i)) (nI d, nI (qf_h d), ff, fm, hA, hB, hC, pr)) ∧ (¬ r_1 = 0 → (-1000000 : Int32) = r ∧ i_Rel (k + 3) u' (nI d, nI (qf_h d), ff, fm, hA, hB, hC, pr))) (nI d, nI (qf_h d), ff, fm, hA, hB, hC, pr) (nI i)) d V S1 i hi E hEl hE hm ?_ E 0 (E + 1)
    · rw [qf_pw1 V hi] at X
      exact X _ _ _ _ _ _ (by omega) (by omega)
    · intro ga gb gc gd go gt
      refine yw_bad0 _ _ i hi (by omega) (br_t rfl ?_)
      refine yw_neutral _ d V S2 ⟨E + 1, ?_⟩
      have Y := yw_o21 (f_first := ff) (f_middle := fm) (a_as := hA) (a_bs := hB) (a_cs := hC) (fun r' => r' = nI (E + 1) ∧ i_Rel (k + 3) (nI d, nI (qf_h d), ga, gb, gc, gd, go, gt, gA, gB, gC) (nI d, nI (qf_h d), ff, fm, hA, hB, hC, pr)) d V Q i hi E hEl hE hm ⟨rfl, rl_in V S1 S2 Q⟩ E 0 (E + 1) (by omega) (by omega)
      rw [qf_pw1 V hi] at Y
      exact Y
theorem i_vc_roots {k : Nat} {u : SX} {v : SY} (I : i_Rel k u v) (hk : k + 3 ≤ 1536) (v1 : Int32) : wpX_roots (fun r u' => wpY_roots (fun r' => r' = r ∧ i_Rel (k + 3) u' v) v v1) u v1 := by
  refine rl_el (P := fun u v => wpX_roots (fun r u' => wpY_roots (fun r' => r' = r ∧ i_Rel (k + 3) u' v) v v1) u v1) I ?_
  intro d fa fb fc fd fo ft gA gB gC ff fm hA hB hC pr V S1 S2 Q
  by_cases h1 : v1 < 1
  · exact br_t h1 (br_t h1 ⟨rfl, rl_in V S1 S2 Q⟩)
  by_cases h2 : v1 ≤ 1000
  · obtain ⟨z, rfl, hz⟩ := zz_of v1
    have a1 : ¬ z < 1 := fun t => h1 ((zz_ilt' (a := z) (b := 1) hz (by omega)).mpr t)
    have a2 : z ≤ 1000 := (zz_ile' (a := z) (b := 1000) hz (by omega)).mp h2
    obtain ⟨m, hm⟩ : ∃ m : Nat, z = m := ⟨z.toNat, by omega⟩
    subst hm
    rw [← zz_nI] at h1 h2 ⊢
    refine xw_roots _ d V S1 m (by omega) fun _ _ _ _ _ _ => ?_
    refine br_f h1 (br_t h2 ?_)
    refine yw_neutral _ d V S2 ⟨qf_h d + 1, ?_⟩
    exact yw_ro25 _ d V S2 Q m (by omega) ⟨rfl, rl_in V S1 S2 Q⟩ (qf_h d) 0 (qf_h d + 1) (by omega) (by omega)
  · exact br_f h1 (br_f h2 (br_f h1 (br_f h2 ⟨rfl, rl_in V S1 S2 Q⟩)))
theorem rl_cntc {p q : Nat → Bool} : ∀ {n : Nat}, (∀ i, i < n → p i = q i) → qf_cnt p n = qf_cnt q n := by
  intro n
  induction n with
  | zero => intro _; rfl
  | succ n ih =>
    intro h
    rw [qf_cnt, qf_cnt, ih fun i hi => h i (by omega), h n (by omega)]
theorem rl_cnt1 {p : Nat → Bool} (h0 : p 0 = true) : ∀ n : Nat, 0 < n → 0 < qf_cnt p n := by
  intro n
  induction n with
  | zero => intro h; exact absurd h (by omega)
  | succ n ih =>
    intro _
    rw [qf_cnt]
    by_cases z : n = 0
    · subst z
      rw [if_pos h0]
      omega
    · have := ih (by omega)
      split <;> omega
theorem rl_cntl {p : Nat → Bool} : ∀ n : Nat, qf_cnt p n ≤ n := by
  intro n
  induction n with
  | zero => exact Nat.le_refl _
  | succ n ih =>
    rw [qf_cnt]
    split <;> omega
theorem i_vc_squares {k : Nat} {u : SX} {v : SY} (I : i_Rel k u v) (hk : k + 3 ≤ 1536) : wpX_squares (fun r u' => wpY_squares (fun r' => r' = r ∧ i_Rel (k + 3) u' v) v) u := by
  refine rl_el (P := fun u v => wpX_squares (fun r u' => wpY_squares (fun r' => r' = r ∧ i_Rel (k + 3) u' v) v) u) I ?_
  intro d fa fb fc fd fo ft gA gB gC ff fm hA hB hC pr V S1 S2 Q
  obtain ⟨h0, hh⟩ := qf_vh V
  have ec : qf_cnt (fun k => qf_pw (qf_T d) k 2 == 0) (qf_h d) = qf_cnt (fun k => qf_T d k k == 0) (qf_h d) := by
    refine rl_cntc fun i hi => ?_
    have : qf_pw (qf_T d) i 2 = qf_T d i i := by
      show qf_T d (qf_T d 0 i) i = _
      rw [(qf_vT0 V hi).1]
    rw [this]
  have hp : 0 < qf_cnt (fun k => qf_T d k k == 0) (qf_h d) := rl_cnt1 (p := fun k => qf_T d k k == 0) (beq_iff_eq.mpr (qf_vT0 V h0).1) _ h0
  have hl : qf_cnt (fun k => qf_T d k k == 0) (qf_h d) ≤ qf_h d := rl_cntl _
  have hs := qf_vsq V
  unfold wpX_squares
  dsimp only
  refine xw_roots _ d V S1 2 (by omega) fun _ _ _ _ _ _ => ?_
  rw [ec]
  refine br_f (nI_nle hp (by omega)) ⟨nI_ne0 hp (by omega), ?_⟩
  rw [pk_div (by omega) hp (by omega), ← hs]
  exact yw_squares _ d V Q ⟨rfl, rl_in V S1 S2 Q⟩
theorem i_vc_gives {k : Nat} {u : SX} {v : SY} (I : i_Rel k u v) (hk : k + 3 ≤ 1536) (v1 : Int32) (v2 : Int32) : wpX_gives (fun r u' => wpY_gives (fun r' => r' = r ∧ i_Rel (k + 3) u' v) v v1 v2) u v1 v2 := by
  refine rl_el (P := fun u v => wpX_gives (fun r u' => wpY_gives (fun r' => r' = r ∧ i_Rel (k + 3) u' v) v v1 v2) u v1 v2) I ?_
  intro d fa fb fc fd fo ft gA gB gC ff fm hA hB hC pr V S1 S2 Q
  have hh := (qf_vh V).2
  unfold wpX_gives wpY_gives
  dsimp only
  rcases rl_cl V v1 with hb | ⟨i, hi, rfl⟩
  · exact xw_bad1 _ _ _ hb (br_f (by decide) (yw_bad1 _ _ _ hb (br_f (by decide) ⟨rfl, rl_in V S1 S2 Q⟩)))
  · refine xw_bad0 _ _ i hi (by omega) (br_t rfl ?_)
    rcases rl_num v2 with hb | ⟨n, hn, rfl⟩
    · exact xw_num1 _ _ hb (br_f (by decide) (yw_bad0 _ _ i hi (by omega) (br_t rfl (yw_num1 _ _ hb (br_f (by decide) ⟨rfl, rl_in V S1 S2 Q⟩)))))
    · refine xw_num0 _ n hn (br_t rfl ?_)
      refine xw_gws _ d V S1 (nI i) (fun n y => qf_ok d n y = true ∧ qf_run d 67 n y = some (qf_F d i)) (Or.inl ⟨i, hi, rfl, fun _ _ => Iff.rfl⟩) n hn fun _ _ _ _ _ _ => ?_
      refine yw_bad0 _ _ i hi (by omega) (br_t rfl (yw_num0 _ n hn (br_t rfl ?_)))
      refine yw_found0 _ d V S2 i hi n hn.2 ⟨?_, rl_in V S1 S2 Q⟩
      rw [qf_full V hi hn.1 hn.2]
      rfl
theorem i_vc_givesFirst {k : Nat} {u : SX} {v : SY} (I : i_Rel k u v) (hk : k + 3 ≤ 1536) (v1 : Int32) (v2 : Int32) : wpX_givesFirst (fun r u' => wpY_givesFirst (fun r' => r' = r ∧ i_Rel (k + 3) u' v) v v1 v2) u v1 v2 := by
  refine rl_el (P := fun u v => wpX_givesFirst (fun r u' => wpY_givesFirst (fun r' => r' = r ∧ i_Rel (k + 3) u' v) v v1 v2) u v1 v2) I ?_
  intro d fa fb fc fd fo ft gA gB gC ff fm hA hB hC pr V S1 S2 Q
  have hh := (qf_vh V).2
  unfold wpX_givesFirst wpY_givesFirst
  dsimp only
  rcases rl_cl V v1 with hb | ⟨i, hi, rfl⟩
  · exact xw_bad1 _ _ _ hb (br_f (by decide) (yw_bad1 _ _ _ hb (br_f (by decide) ⟨rfl, rl_in V S1 S2 Q⟩)))
  · refine xw_bad0 _ _ i hi (by omega) (br_t rfl ?_)
    rcases rl_num v2 with hb | ⟨n, hn, rfl⟩
    · exact xw_num1 _ _ hb (br_f (by decide) (yw_bad0 _ _ i hi (by omega) (br_t rfl (yw_num1 _ _ hb (br_f (by decide) ⟨rfl, rl_in V S1 S2 Q⟩)))))
    · refine xw_num0 _ n hn (br_t rfl ?_)
      refine xw_turns _ d V ?_
      refine xw_middles _ d V S1 (nI i) (fun n y => qf_ok d n y = true ∧ qf_run d 67 n y = some (qf_F d i)) (Or.inl ⟨i, hi, rfl, fun _ _ => Iff.rfl⟩) n hn fun _ _ _ _ _ _ => ?_
      refine yw_bad0 _ _ i hi (by omega) (br_t rfl (yw_num0 _ n hn (br_t rfl ?_)))
      refine yw_found1 _ d V S2 i hi n hn.2 ⟨?_, rl_in V S1 S2 Q⟩
      rw [qf_prim V hi hn.1 hn.2, pk_mul]
      rfl
theorem i_vc_all {k : Nat} {u : SX} {v : SY} (I : i_Rel k u v) (hk : k + 3 ≤ 1536) (v1 : Int32) : wpX_all (fun r u' => wpY_all (fun r' => r' = r ∧ i_Rel (k + 3) u' v) v v1) u v1 := by
  refine rl_el (P := fun u v => wpX_all (fun r u' => wpY_all (fun r' => r' = r ∧ i_Rel (k + 3) u' v) v v1) u v1) I ?_
  intro d fa fb fc fd fo ft gA gB gC ff fm hA hB hC pr V S1 S2 Q
  unfold wpX_all wpY_all
  dsimp only
  rcases rl_num v1 with hb | ⟨n, hn, rfl⟩
  · exact xw_num1 _ _ hb (br_f (by decide) (yw_num1 _ _ hb (br_f (by decide) ⟨rfl, rl_in V S1 S2 Q⟩)))
  · refine xw_num0 _ n hn (br_t rfl ?_)
    refine xw_gws _ d V S1 (-1) (fun n y => qf_ok d n y = true) (Or.inr ⟨rfl, fun _ _ => Iff.rfl⟩) n hn fun _ _ _ _ _ _ => ?_
    refine yw_num0 _ n hn (br_t rfl ⟨qf_h d + 1, ?_⟩)
    refine yw_a15 _ d V S2 n hn.2 ⟨?_, rl_in V S1 S2 Q⟩ (qf_h d) 0 (qf_h d + 1) (by omega) (by omega)
    rw [qf_allsum V hn.1 hn.2]
    rfl
theorem i_vc_least {k : Nat} {u : SX} {v : SY} (I : i_Rel k u v) (hk : k + 3 ≤ 1536) (v1 : Int32) : wpX_least (fun r u' => wpY_least (fun r' => r' = r ∧ i_Rel (k + 3) u' v) v v1) u v1 := by
  refine rl_el (P := fun u v => wpX_least (fun r u' => wpY_least (fun r' => r' = r ∧ i_Rel (k + 3) u' v) v v1) u v1) I ?_
  intro d fa fb fc fd fo ft gA gB gC ff fm hA hB hC pr V S1 S2 Q
  unfold wpX_least wpY_least
  dsimp only
  rcases rl_num v1 with hb | ⟨n, hn, rfl⟩
  · exact xw_num1 _ _ hb (br_f (by decide) (yw_num1 _ _ hb (br_f (by decide) ⟨rfl, rl_in V S1 S2 Q⟩)))
  · refine xw_num0 _ n hn (br_t rfl ⟨2 * n + 1, ?_⟩)
    refine xw_l16 _ d V S1 n hn (fun b hb _ _ _ _ _ _ => ?_) (2 * n) 0 (2 * n + 1) _ _ _ _ _ _ _ (by omega) (by omega) (Or.inl ⟨rfl, fun z hz => absurd hz (by omega)⟩)
    refine yw_num0 _ n hn (br_t rfl ⟨qf_h d + 1, ?_⟩)
    exact yw_l13 _ d V S2 n hn b hb ⟨rfl, rl_in V S1 S2 Q⟩ (qf_h d) 0 (qf_h d + 1) (by omega) (by omega) fun k0 _ _ => Nat.zero_le _
end
