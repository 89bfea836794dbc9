section
/-! the two fields: b = false: 64 elements over 2, b = true: 81 elements over 3; tables packed a byte a place -/
def ft_q (b : Bool) : Nat := cond b 81 64
def ft_p (b : Bool) : Nat := cond b 3 2
def ft_k (b : Bool) : Nat := cond b 4 6
def ft_P64 : Nat := 0x2131393d3f3e1f2e172a152b341a0d2732192d373a1d2f361b2c160b2412092533381c0e07221129353b3c1e0f261328140a052330180c06032010080402012131393d3f3e1f2e172a152b341a0d2732192d373a1d2f361b2c160b2412092533381c0e07221129353b3c1e0f261328140a052330180c0603201008040201
def ft_E64 : Nat := 0x3a393b14152a3c1d2b2716321e2e3d0a28372c253335170f2f111f220b193e053813291c26312d093624340e10211804121b3008230d20031a070c0206010000
def ft_J64 : Nat := 0x190a2f2901021432160d2b1d13251f133437352e052c0b113b1a3d0d173a3e26080a14070504030106022805040208100405040802220201110110200b010000
def ft_P81 : Nat := 0x1d4032474b19222529444d504e1a3c143d2e2c4216210b3a2d0f0538493545173e48180836120602372f46312a0e3b4a4f342b28270d1e0a20414c33113913233f15071c264330101f240c041b0903011d4032474b19222529444d504e1a3c143d2e2c4216210b3a2d0f0538493545173e48180836120602372f46312a0e3b4a4f342b28270d1e0a20414c33113913233f15071c264330101f240c041b090301
def ft_E81 : Nat := 0x441f4345154b20332e4c2531460a3c164e0f2f3f4121381234272b321e144d2409263e373d1d23471c1b0b480610493a1707194f0c03424a2d303b0e40112a130836221a053918022c0d29350401280000
def ft_J81 : Nat := 0xd1f2b1d3d0f030b07130d310701030b270b3f2f05110309112743050301350909131f0315450747030333091b01391d07170d4f071b110d090213170421153b01032125014907010b25294d0101010000
def ft_pw (b : Bool) (n : Nat) : Nat := Nat.land (Nat.shiftRight (cond b ft_P81 ft_P64) (Nat.mul 8 n)) 255
def ft_ex (b : Bool) (n : Nat) : Nat := Nat.land (Nat.shiftRight (cond b ft_E81 ft_E64) (Nat.mul 8 n)) 255
def ft_jt (b : Bool) (n : Nat) : Nat := Nat.land (Nat.shiftRight (cond b ft_J81 ft_J64) (Nat.mul 8 n)) 255
/-! what the methods compute -/
def ft_ad (p : Nat) : Nat → Nat → Nat → Nat → Nat → Nat
  | 0, s, _, _, _ => s
  | r + 1, s, l, x, y => ft_ad p r (s + (x % p + y % p) % p * l) (l * p) (x / p) (y / p)
def ft_add (b : Bool) (x y : Nat) : Nat := ft_ad (ft_p b) (ft_k b) 0 1 x y
def ft_mul (b : Bool) (x y : Nat) : Nat := if x = 0 ∨ y = 0 then 0 else ft_pw b (ft_ex b x + ft_ex b y)
def ft_pow (b : Bool) (x n : Nat) : Nat := if n = 0 then 1 else if x = 0 then 0 else ft_pw b (ft_ex b x * n % (ft_q b - 1))
def ft_dv : Nat → Nat → Nat → Nat
  | 0, _, c => c
  | s + 1, a, c => if a = 0 then c else ft_dv s (c % a) a
def ft_iv : Nat → Nat → Nat → Int32 → Int32 → Int32
  | 0, _, _, u, _ => u
  | s + 1, a, c, u, v => if c = 0 then u else ft_iv s c (a % c) v (u - nI (a / c) * v)
def ft_inv (x m : Nat) : Int32 := if 0 ≤ ft_iv 20 m (x % m) 0 1 then ft_iv 20 m (x % m) 0 1 else ft_iv 20 m (x % m) 0 1 + nI m
def ft_fd (b : Bool) (s : Nat) : Bool := cond b (Nat.beq s 3 || Nat.beq s 9 || Nat.beq s 81) (Nat.beq s 2 || Nat.beq s 4 || Nat.beq s 8 || Nat.beq s 64)
def ft_tr (b : Bool) (s : Nat) : Nat → Nat → Nat → Nat → Nat
  | 0, m, _, _ => m
  | f + 1, m, t, z => if ft_q b < z then m else ft_tr b s f (ft_add b m t) (ft_pow b t s) (z * s)
def ft_hm (b : Bool) (a : Nat) : Nat → Nat → Nat
  | 0, _ => ft_q b
  | f + 1, s => if ft_q b ≤ s then ft_q b else if ft_fd b s = true ∧ ft_pow b a s = a then s else ft_hm b a f (s * ft_p b)
def ft_rt (b : Bool) (n a : Nat) : Nat := if a = 0 then 1 else if ft_ex b a % ft_dv 40 n (ft_q b - 1) = 0 then ft_dv 40 n (ft_q b - 1) else 0
def ft_rs (b : Bool) (d : Nat) : Nat → Nat
  | 0 => 0
  | a + 1 => ft_rs b d a + (if a = 0 then 1 else if ft_ex b a % d = 0 then d else 0)
/-! the product by coefficients -/
def ft_up (c : Nat → Nat) (k v : Nat) : Nat → Nat := fun j => cond (Nat.beq j k) v (c j)
def ft_c41 (p x i : Nat) : Nat → Nat → Nat → (Nat → Nat) → Nat → Nat
  | 0, _, _, c => c
  | r + 1, y, j, c => ft_c41 p x i r (y / p) (j + 1) (ft_up c (i + j) (c (i + j) + x % p * (y % p)))
def ft_c26 (p k y : Nat) : Nat → Nat → Nat → (Nat → Nat) → Nat → Nat
  | 0, _, _, c => c
  | r + 1, x, i, c => ft_c26 p k y r (x / p) (i + 1) (ft_c41 p x i k y 0 c)
def ft_t115 (k r : Nat) (c : Nat → Nat) : Nat → Nat := ft_up c r (c r + c (k + r))
def ft_s115 (k r : Nat) (c : Nat → Nat) : Nat → Nat := ft_up (ft_t115 k r c) (r + 1) (ft_t115 k r c (r + 1) + ft_t115 k r c (k + r))
def ft_c115 (k : Nat) : Nat → (Nat → Nat) → Nat → Nat
  | 0, c => c
  | r + 1, c => ft_c115 k r (ft_s115 k r c)
def ft_c187 (p : Nat) (c : Nat → Nat) : Nat → Nat → Nat
  | 0, a => a
  | r + 1, a => ft_c187 p c r (a * p + c r % p)
def ft_cf (p k x y : Nat) : Nat → Nat := ft_c115 k k (ft_c26 p k y k x 0 (fun _ => 0))
def ft_prod (p k x y : Nat) : Nat := ft_c187 p (ft_cf p k x y) k 0
/-! all below n -/
def ft_all : Nat → (Nat → Bool) → Bool
  | 0, _ => true
  | n + 1, P => P n && ft_all n P
theorem ft_allE {P : Nat → Bool} : ∀ {n : Nat}, ft_all n P = true → ∀ x, x < n → P x = true := by
  intro n
  induction n with
  | zero => exact fun _ x hx => absurd hx (by omega)
  | succ n ih =>
    intro h x hx
    have h' : (P n && ft_all n P) = true := h
    rw [Bool.and_eq_true] at h'
    by_cases e : x = n
    · rw [e]
      exact h'.1
    · exact ih h'.2 x (by omega)
/-! facts of the tables -/
theorem ft_qb (b : Bool) : 64 ≤ ft_q b ∧ ft_q b ≤ 81 := by cases b <;> decide
theorem ft_pb (b : Bool) : 2 ≤ ft_p b ∧ ft_p b ≤ 3 := by cases b <;> decide
theorem ft_kb (b : Bool) : 1 ≤ ft_k b ∧ ft_k b ≤ 6 := by cases b <;> decide
theorem ft_pwb (b : Bool) : ∀ n, n < 2 * ft_q b - 2 → 0 < ft_pw b n ∧ ft_pw b n < ft_q b := by cases b <;> decide +kernel
theorem ft_exb (b : Bool) : ∀ x, x < ft_q b → 0 < x → ft_ex b x < ft_q b - 1 ∧ ft_pw b (ft_ex b x) = x := by cases b <;> decide +kernel
theorem ft_exp (b : Bool) : ∀ n, n < 2 * ft_q b - 2 → ft_ex b (ft_pw b n) = n % (ft_q b - 1) := by cases b <;> decide +kernel
theorem ft_pwm (b : Bool) : ∀ n, n < 2 * ft_q b - 2 → ft_pw b n = ft_pw b (n % (ft_q b - 1)) := by cases b <;> decide +kernel
theorem ft_pw0 (b : Bool) : ft_pw b 0 = 1 := by cases b <;> decide +kernel
theorem ft_pw1 (b : Bool) : ∀ n, n < ft_q b - 1 → 0 < n → ft_pw b n ≠ 1 := by cases b <;> decide +kernel
theorem ft_pq (b : Bool) : ∀ x, x < ft_q b → ft_pow b x (ft_q b) = x := by cases b <;> decide +kernel
def ft_gm (b : Bool) (x : Nat) : Nat := cond (Nat.beq x 0) 0 (ft_pw b (Nat.add (ft_ex b x) 1))
theorem ft_lin (b : Bool) : ft_all (ft_q b) (fun x => ft_all (ft_q b) (fun y => Nat.beq (ft_gm b (ft_add b x y)) (ft_add b (ft_gm b x) (ft_gm b y)) && Nat.blt (ft_add b x y) (ft_q b))) = true := by cases b <;> decide +kernel
theorem ft_pst (b : Bool) : ft_all (ft_q b - 1) (fun n => Nat.beq (ft_prod (ft_p b) (ft_k b) (ft_pw b n) (ft_p b)) (ft_pw b (n + 1)) && ft_all (ft_k b) (fun j => Nat.blt (ft_cf (ft_p b) (ft_k b) (ft_pw b n) (ft_p b) j) 1000)) = true := by cases b <;> decide +kernel
theorem ft_or (b : Bool) : ∀ x, x < ft_q b → 0 < x → 0 < ft_dv 40 (ft_ex b x) (ft_q b - 1) ∧ ft_dv 40 (ft_ex b x) (ft_q b - 1) < 81 ∧ 0 < (ft_q b - 1) / ft_dv 40 (ft_ex b x) (ft_q b - 1) ∧ (ft_q b - 1) % ((ft_q b - 1) / ft_dv 40 (ft_ex b x) (ft_q b - 1)) = 0 := by cases b <;> decide +kernel
theorem ft_dn (b : Bool) : ∀ n, n < 1025 → 0 < n → 0 < ft_dv 40 n (ft_q b - 1) ∧ ft_dv 40 n (ft_q b - 1) < 81 ∧ (ft_q b - 1) % ft_dv 40 n (ft_q b - 1) = 0 := by cases b <;> decide +kernel
theorem ft_rsq (b : Bool) : ∀ d, d < 81 → 0 < d → (ft_q b - 1) % d = 0 → ft_rs b d (ft_q b) = ft_q b := by cases b <;> decide +kernel
theorem ft_ivj (b : Bool) : ∀ x, x < ft_q b → 0 < x → ft_inv (ft_ex b x / ft_dv 40 (ft_ex b x) (ft_q b - 1)) ((ft_q b - 1) / ft_dv 40 (ft_ex b x) (ft_q b - 1)) = nI (ft_jt b x) ∧ ft_jt b x < 81 := by cases b <;> decide +kernel
def ft_lg (b : Bool) (y x : Nat) : Nat := ft_ex b x / ft_dv 40 (ft_ex b y) (ft_q b - 1) * ft_jt b y % ((ft_q b - 1) / ft_dv 40 (ft_ex b y) (ft_q b - 1))
theorem ft_lgp (b : Bool) : ft_all (ft_q b) (fun y => ft_all (ft_q b) (fun x => Nat.beq y 0 || Nat.beq x 0 || !(Nat.beq (ft_ex b x % ft_dv 40 (ft_ex b y) (ft_q b - 1)) 0) || Nat.beq (ft_pow b y (ft_lg b y x)) x)) = true := by cases b <;> decide +kernel
theorem ft_trh (b : Bool) : ft_all (ft_q b) (fun a => ft_all (ft_q b + 1) (fun s => !(ft_fd b s) || Nat.ble (ft_hm b (ft_tr b s 8 0 a s) 8 (ft_p b)) s)) = true := by cases b <;> decide +kernel
end
section
/-! the plain laws of the two fields -/
theorem ft_addb (b : Bool) {x y : Nat} (hx : x < ft_q b) (hy : y < ft_q b) : ft_add b x y < ft_q b := by
  have h := ft_allE (ft_allE (ft_lin b) x hx) y hy
  rw [Bool.and_eq_true] at h
  exact Nat.le_of_ble_eq_true h.2
theorem ft_gma (b : Bool) {x y : Nat} (hx : x < ft_q b) (hy : y < ft_q b) : ft_gm b (ft_add b x y) = ft_add b (ft_gm b x) (ft_gm b y) := by
  have h := ft_allE (ft_allE (ft_lin b) x hx) y hy
  rw [Bool.and_eq_true] at h
  exact Nat.eq_of_beq_eq_true h.1
/-- times the n-th power of the element whose powers are all -/
def ft_mn (b : Bool) (n y : Nat) : Nat := if y = 0 then 0 else ft_pw b ((n + ft_ex b y) % (ft_q b - 1))
theorem ft_mn_lt (b : Bool) (n y : Nat) : ft_mn b n y < ft_q b := by
  have hq := ft_qb b
  unfold ft_mn
  by_cases e : y = 0
  · rw [if_pos e]
    omega
  · rw [if_neg e]
    have h := Nat.mod_lt (n + ft_ex b y) (show ft_q b - 1 > 0 by omega)
    exact (ft_pwb b _ (by omega)).2
theorem ft_mn_0 (b : Bool) {y : Nat} (hy : y < ft_q b) : ft_mn b 0 y = y := by
  unfold ft_mn
  by_cases e : y = 0
  · rw [if_pos e, e]
  · rw [if_neg e, Nat.zero_add]
    have h := ft_exb b y hy (by omega)
    rw [Nat.mod_eq_of_lt h.1]
    exact h.2
theorem ft_mn_s (b : Bool) (n y : Nat) : ft_mn b (n + 1) y = ft_gm b (ft_mn b n y) := by
  have hq := ft_qb b
  unfold ft_mn
  by_cases e : y = 0
  · rw [if_pos e, if_pos e]
    rfl
  · rw [if_neg e, if_neg e]
    have h := Nat.mod_lt (n + ft_ex b y) (show ft_q b - 1 > 0 by omega)
    have h1 := ft_pwb b ((n + ft_ex b y) % (ft_q b - 1)) (by omega)
    have h2 := ft_exp b ((n + ft_ex b y) % (ft_q b - 1)) (by omega)
    rw [Nat.mod_mod] at h2
    have h3 : ft_gm b (ft_pw b ((n + ft_ex b y) % (ft_q b - 1))) = ft_pw b ((n + ft_ex b y) % (ft_q b - 1) + 1) := by
      unfold ft_gm
      rw [h2]
      cases hb : Nat.beq (ft_pw b ((n + ft_ex b y) % (ft_q b - 1))) 0 with
      | true =>
        have := Nat.eq_of_beq_eq_true hb
        omega
      | false => rfl
    rw [h3, ft_pwm b ((n + ft_ex b y) % (ft_q b - 1) + 1) (by omega), Nat.mod_add_mod]
    rw [show n + 1 + ft_ex b y = n + ft_ex b y + 1 by omega]
theorem ft_mn_add (b : Bool) (n : Nat) {x y : Nat} (hx : x < ft_q b) (hy : y < ft_q b) : ft_mn b n (ft_add b x y) = ft_add b (ft_mn b n x) (ft_mn b n y) := by
  induction n with
  | zero => rw [ft_mn_0 b hx, ft_mn_0 b hy, ft_mn_0 b (ft_addb b hx hy)]
  | succ n ih => rw [ft_mn_s, ft_mn_s, ft_mn_s, ih, ft_gma b (ft_mn_lt b n x) (ft_mn_lt b n y)]
theorem ft_mul_mn (b : Bool) {x y : Nat} (hx : x < ft_q b) (hx0 : 0 < x) (hy : y < ft_q b) : ft_mul b x y = ft_mn b (ft_ex b x) y := by
  have hq := ft_qb b
  unfold ft_mul ft_mn
  by_cases e : y = 0
  · rw [if_pos (Or.inr e), if_pos e]
  · rw [if_neg (by omega), if_neg e]
    have h1 := (ft_exb b x hx hx0).1
    have h2 := (ft_exb b y hy (by omega)).1
    exact ft_pwm b _ (by omega)
theorem ft_mul_0 (b : Bool) (y : Nat) : ft_mul b 0 y = 0 := by
  unfold ft_mul
  rw [if_pos (Or.inl rfl)]
theorem ft_mul_r (b : Bool) (x : Nat) : ft_mul b x 0 = 0 := by
  unfold ft_mul
  rw [if_pos (Or.inr rfl)]
theorem ft_add_00 (b : Bool) : ft_add b 0 0 = 0 := by cases b <;> decide
theorem ft_mul_lt (b : Bool) {x y : Nat} (hx : x < ft_q b) (hy : y < ft_q b) : ft_mul b x y < ft_q b := by
  have hq := ft_qb b
  by_cases e : x = 0
  · rw [e, ft_mul_0]
    omega
  · rw [ft_mul_mn b hx (by omega) hy]
    exact ft_mn_lt b _ _
theorem ft_dist (b : Bool) {x y z : Nat} (hx : x < ft_q b) (hy : y < ft_q b) (hz : z < ft_q b) : ft_mul b x (ft_add b y z) = ft_add b (ft_mul b x y) (ft_mul b x z) := by
  by_cases e : x = 0
  · rw [e, ft_mul_0, ft_mul_0, ft_mul_0, ft_add_00]
  · rw [ft_mul_mn b hx (by omega) hy, ft_mul_mn b hx (by omega) hz, ft_mul_mn b hx (by omega) (ft_addb b hy hz)]
    exact ft_mn_add b _ hy hz
theorem ft_assoc (b : Bool) {x y z : Nat} (hx : x < ft_q b) (hy : y < ft_q b) (hz : z < ft_q b) : ft_mul b (ft_mul b x y) z = ft_mul b x (ft_mul b y z) := by
  have hq := ft_qb b
  by_cases ex : x = 0
  · rw [ex, ft_mul_0, ft_mul_0, ft_mul_0]
  · by_cases ey : y = 0
    · rw [ey, ft_mul_0, ft_mul_r, ft_mul_0]
    · by_cases ez : z = 0
      · rw [ez, ft_mul_r, ft_mul_r, ft_mul_r]
      · have h1 := (ft_exb b x hx (by omega)).1
        have h2 := (ft_exb b y hy (by omega)).1
        have h3 := (ft_exb b z hz (by omega)).1
        have e1 : ft_mul b x y = ft_pw b (ft_ex b x + ft_ex b y) := by
          unfold ft_mul
          rw [if_neg (by omega)]
        have e2 : ft_mul b y z = ft_pw b (ft_ex b y + ft_ex b z) := by
          unfold ft_mul
          rw [if_neg (by omega)]
        have p1 := ft_pwb b (ft_ex b x + ft_ex b y) (by omega)
        have p2 := ft_pwb b (ft_ex b y + ft_ex b z) (by omega)
        have m1 := Nat.mod_lt (ft_ex b x + ft_ex b y) (show ft_q b - 1 > 0 by omega)
        have m2 := Nat.mod_lt (ft_ex b y + ft_ex b z) (show ft_q b - 1 > 0 by omega)
        rw [e1, e2]
        unfold ft_mul
        rw [if_neg (by omega), if_neg (by omega), ft_exp b _ (by omega), ft_exp b _ (by omega), ft_pwm b _ (by omega), ft_pwm b (ft_ex b x + (ft_ex b y + ft_ex b z) % (ft_q b - 1)) (by omega), Nat.mod_add_mod, Nat.add_mod_mod, Nat.add_assoc]
theorem ft_pow_lt (b : Bool) {x : Nat} (n : Nat) : ft_pow b x n < ft_q b := by
  have hq := ft_qb b
  unfold ft_pow
  by_cases e : n = 0
  · rw [if_pos e]
    omega
  · rw [if_neg e]
    by_cases e' : x = 0
    · rw [if_pos e']
      omega
    · rw [if_neg e']
      have h := Nat.mod_lt (ft_ex b x * n) (show ft_q b - 1 > 0 by omega)
      exact (ft_pwb b _ (by omega)).2
theorem ft_tr_lt (b : Bool) (s : Nat) : ∀ f m t z, m < ft_q b → t < ft_q b → ft_tr b s f m t z < ft_q b := by
  intro f
  induction f with
  | zero => exact fun m t z hm _ => hm
  | succ f ih =>
    intro m t z hm ht
    show (if ft_q b < z then m else ft_tr b s f (ft_add b m t) (ft_pow b t s) (z * s)) < ft_q b
    by_cases e : ft_q b < z
    · rw [if_pos e]
      exact hm
    · rw [if_neg e]
      exact ih _ _ _ (ft_addb b hm ht) (ft_pow_lt b s)
theorem ft_home (b : Bool) {a s : Nat} (ha : a < ft_q b) (hs : s ≤ ft_q b) (hf : ft_fd b s = true) : ft_hm b (ft_tr b s 8 0 a s) 8 (ft_p b) ≤ s := by
  have h := ft_allE (ft_allE (ft_trh b) a ha) s (by omega)
  rw [hf, Bool.not_true, Bool.false_or] at h
  exact Nat.le_of_ble_eq_true h
theorem ft_lgE (b : Bool) {y x : Nat} (hy : y < ft_q b) (hy0 : 0 < y) (hx : x < ft_q b) (hx0 : 0 < x) (hd : ft_ex b x % ft_dv 40 (ft_ex b y) (ft_q b - 1) = 0) : ft_pow b y (ft_lg b y x) = x := by
  have h := ft_allE (ft_allE (ft_lgp b) y hy) x hx
  rw [Bool.or_eq_true, Bool.or_eq_true, Bool.or_eq_true] at h
  rcases h with ((h | h) | h) | h
  · have := Nat.eq_of_beq_eq_true h
    omega
  · have := Nat.eq_of_beq_eq_true h
    omega
  · rw [hd] at h
    exact absurd h (by decide)
  · exact Nat.eq_of_beq_eq_true h
theorem ft_rsum (b : Bool) {n : Nat} (hn : n < 1025) (h0 : 0 < n) : ft_rs b (ft_dv 40 n (ft_q b - 1)) (ft_q b) = ft_q b := by
  have h := ft_dn b n hn h0
  exact ft_rsq b _ h.2.1 h.1 h.2.2
theorem ft_rs_s (b : Bool) (n a : Nat) : ft_rs b (ft_dv 40 n (ft_q b - 1)) (a + 1) = ft_rs b (ft_dv 40 n (ft_q b - 1)) a + ft_rt b n a := rfl
theorem ft_pstE (b : Bool) {n : Nat} (hn : n < ft_q b - 1) : ft_prod (ft_p b) (ft_k b) (ft_pw b n) (ft_p b) = ft_pw b (n + 1) ∧ ∀ j, j < ft_k b → ft_cf (ft_p b) (ft_k b) (ft_pw b n) (ft_p b) j < 2 ^ 31 := by
  have h := ft_allE (ft_pst b) n hn
  rw [Bool.and_eq_true] at h
  refine ⟨Nat.eq_of_beq_eq_true h.1, fun j hj => ?_⟩
  have h2 : ft_cf (ft_p b) (ft_k b) (ft_pw b n) (ft_p b) j < 1000 := Nat.le_of_ble_eq_true (ft_allE h.2 j hj)
  omega
end
section
/-! the walk: the product by coefficients and the tables -/
def ft_pic (a : Nat → Int32) (c : Nat → Nat) : Prop := ∀ j, j < 12 → a j = nI (c j)
theorem ft_pu {a : Nat → Int32} {c : Nat → Nat} {i v : Nat} {w : Int32} (h : ft_pic a c) (hw : w = nI v) : ft_pic (upd a i w) (ft_up c i v) := by
  intro j hj
  by_cases e : j = i
  · rw [e, pk_us, hw]
    unfold ft_up
    rw [Nat.beq_refl]
    rfl
  · rw [pk_un e, h j hj]
    unfold ft_up
    cases hb : Nat.beq j i with
    | true => exact absurd (Nat.eq_of_beq_eq_true hb) e
    | false => rfl
theorem ft_w187 {post : Int32 → St1 → Prop} {f0 f2 : Int32} {a1 a2 a3 : Nat → Int32} {p : Nat} {c : Nat → Nat} (hp : 0 < p) (hp3 : p ≤ 3) (hc : ft_pic a3 c) : ∀ (r n acc : Nat), r < n → r ≤ 12 → (∀ j, j < r → c j < 2 ^ 31) → post (nI (ft_c187 p c r acc)) (f0, nI p, f2, a1, a2, a3) → wX_productByCoefficients_187 post f0 (nI p) f2 a1 a2 a3 n (nI acc) (nI r + (-1)) := by
  intro r
  induction r with
  | zero =>
    intro n acc hn _ _ H
    obtain ⟨n, rfl⟩ : ∃ m, n = m + 1 := ⟨n - 1, by omega⟩
    exact br_t (by decide) H
  | succ r ih =>
    intro n acc hn hr hb H
    obtain ⟨n, rfl⟩ : ∃ m, n = m + 1 := ⟨n - 1, by omega⟩
    rw [pk_m1]
    refine br_f (nI_pos (by omega)) ⟨pk_in r 12 (by omega), nI_ne0 hp (by omega), ?_⟩
    rw [nI_clamp (show r < 2 ^ 31 by omega), hc r (by omega), pk_rem (hb r (by omega)) hp (by omega), pk_mul, nI_add]
    exact nm_e (nm_e (ih n _ (by omega) (by omega) (fun j hj => hb j (by omega)) H))
theorem ft_w115 {post : Int32 → St1 → Prop} {f0 f1 : Int32} {a1 a2 : Nat → Int32} {k : Nat} (hk : 1 ≤ k) (hk6 : k ≤ 6) : ∀ (r n : Nat) (c : Nat → Nat) (a3 : Nat → Int32), r < n → r ≤ k → ft_pic a3 c → (∀ a : Nat → Int32, ft_pic a (ft_c115 k r c) → ∃ fu, wX_productByCoefficients_187 post f0 f1 (nI k) a1 a2 a fu 0 (nI k - 1)) → wX_productByCoefficients_115 post f0 f1 (nI k) n (nI (k + r) + (-1)) a1 a2 a3 := by
  intro r
  induction r with
  | zero =>
    intro n c a3 hn _ hc H
    obtain ⟨n, rfl⟩ : ∃ m, n = m + 1 := ⟨n - 1, by omega⟩
    rw [sb_m1 (show 0 < k + 0 by omega)]
    exact br_t (nI_lt (by omega) (by omega)) (nm_e (H a3 hc))
  | succ r ih =>
    intro n c a3 hn hr hc H
    obtain ⟨n, rfl⟩ : ∃ m, n = m + 1 := ⟨n - 1, by omega⟩
    rw [show k + (r + 1) = (k + r) + 1 by omega, pk_m1]
    refine br_f (nI_nlt (by omega) (by omega)) ?_
    rw [pk_sub (show k ≤ k + r by omega), show k + r - k = r by omega, nI_1, nI_clamp (show r < 2 ^ 31 by omega), nI_clamp (show r + 1 < 2 ^ 31 by omega), nI_clamp (show k + r < 2 ^ 31 by omega)]
    have t1 : ft_pic (upd a3 r (a3 r + a3 (k + r))) (ft_t115 k r c) := ft_pu hc (by rw [hc r (by omega), hc (k + r) (by omega), nI_add])
    have t2 : ft_pic (upd (upd a3 r (a3 r + a3 (k + r))) (r + 1) (upd a3 r (a3 r + a3 (k + r)) (r + 1) + upd a3 r (a3 r + a3 (k + r)) (k + r))) (ft_s115 k r c) := ft_pu t1 (by rw [t1 (r + 1) (by omega), t1 (k + r) (by omega), nI_add])
    exact ⟨pk_in r 12 (by omega), pk_in (k + r) 12 (by omega), pk_in r 12 (by omega), nm_e ⟨pk_in (r + 1) 12 (by omega), pk_in (k + r) 12 (by omega), pk_in (r + 1) 12 (by omega), nm_e (nm_e (ih n _ _ (by omega) (by omega) t2 H))⟩⟩
theorem ft_w41 {post : Int32 → St1 → Prop} {J : Int32 → Int32 → (Nat → Int32) → (Nat → Int32) → (Nat → Int32) → Prop} {f0 x2 : Int32} {a1 a2 : Nat → Int32} {p k x i : Nat} (hp : 0 < p) (hp3 : p ≤ 3) (hk6 : k ≤ 6) (hi : i < k) (hx : x < 2 ^ 31) : ∀ (r n y j : Nat) (c : Nat → Nat) (a3 : Nat → Int32), r < n → r + j = k → y < 2 ^ 31 → ft_pic a3 c → (∀ a : Nat → Int32, ft_pic a (ft_c41 p x i r y j c) → J (nI (x / p)) (nI (i + 1)) a1 a2 a) → wX_productByCoefficients_41 post J x2 (nI x) (nI i) f0 (nI p) (nI k) n (nI y) (nI j) a1 a2 a3 := by
  intro r
  induction r with
  | zero =>
    intro n y j c a3 hn hj hy hc H
    obtain ⟨n, rfl⟩ : ∃ m, n = m + 1 := ⟨n - 1, by omega⟩
    exact br_t (nI_le (by omega) (by omega)) ⟨nI_ne0 hp (by omega), nm_r (pk_div hx hp (by omega)) (nm_r (nI_1 i) (H a3 hc))⟩
  | succ r ih =>
    intro n y j c a3 hn hj hy hc H
    obtain ⟨n, rfl⟩ : ∃ m, n = m + 1 := ⟨n - 1, by omega⟩
    refine br_f (nI_ge (by omega) (by omega)) ?_
    rw [nI_add, nI_clamp (show i + j < 2 ^ 31 by omega), pk_rem hx hp (by omega), pk_rem hy hp (by omega)]
    have t1 : ft_pic (upd a3 (i + j) (a3 (i + j) + nI (x % p) * nI (y % p))) (ft_up c (i + j) (c (i + j) + x % p * (y % p))) := ft_pu hc (by rw [hc (i + j) (by omega), pk_mul, nI_add])
    have hyp : y / p < 2 ^ 31 := Nat.lt_of_le_of_lt (Nat.div_le_self y p) hy
    exact ⟨pk_in (i + j) 12 (by omega), nI_ne0 hp (by omega), nI_ne0 hp (by omega), pk_in (i + j) 12 (by omega), nm_e ⟨nI_ne0 hp (by omega), nm_r (pk_div hy hp (by omega)) (nm_r (nI_1 j) (ih n _ _ _ _ (by omega) (by omega) hyp t1 H))⟩⟩
theorem ft_w26 {post : Int32 → St1 → Prop} {f0 : Int32} {a1 a2 : Nat → Int32} {p k y : Nat} (hp : 0 < p) (hp3 : p ≤ 3) (hk6 : k ≤ 6) (hy : y < 2 ^ 31) : ∀ (r n x i : Nat) (c : Nat → Nat) (a3 : Nat → Int32), r < n → r + i = k → x < 2 ^ 31 → ft_pic a3 c → (∀ a : Nat → Int32, ft_pic a (ft_c26 p k y r x i c) → ∃ fu, wX_productByCoefficients_115 post f0 (nI p) (nI k) fu (nI (k + k) + (-1)) a1 a2 a) → wX_productByCoefficients_26 post (nI y) f0 (nI p) (nI k) n (nI x) (nI i) a1 a2 a3 := by
  intro r
  induction r with
  | zero =>
    intro n x i c a3 hn hi hx hc H
    obtain ⟨n, rfl⟩ : ∃ m, n = m + 1 := ⟨n - 1, by omega⟩
    exact br_t (nI_le (by omega) (by omega)) (nm_r (by rw [show (2 : Int32) = nI 2 from rfl, pk_mul, Int32.sub_eq_add_neg, Nat.two_mul]) (H a3 hc))
  | succ r ih =>
    intro n x i c a3 hn hi hx hc H
    obtain ⟨n, rfl⟩ : ∃ m, n = m + 1 := ⟨n - 1, by omega⟩
    have hxp : x / p < 2 ^ 31 := Nat.lt_of_le_of_lt (Nat.div_le_self x p) hx
    exact br_f (nI_ge (by omega) (by omega)) ⟨k + 1, ft_w41 hp hp3 hk6 (by omega) hx k (k + 1) y 0 c a3 (by omega) (by omega) hy hc (fun a ha => ih n _ _ _ a (by omega) (by omega) hxp ha H)⟩
theorem ft_w2 {post : Int32 → St1 → Prop} {f0 f1 f2 x1 x2 : Int32} {a1 a2 : Nat → Int32} (H : ∀ a : Nat → Int32, ft_pic a (fun _ => 0) → ∃ fu, wX_productByCoefficients_26 post x2 f0 f1 f2 fu x1 0 a1 a2 a) : ∀ (r n i : Nat) (a3 : Nat → Int32), r < n → r + i = 12 → (∀ j, j < i → a3 j = 0) → wX_productByCoefficients_2 post x1 x2 f0 f1 f2 n (nI i) a1 a2 a3 := by
  intro r
  induction r with
  | zero =>
    intro n i a3 hn hi hc
    obtain ⟨n, rfl⟩ : ∃ m, n = m + 1 := ⟨n - 1, by omega⟩
    exact pk_le 12 i (fun _ => H a3 (fun j hj => hc j (by omega))) (fun z => absurd z (by omega))
  | succ r ih =>
    intro n i a3 hn hi hc
    obtain ⟨n, rfl⟩ : ∃ m, n = m + 1 := ⟨n - 1, by omega⟩
    refine pk_le 12 i (fun z => absurd z (by omega)) (fun _ => ⟨pk_in i 12 (by omega), nm_e (nm_r (nI_1 i) (ih n (i + 1) _ (by omega) (by omega) (fun j hj => ?_)))⟩)
    rw [nI_clamp (show i < 2 ^ 31 by omega)]
    by_cases e : j = i
    · rw [e, pk_us]
    · rw [pk_un e]
      exact hc j (by omega)
theorem ft_pbc {post : Int32 → St1 → Prop} {f0 : Int32} {a1 a2 a3 : Nat → Int32} {p k x y : Nat} (hp : 0 < p) (hp3 : p ≤ 3) (hk : 1 ≤ k) (hk6 : k ≤ 6) (hx : x < 2 ^ 31) (hy : y < 2 ^ 31) (hb : ∀ j, j < k → ft_cf p k x y j < 2 ^ 31) (H : ∀ a : Nat → Int32, post (nI (ft_prod p k x y)) (f0, nI p, nI k, a1, a2, a)) : wpX_productByCoefficients post (f0, nI p, nI k, a1, a2, a3) (nI x) (nI y) := by
  refine ⟨13, ft_w2 (fun a ha => ⟨k + 1, ft_w26 hp hp3 hk6 hy k (k + 1) x 0 _ a (by omega) (by omega) hx ha (fun a' ha' => ⟨k + 1, ft_w115 hk hk6 k (k + 1) _ a' (by omega) (by omega) ha' (fun a'' ha'' => ⟨k + 1, ?_⟩)⟩)⟩) 12 13 0 a3 (by omega) (by omega) (fun j hj => absurd hj (by omega))⟩
  rw [Int32.sub_eq_add_neg]
  exact ft_w187 hp hp3 ha'' k (k + 1) 0 (by omega) (by omega) hb (H a'')
/-! one power noted -/
theorem ft_w25 {post : Int32 → St1 → Prop} {J : Int32 → Int32 → Int32 → Int32 → Int32 → (Nat → Int32) → (Nat → Int32) → (Nat → Int32) → Prop} {f0 : Int32} {a1 a2 a3 : Nat → Int32} {p k x g m : Nat} (hp : 0 < p) (hp3 : p ≤ 3) (hk : 1 ≤ k) (hk6 : k ≤ 6) (hx : x < 81) (hg : g < 81) (hm : m < 160) (hb : ∀ j, j < k → ft_cf p k x g j < 2 ^ 31) (H : ∀ a : Nat → Int32, J (nI (ft_prod p k x g)) (nI (m + 1)) f0 (nI p) (nI k) (upd a1 m (nI x)) (upd a2 x (nI m)) a) : wX_makesAll_25 post J (nI g) (nI x) (nI m) f0 (nI p) (nI k) a1 a2 a3 := by
  unfold wX_makesAll_25
  rw [nI_clamp (show m < 2 ^ 31 by omega), nI_clamp (show x < 2 ^ 31 by omega)]
  exact ⟨pk_in m 160 hm, nm_e ⟨pk_in x 81 hx, nm_e (ft_pbc hp hp3 hk hk6 (by omega) (by omega) hb (fun a => nm_r (nI_1 m) (H a)))⟩⟩
theorem ft_qm (b : Bool) : nI (ft_q b) - 1 = nI (ft_q b - 1) := by cases b <;> rfl
/-- the powers of g: y, up to t: then all are noted (r = 1), or 1 has come back too early (r = 0) -/
theorem ft_mA {post : Int32 → St1 → Prop} {b : Bool} {g t : Nat} {y : Nat → Nat} {ans : Int32} (hg : g < 81) (ht : t ≤ ft_q b - 1)
    (hy : ∀ m, m < t → y m < 81 ∧ ft_prod (ft_p b) (ft_k b) (y m) g = y (m + 1) ∧ ∀ j, j < ft_k b → ft_cf (ft_p b) (ft_k b) (y m) g j < 2 ^ 31)
    (h1 : ∀ m, 0 < m → m < t → y m ≠ 1) (hi : ∀ m m', m < t → m' < t → y m = y m' → m = m')
    (he : (t = ft_q b - 1 ∧ ans = 1) ∨ (t < ft_q b - 1 ∧ 0 < t ∧ y t = 1 ∧ ans = 0))
    (H : ∀ a1 a2 a3 : Nat → Int32, (∀ m, m < t → a1 m = nI (y m)) → (∀ m, m < t → a2 (y m) = nI m) → post ans (nI (ft_q b), nI (ft_p b), nI (ft_k b), a1, a2, a3)) :
    ∀ (r n m : Nat) (a1 a2 a3 : Nat → Int32), r < n → r + m = t → (∀ i, i < m → a1 i = nI (y i)) → (∀ i, i < m → a2 (y i) = nI i) → wX_makesAll_4 post (nI g) n (nI (y m)) (nI m) (nI (ft_q b)) (nI (ft_p b)) (nI (ft_k b)) a1 a2 a3 := by
  have hq := ft_qb b
  have hp := ft_pb b
  have hk := ft_kb b
  intro r
  induction r with
  | zero =>
    intro n m a1 a2 a3 hn hm c1 c2
    obtain ⟨n, rfl⟩ : ∃ j, n = j + 1 := ⟨n - 1, by omega⟩
    have hmt : m = t := by omega
    subst hmt
    have HH := H a1 a2 a3 c1 c2
    rcases he with ⟨e1, e2⟩ | ⟨e1, e2, e3, e4⟩
    · rw [e2] at HH
      exact br_t (by rw [ft_qm]; exact nI_le (by omega) (by omega)) HH
    · rw [e4] at HH
      exact br_f (by rw [ft_qm]; exact nI_ge (by omega) (by omega)) (br_f (nI_nle e2 (by omega)) (br_t (by rw [e3]; rfl) HH))
  | succ r ih =>
    intro n m a1 a2 a3 hn hm c1 c2
    obtain ⟨n, rfl⟩ : ∃ j, n = j + 1 := ⟨n - 1, by omega⟩
    obtain ⟨y1, y2, y3⟩ := hy m (by omega)
    have step : wX_makesAll_25 post (wX_makesAll_4 post (nI g) n) (nI g) (nI (y m)) (nI m) (nI (ft_q b)) (nI (ft_p b)) (nI (ft_k b)) a1 a2 a3 := by
      refine ft_w25 (by omega) (by omega) (by omega) (by omega) y1 hg (by omega) y3 (fun a => ?_)
      rw [y2]
      refine ih n (m + 1) _ _ a (by omega) (by omega) (fun i hi' => ?_) (fun i hi' => ?_)
      · by_cases e : i = m
        · rw [e, pk_us]
        · rw [pk_un e]
          exact c1 i (by omega)
      · by_cases e : i = m
        · rw [e, pk_us]
        · rw [pk_un (fun z => e (hi i m (by omega) (by omega) z))]
          exact c2 i (by omega)
    refine br_f (by rw [ft_qm]; exact nI_ge (by omega) (by omega)) (pk_le m 0 (fun _ => step) (fun z => ?_))
    exact pk_eq (y m) 1 (fun e => absurd e (h1 m z (by omega))) (fun _ => step)
theorem ft_mA0 {post : Int32 → St1 → Prop} {b : Bool} {g t : Nat} {y : Nat → Nat} {ans : Int32} {a1 a2 a3 : Nat → Int32} (hg : g < 81) (ht : t ≤ ft_q b - 1) (y0 : y 0 = 1)
    (hy : ∀ m, m < t → y m < 81 ∧ ft_prod (ft_p b) (ft_k b) (y m) g = y (m + 1) ∧ ∀ j, j < ft_k b → ft_cf (ft_p b) (ft_k b) (y m) g j < 2 ^ 31)
    (h1 : ∀ m, 0 < m → m < t → y m ≠ 1) (hi : ∀ m m', m < t → m' < t → y m = y m' → m = m')
    (he : (t = ft_q b - 1 ∧ ans = 1) ∨ (t < ft_q b - 1 ∧ 0 < t ∧ y t = 1 ∧ ans = 0))
    (H : ∀ a1 a2 a3 : Nat → Int32, (∀ m, m < t → a1 m = nI (y m)) → (∀ m, m < t → a2 (y m) = nI m) → post ans (nI (ft_q b), nI (ft_p b), nI (ft_k b), a1, a2, a3)) :
    wpX_makesAll post (nI (ft_q b), nI (ft_p b), nI (ft_k b), a1, a2, a3) (nI g) := by
  have h := ft_mA hg ht hy h1 hi he H t (t + 1) 0 a1 a2 a3 (by omega) (by omega) (fun i hi => absurd hi (by omega)) (fun i hi => absurd hi (by omega))
  rw [y0] at h
  exact ⟨t + 1, h⟩
/-! the tables stand -/
def ft_S (b : Bool) (a1 a2 : Nat → Int32) : Prop := (∀ n, n < 2 * ft_q b - 2 → a1 n = nI (ft_pw b n)) ∧ (∀ x, 0 < x → x < ft_q b → a2 x = nI (ft_ex b x))
theorem ft_w54 {post : St1 → Prop} {b : Bool} {f1 f2 : Int32} {a2 a3 : Nat → Int32} (H : ∀ a1 : Nat → Int32, (∀ n, n < 2 * ft_q b - 2 → a1 n = nI (ft_pw b n)) → post (nI (ft_q b), f1, f2, a1, a2, a3)) :
    ∀ (r n m : Nat) (a1 : Nat → Int32), r < n → r + m = 2 * ft_q b - 2 → ft_q b - 1 ≤ m → (∀ i, i < m → a1 i = nI (ft_pw b i)) → wX_build_54 post (nI (ft_q b)) f1 f2 n (nI m) a1 a2 a3 := by
  have hq := ft_qb b
  have e2 : 2 * nI (ft_q b) - 2 = nI (2 * ft_q b - 2) := by rw [show (2 : Int32) = nI 2 from rfl, pk_mul, pk_sub (by omega)]
  intro r
  induction r with
  | zero =>
    intro n m a1 hn hm hq1 c1
    obtain ⟨n, rfl⟩ : ∃ j, n = j + 1 := ⟨n - 1, by omega⟩
    exact br_t (by rw [e2]; exact nI_le (by omega) (by omega)) (H a1 (fun i hi => c1 i (by omega)))
  | succ r ih =>
    intro n m a1 hn hm hq1 c1
    obtain ⟨n, rfl⟩ : ∃ j, n = j + 1 := ⟨n - 1, by omega⟩
    refine br_f (by rw [e2]; exact nI_ge (by omega) (by omega)) ?_
    have e3 : nI m - nI (ft_q b) + 1 = nI (m + 1 - ft_q b) := by
      rw [← pk_sub (show ft_q b ≤ m + 1 by omega), ← nI_1, Int32.sub_eq_add_neg, Int32.sub_eq_add_neg, Int32.add_assoc, Int32.add_comm (-nI (ft_q b)) 1, ← Int32.add_assoc]
    rw [e3, nI_clamp (show m < 2 ^ 31 by omega), nI_clamp (show m + 1 - ft_q b < 2 ^ 31 by omega)]
    refine ⟨pk_in (m + 1 - ft_q b) 160 (by omega), pk_in m 160 (by omega), nm_e (nm_r (nI_1 m) (ih n (m + 1) _ (by omega) (by omega) (by omega) (fun i hi => ?_)))⟩
    by_cases e : i = m
    · rw [e, pk_us, c1 _ (by omega), ft_pwm b m (by omega)]
      have e4 : m % (ft_q b - 1) = m + 1 - ft_q b := by
        rw [Nat.mod_eq_sub_mod hq1, Nat.mod_eq_of_lt (by omega)]
        omega
      rw [e4]
    · rw [pk_un e]
      exact c1 i (by omega)
/-- the last try of g: all powers are noted -/
theorem ft_bs {post : St1 → Prop} {b : Bool} {s : Nat} {a1 a2 a3 : Nat → Int32} (hs : s < 81) (H : ∀ a1 a2 a3 : Nat → Int32, ft_S b a1 a2 → post (nI (ft_q b), nI (ft_p b), nI (ft_k b), a1, a2, a3)) (n : Nat) : wX_build_21 post (n + 1) (nI (ft_p b)) (nI s) (nI (ft_q b)) (nI (ft_p b)) (nI (ft_k b)) a1 a2 a3 := by
  have hq := ft_qb b
  have hp := ft_pb b
  refine pk_le 81 s (fun z => absurd z (by omega)) (fun _ => ?_)
  refine ft_mA0 (t := ft_q b - 1) (y := ft_pw b) (ans := 1) (by omega) (by omega) (ft_pw0 b) (fun m hm => ⟨Nat.lt_of_lt_of_le (ft_pwb b m (by omega)).2 hq.2, ft_pstE b hm⟩) (fun m h0 hm => ft_pw1 b m hm h0) (fun m m' hm hm' e => ?_) (Or.inl ⟨rfl, rfl⟩) (fun c1 c2 c3 h1 h2 => ?_)
  · have e1 := ft_exp b m (by omega)
    have e2 := ft_exp b m' (by omega)
    rw [e, e2, Nat.mod_eq_of_lt hm, Nat.mod_eq_of_lt hm'] at e1
    exact e1.symm
  · refine br_f (by decide) (nm_r (ft_qm b) ⟨ft_q b, ft_w54 (fun c1' h1' => H c1' c2 c3 ⟨h1', fun x hx0 hx => ?_⟩) (ft_q b - 1) (ft_q b) (ft_q b - 1) c1 (by omega) (by omega) (by omega) h1⟩)
    have h3 := ft_exb b x hx hx0
    have h4 := h2 (ft_ex b x) h3.1
    rw [h3.2] at h4
    exact h4
/-- a try of g that falls -/
theorem ft_bf {post : St1 → Prop} {b : Bool} {g s t : Nat} {y : Nat → Nat} {a1 a2 a3 : Nat → Int32} (hs : s < 81) (hg : g < 81) (ht : t < 60) (ht0 : 0 < t) (y0 : y 0 = 1) (yt : y t = 1)
    (hy : ∀ m, m < t → y m < 81 ∧ ft_prod (ft_p b) (ft_k b) (y m) g = y (m + 1) ∧ ∀ j, j < ft_k b → ft_cf (ft_p b) (ft_k b) (y m) g j < 2 ^ 31)
    (h1 : ∀ m, 0 < m → m < t → y m ≠ 1) (hi : ∀ m m', m < t → m' < t → y m = y m' → m = m') (n : Nat)
    (H : ∀ a1 a2 a3 : Nat → Int32, wX_build_21 post n (nI (g + 1)) (nI (s + 1)) (nI (ft_q b)) (nI (ft_p b)) (nI (ft_k b)) a1 a2 a3) : wX_build_21 post (n + 1) (nI g) (nI s) (nI (ft_q b)) (nI (ft_p b)) (nI (ft_k b)) a1 a2 a3 := by
  have hq := ft_qb b
  refine pk_le 81 s (fun z => absurd z (by omega)) (fun _ => ?_)
  exact ft_mA0 (t := t) (y := y) (ans := 0) hg (by omega) y0 hy h1 hi (Or.inr ⟨by omega, ht0, yt, rfl⟩) (fun c1 c2 c3 _ _ => br_t rfl (nm_r (nI_1 g) (nm_r (nI_1 s) (H c1 c2 c3))))
theorem ft_y1 (b : Bool) : ∀ m, m < 1 → (1 : Nat) < 81 ∧ ft_prod (ft_p b) (ft_k b) 1 1 = 1 ∧ ∀ j, j < ft_k b → ft_cf (ft_p b) (ft_k b) 1 1 j < 2 ^ 31 := by cases b <;> decide +kernel
theorem ft_b1 {post : St1 → Prop} {b : Bool} {a1 a2 a3 : Nat → Int32} (n : Nat) (H : ∀ a1 a2 a3 : Nat → Int32, wX_build_21 post n (nI 2) (nI 1) (nI (ft_q b)) (nI (ft_p b)) (nI (ft_k b)) a1 a2 a3) : wX_build_21 post (n + 1) (nI 1) (nI 0) (nI (ft_q b)) (nI (ft_p b)) (nI (ft_k b)) a1 a2 a3 :=
  ft_bf (t := 1) (y := fun _ => 1) (by omega) (by omega) (by omega) (by omega) rfl rfl (ft_y1 b) (fun m h h' => absurd h' (by omega)) (fun m m' h h' _ => by omega) n H
def ft_y (m : Nat) : Nat := cond (Nat.beq m 1) 2 1
theorem ft_y2 : ∀ m, m < 2 → ft_y m < 81 ∧ ft_prod (ft_p true) (ft_k true) (ft_y m) 2 = ft_y (m + 1) ∧ ∀ j, j < ft_k true → ft_cf (ft_p true) (ft_k true) (ft_y m) 2 j < 2 ^ 31 := by decide +kernel
theorem ft_y3 : ∀ m, 0 < m → m < 2 → ft_y m ≠ 1 := by
  intro m h h'
  have e : m = 1 := by omega
  rw [e]
  decide
theorem ft_y4 : ∀ m, m < 2 → ∀ m', m' < 2 → ft_y m = ft_y m' → m = m' := by decide
theorem ft_b2 {post : St1 → Prop} {a1 a2 a3 : Nat → Int32} (n : Nat) (H : ∀ a1 a2 a3 : Nat → Int32, wX_build_21 post n (nI 3) (nI 2) (nI (ft_q true)) (nI (ft_p true)) (nI (ft_k true)) a1 a2 a3) : wX_build_21 post (n + 1) (nI 2) (nI 1) (nI (ft_q true)) (nI (ft_p true)) (nI (ft_k true)) a1 a2 a3 :=
  ft_bf (t := 2) (y := ft_y) (by omega) (by omega) (by omega) (by omega) rfl rfl ft_y2 ft_y3 (fun m m' h h' => ft_y4 m h m' h') n H
theorem ft_build (b : Bool) {post : St1 → Prop} {f0 f1 f2 : Int32} {a1 a2 a3 : Nat → Int32} (H : ∀ a1 a2 a3 : Nat → Int32, ft_S b a1 a2 → post (nI (ft_q b), nI (ft_p b), nI (ft_k b), a1, a2, a3)) : wpX_build post (f0, f1, f2, a1, a2, a3) (nI (ft_q b)) (nI (ft_p b)) (nI (ft_k b)) := by
  cases b with
  | false => exact ⟨2, ft_b1 (b := false) 1 (fun _ _ _ => ft_bs (b := false) (s := 1) (by omega) H 0)⟩
  | true => exact ⟨3, ft_b1 (b := true) 2 (fun _ _ _ => ft_b2 1 (fun _ _ _ => ft_bs (b := true) (s := 2) (by omega) H 0))⟩
end
section
/-! the walk: the methods over standing tables -/
theorem ft_ne1 : ¬ (1 : Int32) = 0 := by decide
theorem ft_isE {post : Int32 → Prop} {b : Bool} {f1 f2 : Int32} {a1 a2 a3 : Nat → Int32} {x : Nat} (hx : x < ft_q b) (H : post 1) : wpX_isElement post (nI (ft_q b), f1, f2, a1, a2, a3) (nI x) := by
  have hq := ft_qb b
  exact br_f (nI_pos (by omega)) (br_f (nI_ge hx (by omega)) H)
theorem ft_pO {post : Int32 → Prop} {b : Bool} {a1 a2 a3 : Nat → Int32} {x y : Nat} (hS : ft_S b a1 a2) (hx : x < ft_q b) (hy : y < ft_q b) (H : post (nI (ft_mul b x y))) : wpX_productOf post (nI (ft_q b), nI (ft_p b), nI (ft_k b), a1, a2, a3) (nI x) (nI y) := by
  have hq := ft_qb b
  unfold wpX_productOf
  dsimp only
  rw [nI_clamp (show x < 2 ^ 31 by omega), nI_clamp (show y < 2 ^ 31 by omega)]
  unfold ft_mul at H
  refine pk_eq x 0 (fun e => ?_) (fun e => pk_eq y 0 (fun e' => ?_) (fun e' => ?_))
  · rw [if_pos (Or.inl e)] at H
    exact H
  · rw [if_pos (Or.inr e')] at H
    exact H
  · rw [if_neg (by omega)] at H
    have h1 := (ft_exb b x hx (by omega)).1
    have h2 := (ft_exb b y hy (by omega)).1
    rw [hS.2 x (by omega) hx, hS.2 y (by omega) hy, nI_add, nI_clamp (by omega), hS.1 _ (by omega)]
    exact ⟨pk_in x 81 (by omega), pk_in y 81 (by omega), pk_in (ft_ex b x + ft_ex b y) 160 (by omega), H⟩
theorem ft_mulW {post : Int32 → Prop} {b : Bool} {a1 a2 a3 : Nat → Int32} {x y : Nat} (hS : ft_S b a1 a2) (hx : x < ft_q b) (hy : y < ft_q b) (H : post (nI (ft_mul b x y))) : wpX_multiply post (nI (ft_q b), nI (ft_p b), nI (ft_k b), a1, a2, a3) (nI x) (nI y) := by
  unfold wpX_multiply
  dsimp only
  exact ft_isE hx (br_f ft_ne1 (ft_isE hy (br_f ft_ne1 (ft_pO hS hx hy H))))
theorem ft_w14 {post : Int32 → Prop} {f0 : Int32} {a1 a2 a3 : Nat → Int32} {p k : Nat} (hp : 0 < p) (hp3 : p ≤ 3) (hk : k ≤ 6) : ∀ (r n i s l x y : Nat), r < n → r + i = k → x < 2 ^ 31 → y < 2 ^ 31 → post (nI (ft_ad p r s l x y)) → wX_sumOf_14 post f0 (nI p) (nI k) a1 a2 a3 n (nI s) (nI l) (nI x) (nI y) (nI i) := by
  intro r
  induction r with
  | zero =>
    intro n i s l x y hn hi _ _ H
    obtain ⟨n, rfl⟩ : ∃ m, n = m + 1 := ⟨n - 1, by omega⟩
    exact br_t (nI_le (by omega) (by omega)) H
  | succ r ih =>
    intro n i s l x y hn hi hx hy H
    obtain ⟨n, rfl⟩ : ∃ m, n = m + 1 := ⟨n - 1, by omega⟩
    have hz := nI_ne0 hp (show p < 2 ^ 31 by omega)
    have m1 := Nat.mod_lt x hp
    have m2 := Nat.mod_lt y hp
    have d1 : x / p < 2 ^ 31 := Nat.lt_of_le_of_lt (Nat.div_le_self x p) hx
    have d2 : y / p < 2 ^ 31 := Nat.lt_of_le_of_lt (Nat.div_le_self y p) hy
    refine br_f (nI_ge (by omega) (by omega)) ⟨hz, hz, hz, ?_⟩
    rw [pk_rem hx hp (by omega), pk_rem hy hp (by omega), nI_add, pk_rem (show x % p + y % p < 2 ^ 31 by omega) hp (by omega), pk_mul, nI_add, pk_mul]
    exact nm_e (nm_e ⟨hz, nm_r (pk_div hx hp (by omega)) ⟨hz, nm_r (pk_div hy hp (by omega)) (nm_r (nI_1 i) (ih n (i + 1) _ _ _ _ (by omega) (by omega) d1 d2 H))⟩⟩)
theorem ft_sO {post : Int32 → Prop} {b : Bool} {f0 : Int32} {a1 a2 a3 : Nat → Int32} {x y : Nat} (hx : x < 2 ^ 31) (hy : y < 2 ^ 31) (H : post (nI (ft_add b x y))) : wpX_sumOf post (f0, nI (ft_p b), nI (ft_k b), a1, a2, a3) (nI x) (nI y) := by
  have hp := ft_pb b
  have hk := ft_kb b
  exact ⟨ft_k b + 1, ft_w14 (by omega) (by omega) (by omega) (ft_k b) (ft_k b + 1) 0 0 1 x y (by omega) (by omega) hx hy H⟩
theorem ft_addW {post : Int32 → Prop} {b : Bool} {a1 a2 a3 : Nat → Int32} {x y : Nat} (hx : x < ft_q b) (hy : y < ft_q b) (H : post (nI (ft_add b x y))) : wpX_add post (nI (ft_q b), nI (ft_p b), nI (ft_k b), a1, a2, a3) (nI x) (nI y) := by
  have hq := ft_qb b
  unfold wpX_add
  dsimp only
  exact ft_isE hx (br_f ft_ne1 (ft_isE hy (br_f ft_ne1 (ft_sO (by omega) (by omega) H))))
theorem ft_pwO {post : Int32 → Prop} {b : Bool} {a1 a2 a3 : Nat → Int32} {x n : Nat} (hS : ft_S b a1 a2) (hx : x < ft_q b) (hn : n < 2 ^ 31) (H : post (nI (ft_pow b x n))) : wpX_powerOf post (nI (ft_q b), nI (ft_p b), nI (ft_k b), a1, a2, a3) (nI x) (nI n) := by
  have hq := ft_qb b
  unfold wpX_powerOf
  dsimp only
  rw [nI_clamp (show x < 2 ^ 31 by omega), ft_qm, nI_l (show ft_q b - 1 < 2 ^ 31 by omega), nI_l hn]
  unfold ft_pow at H
  refine pk_eq n 0 (fun e => ?_) (fun e => pk_eq x 0 (fun e' => ?_) (fun e' => ?_))
  · rw [if_pos e] at H
    exact H
  · rw [if_neg e, if_pos e'] at H
    exact H
  · rw [if_neg e, if_neg e'] at H
    have h1 := (ft_exb b x hx (by omega)).1
    have h2 : ft_ex b x * n < 2 ^ 63 := by
      have h3 : ft_ex b x * n ≤ 81 * n := Nat.mul_le_mul_right n (by omega)
      omega
    have h4 := Nat.mod_lt (ft_ex b x * n) (show ft_q b - 1 > 0 by omega)
    rw [hS.2 x (by omega) hx, nI_l (show ft_ex b x < 2 ^ 31 by omega), lN_mul, pk_lRem h2 (by omega) (by omega), lN_i, nI_clamp (show ft_ex b x * n % (ft_q b - 1) < 2 ^ 31 by omega), hS.1 _ (by omega)]
    refine ⟨pk_in x 81 (by omega), fun z => ?_, pk_in (ft_ex b x * n % (ft_q b - 1)) 160 (by omega), H⟩
    have z' : lN (ft_q b - 1) = lN 0 := z
    rw [lN_eq (by omega) (by omega)] at z'
    omega
theorem ft_powW {post : Int32 → Prop} {b : Bool} {a1 a2 a3 : Nat → Int32} {x n : Nat} (hS : ft_S b a1 a2) (hx : x < ft_q b) (hn : n ≤ 1000000) (H : post (nI (ft_pow b x n))) : wpX_power post (nI (ft_q b), nI (ft_p b), nI (ft_k b), a1, a2, a3) (nI x) (nI n) := by
  unfold wpX_power
  dsimp only
  exact ft_isE hx (br_f ft_ne1 (br_f (nI_pos (by omega)) (br_f (nI_nlt (b := n) (a := 1000000) hn (by omega)) (ft_pwO hS hx (by omega) H))))
theorem ft_w7 {post : Int32 → Prop} : ∀ (s n a c : Nat), s < n → s ≤ 40 → a < 2 ^ 31 → c < 2 ^ 31 → post (nI (ft_dv s a c)) → wX_divisor_7 post n (nI a) (nI c) (nI (40 - s)) := by
  intro s
  induction s with
  | zero =>
    intro n a c hn _ _ _ H
    obtain ⟨n, rfl⟩ : ∃ m, n = m + 1 := ⟨n - 1, by omega⟩
    exact pk_le 40 (40 - 0) (fun _ => H) (fun z => absurd z (by omega))
  | succ s ih =>
    intro n a c hn hs ha hc H
    obtain ⟨n, rfl⟩ : ∃ m, n = m + 1 := ⟨n - 1, by omega⟩
    have H' : post (nI (if a = 0 then c else ft_dv s (c % a) a)) := H
    refine pk_le 40 (40 - (s + 1)) (fun z => absurd z (by omega)) (fun _ => pk_le a 0 (fun z => ?_) (fun z => ?_))
    · rw [if_pos (by omega)] at H'
      exact H'
    · rw [if_neg (by omega)] at H'
      have h1 := Nat.mod_lt c z
      exact ⟨nI_ne0 z ha, nm_r (pk_rem hc z ha) (nm_r (by rw [nI_1, show 40 - (s + 1) + 1 = 40 - s by omega]) (ih n _ _ (by omega) (by omega) (by omega) ha H'))⟩
theorem ft_dvW {post : Int32 → Prop} {x y : Nat} (hx : x < 2 ^ 31) (hy : y < 2 ^ 31) (H : post (nI (ft_dv 40 x y))) : wpX_divisor post () (nI x) (nI y) := ⟨41, ft_w7 40 41 x y (by omega) (by omega) hx hy H⟩
theorem ft_ord0 {post : Int32 → Prop} {b : Bool} {a1 a2 a3 : Nat → Int32} (H : post (-1)) : wpX_order post (nI (ft_q b), nI (ft_p b), nI (ft_k b), a1, a2, a3) (nI 0) := by
  have hq := ft_qb b
  unfold wpX_order
  dsimp only
  exact ft_isE (by omega) (br_f ft_ne1 (br_t rfl H))
theorem ft_ordW {post : Int32 → Prop} {b : Bool} {a1 a2 a3 : Nat → Int32} {x : Nat} (hS : ft_S b a1 a2) (hx : x < ft_q b) (h0 : 0 < x) (H : post (nI ((ft_q b - 1) / ft_dv 40 (ft_ex b x) (ft_q b - 1)))) : wpX_order post (nI (ft_q b), nI (ft_p b), nI (ft_k b), a1, a2, a3) (nI x) := by
  have hq := ft_qb b
  have h1 := (ft_exb b x hx h0).1
  have h2 := ft_or b x hx h0
  unfold wpX_order
  dsimp only
  rw [nI_clamp (show x < 2 ^ 31 by omega), ft_qm, hS.2 x h0 hx]
  exact ft_isE hx (br_f ft_ne1 (br_f (nI_ne0 h0 (by omega)) ⟨pk_in x 81 (by omega), ft_dvW (by omega) (by omega) ⟨nI_ne0 h2.1 (by omega), sb_at (pk_div (by omega) h2.1 (by omega)) H⟩⟩))
theorem ft_rtW {post : Int32 → Prop} {b : Bool} {a1 a2 a3 : Nat → Int32} {x n : Nat} (hS : ft_S b a1 a2) (hx : x < ft_q b) (hn : n < 1025) (h0 : 0 < n) (H : post (nI (ft_rt b n x))) : wpX_roots post (nI (ft_q b), nI (ft_p b), nI (ft_k b), a1, a2, a3) (nI x) (nI n) := by
  have hq := ft_qb b
  have h2 := ft_dn b n hn h0
  unfold wpX_roots
  dsimp only
  rw [nI_clamp (show x < 2 ^ 31 by omega), ft_qm]
  unfold ft_rt at H
  refine ft_isE hx (br_f ft_ne1 (br_f (nI_nlt (a := n) (b := 1) (by omega) (by omega)) (br_t (nI_le (b := 1000000) (by omega) (by omega)) (pk_eq x 0 (fun e => ?_) (fun e => ?_)))))
  · rw [if_pos e] at H
    exact H
  · rw [if_neg e] at H
    have h1 := (ft_exb b x hx (by omega)).1
    rw [hS.2 x (by omega) hx]
    refine ft_dvW (by omega) (by omega) ⟨pk_in x 81 (by omega), nI_ne0 h2.1 (by omega), ?_⟩
    rw [pk_rem (show ft_ex b x < 2 ^ 31 by omega) h2.1 (by omega)]
    have h3 := Nat.mod_lt (ft_ex b x) h2.1
    refine pk_eq (ft_ex b x % ft_dv 40 n (ft_q b - 1)) 0 (fun e' => ?_) (fun e' => ?_)
    · rw [if_pos e'] at H
      exact H
    · rw [if_neg e'] at H
      exact H
theorem ft_LrW {post : Int32 → Prop} {b : Bool} {a1 a2 a3 : Nat → Int32} {n : Nat} (hS : ft_S b a1 a2) (hn : n < 1025) (h0 : 0 < n) (H : post 1) : ∀ (r fu i : Nat), r < fu → r + i = ft_q b → wL_roots_5 post (nI (ft_q b)) (nI n) (nI (ft_q b)) (nI (ft_p b)) (nI (ft_k b)) a1 a2 a3 fu (nI (ft_rs b (ft_dv 40 n (ft_q b - 1)) i)) (nI i) := by
  have hq := ft_qb b
  intro r
  induction r with
  | zero =>
    intro fu i hf hi
    obtain ⟨fu, rfl⟩ : ∃ m, fu = m + 1 := ⟨fu - 1, by omega⟩
    have e : i = ft_q b := by omega
    refine br_t (nI_le (by omega) (by omega)) (br_t ?_ H)
    rw [e, ft_rsum b hn h0]
  | succ r ih =>
    intro fu i hf hi
    obtain ⟨fu, rfl⟩ : ∃ m, fu = m + 1 := ⟨fu - 1, by omega⟩
    exact br_f (nI_ge (by omega) (by omega)) (ft_rtW hS (by omega) hn h0 (nm_r (by rw [nI_add, ← ft_rs_s]) (nm_r (nI_1 i) (ih fu (i + 1) (by omega) (by omega)))))
theorem ft_LrootsW {post : Int32 → Prop} {b : Bool} {a1 a2 a3 : Nat → Int32} {n : Nat} (hS : ft_S b a1 a2) (hn : n < 1025) (h0 : 0 < n) (H : post 1) : wpL_roots post (nI (ft_q b), nI (ft_p b), nI (ft_k b), a1, a2, a3) (nI (ft_q b)) (nI n) := ⟨ft_q b + 1, ft_LrW hS hn h0 H (ft_q b) (ft_q b + 1) 0 (by omega) (by omega)⟩
end
section
/-! the walk: traces, homes, logarithms, the law's own methods -/
theorem ft_bq {s n : Nat} (h : s ≠ n) : Nat.beq s n = false := by
  cases e : Nat.beq s n with
  | true => exact absurd (Nat.eq_of_beq_eq_true e) h
  | false => rfl
theorem ft_fd64 {s : Nat} (h2 : s ≠ 2) (h4 : s ≠ 4) (h8 : s ≠ 8) (h64 : s ≠ 64) : ft_fd false s = false := by
  show (Nat.beq s 2 || Nat.beq s 4 || Nat.beq s 8 || Nat.beq s 64) = false
  rw [ft_bq h2, ft_bq h4, ft_bq h8, ft_bq h64]
  rfl
theorem ft_fd81 {s : Nat} (h3 : s ≠ 3) (h9 : s ≠ 9) (h81 : s ≠ 81) : ft_fd true s = false := by
  show (Nat.beq s 3 || Nat.beq s 9 || Nat.beq s 81) = false
  rw [ft_bq h3, ft_bq h9, ft_bq h81]
  rfl
theorem ft_fd2 {b : Bool} {s : Nat} (h : ft_fd b s = true) : 2 ≤ s := by
  rcases (by omega : s = 0 ∨ s = 1 ∨ 2 ≤ s) with e | e | e
  · rw [e] at h
    cases b <;> exact absurd h (by decide)
  · rw [e] at h
    cases b <;> exact absurd h (by decide)
  · exact e
theorem ft_isF {post : Int32 → Prop} {b : Bool} {f0 f2 : Int32} {a1 a2 a3 : Nat → Int32} {s : Nat} (hs : s < 2 ^ 31) (H1 : ft_fd b s = true → post 1) (H0 : ft_fd b s = false → post 0) : wpX_isField post (f0, nI (ft_p b), f2, a1, a2, a3) (nI s) := by
  cases b with
  | false => exact pk_eq 2 2 (fun _ => pk_eq s 2 (fun e => H1 (by rw [e]; rfl)) (fun e2 => pk_eq s 4 (fun e => H1 (by rw [e]; rfl)) (fun e4 => pk_eq s 8 (fun e => H1 (by rw [e]; rfl)) (fun e8 => pk_eq s 64 (fun e => H1 (by rw [e]; rfl)) (fun e64 => H0 (ft_fd64 e2 e4 e8 e64)))))) (fun z => absurd rfl z)
  | true => exact pk_eq 3 2 (fun z => absurd z (by omega)) (fun _ => pk_eq s 3 (fun e => H1 (by rw [e]; rfl)) (fun e3 => pk_eq s 9 (fun e => H1 (by rw [e]; rfl)) (fun e9 => pk_eq s 81 (fun e => H1 (by rw [e]; rfl)) (fun e81 => H0 (ft_fd81 e3 e9 e81)))))
theorem ft_sw {b : Bool} {s : Nat} {A N B M : Prop} (hs : s < 2 ^ 31) (hA : ft_fd b s = true → A) (hN : ft_fd b s = false → N) (hB : ft_fd b s = true → B) (hM : ft_fd b s = false → M) :
    (nI (ft_q b) = 64 → ((nI s = 2 → A) ∧ (¬ nI s = 2 → ((nI s = 4 → A) ∧ (¬ nI s = 4 → ((nI s = 8 → A) ∧ (¬ nI s = 8 → ((nI s = 64 → A) ∧ (¬ nI s = 64 → N))))))))) ∧
    (¬ nI (ft_q b) = 64 → ((nI s = 3 → B) ∧ (¬ nI s = 3 → ((nI s = 9 → B) ∧ (¬ nI s = 9 → ((nI s = 81 → B) ∧ (¬ nI s = 81 → M))))))) := by
  cases b with
  | false => exact pk_eq 64 64 (fun _ => pk_eq s 2 (fun e => hA (by rw [e]; rfl)) (fun e2 => pk_eq s 4 (fun e => hA (by rw [e]; rfl)) (fun e4 => pk_eq s 8 (fun e => hA (by rw [e]; rfl)) (fun e8 => pk_eq s 64 (fun e => hA (by rw [e]; rfl)) (fun e64 => hN (ft_fd64 e2 e4 e8 e64)))))) (fun z => absurd rfl z)
  | true => exact pk_eq 81 64 (fun z => absurd z (by omega)) (fun _ => pk_eq s 3 (fun e => hB (by rw [e]; rfl)) (fun e3 => pk_eq s 9 (fun e => hB (by rw [e]; rfl)) (fun e9 => pk_eq s 81 (fun e => hB (by rw [e]; rfl)) (fun e81 => hM (ft_fd81 e3 e9 e81)))))
theorem ft_wtr {post : Int32 → Prop} {b : Bool} {a1 a2 a3 : Nat → Int32} {s : Nat} (hS : ft_S b a1 a2) (hs2 : 2 ≤ s) (hs : s ≤ 81) : ∀ (f n m t z : Nat), f < n → m < ft_q b → t < ft_q b → z ≤ 10000 → ft_q b < z * 2 ^ f → post (nI (ft_tr b s f m t z)) → wX_trace_26 post (nI s) (nI (ft_q b)) (nI (ft_p b)) (nI (ft_k b)) a1 a2 a3 n (nI m) (nI t) (nI z) := by
  have hq := ft_qb b
  intro f
  induction f with
  | zero =>
    intro n m t z hn hm ht hz hzf H
    obtain ⟨n, rfl⟩ : ∃ j, n = j + 1 := ⟨n - 1, by omega⟩
    exact br_t (nI_lt (by omega) (by omega)) H
  | succ f ih =>
    intro n m t z hn hm ht hz hzf H
    obtain ⟨n, rfl⟩ : ∃ j, n = j + 1 := ⟨n - 1, by omega⟩
    have H' : post (nI (if ft_q b < z then m else ft_tr b s f (ft_add b m t) (ft_pow b t s) (z * s))) := H
    refine pk_lt (ft_q b) z (fun e => ?_) (fun e => ?_)
    · rw [if_pos e] at H'
      exact H'
    · rw [if_neg (by omega)] at H'
      have h1 : z * s ≤ 81 * 81 := Nat.mul_le_mul (by omega) hs
      have h2 : z * 2 ^ (f + 1) ≤ z * s * 2 ^ f := by
        rw [Nat.pow_succ, Nat.mul_comm (2 ^ f) 2, ← Nat.mul_assoc]
        exact Nat.mul_le_mul_right _ (Nat.mul_le_mul_left z hs2)
      exact ft_sO (by omega) (by omega) (ft_pwO hS ht (by omega) (nm_r (pk_mul z s) (ih n _ _ _ (by omega) (ft_addb b hm ht) (ft_pow_lt b s) (by omega) (by omega) H')))
theorem ft_trW {post : Int32 → Prop} {b : Bool} {a1 a2 a3 : Nat → Int32} {a s : Nat} (hS : ft_S b a1 a2) (ha : a < ft_q b) (hs : s ≤ ft_q b) (H1 : ft_fd b s = true → post (nI (ft_tr b s 8 0 a s))) (H0 : ft_fd b s = false → post (-1)) : wpX_trace post (nI (ft_q b), nI (ft_p b), nI (ft_k b), a1, a2, a3) (nI a) (nI s) := by
  have hq := ft_qb b
  unfold wpX_trace
  dsimp only
  refine ft_isE ha (br_f ft_ne1 (ft_isF (by omega) (fun h => br_f ft_ne1 ⟨9, ?_⟩) (fun h => br_t rfl (H0 h))))
  have h2 := ft_fd2 h
  exact ft_wtr hS h2 (by omega) 8 9 0 a s (by omega) (by omega) ha (by omega) (by omega) (H1 h)
theorem ft_whm {post : Int32 → Prop} {b : Bool} {a1 a2 a3 : Nat → Int32} {a : Nat} (hS : ft_S b a1 a2) (ha : a < ft_q b) : ∀ (f n s : Nat), f < n → s ≤ 10000 → ft_q b ≤ s * 2 ^ f → post (nI (ft_hm b a f s)) → wX_home_15 post (nI a) (nI (ft_q b)) (nI (ft_p b)) (nI (ft_k b)) a1 a2 a3 n (nI s) := by
  have hq := ft_qb b
  have hp := ft_pb b
  intro f
  induction f with
  | zero =>
    intro n s hn hs hsf H
    obtain ⟨n, rfl⟩ : ∃ j, n = j + 1 := ⟨n - 1, by omega⟩
    exact br_t (nI_le (by omega) (by omega)) H
  | succ f ih =>
    intro n s hn hs hsf H
    obtain ⟨n, rfl⟩ : ∃ j, n = j + 1 := ⟨n - 1, by omega⟩
    have H' : post (nI (if ft_q b ≤ s then ft_q b else if ft_fd b s = true ∧ ft_pow b a s = a then s else ft_hm b a f (s * ft_p b))) := H
    refine pk_le (ft_q b) s (fun e => ?_) (fun e => ?_)
    · rw [if_pos e] at H'
      exact H'
    · rw [if_neg (by omega)] at H'
      have h1 : s * ft_p b ≤ 81 * 3 := Nat.mul_le_mul (by omega) hp.2
      have h2 : s * 2 ^ (f + 1) ≤ s * ft_p b * 2 ^ f := by
        rw [Nat.pow_succ, Nat.mul_comm (2 ^ f) 2, ← Nat.mul_assoc]
        exact Nat.mul_le_mul_right _ (Nat.mul_le_mul_left s hp.1)
      have h3 := ft_pow_lt b (x := a) s
      refine ft_isF (by omega) (fun h => br_f ft_ne1 (ft_pwO hS ha (by omega) (pk_eq (ft_pow b a s) a (fun e' => ?_) (fun e' => nm_r (pk_mul _ _) (ih n _ (by omega) (by omega) (by omega) ?_))))) (fun h => br_t rfl (nm_r (pk_mul _ _) (ih n _ (by omega) (by omega) (by omega) ?_)))
      · rw [if_pos ⟨h, e'⟩] at H'
        exact H'
      · rw [if_neg (fun z => e' z.2)] at H'
        exact H'
      · rw [if_neg (fun z => absurd (h.symm.trans z.1) (by decide))] at H'
        exact H'
theorem ft_hmW {post : Int32 → Prop} {b : Bool} {a1 a2 a3 : Nat → Int32} {a : Nat} (hS : ft_S b a1 a2) (ha : a < ft_q b) (H : post (nI (ft_hm b a 8 (ft_p b)))) : wpX_home post (nI (ft_q b), nI (ft_p b), nI (ft_k b), a1, a2, a3) (nI a) := by
  have hq := ft_qb b
  have hp := ft_pb b
  unfold wpX_home
  dsimp only
  exact ft_isE ha (br_f ft_ne1 ⟨9, ft_whm hS ha 8 9 (ft_p b) (by omega) (by omega) (by omega) H⟩)
theorem ft_nm1 {t : Nat} (h : t < 2 ^ 31) : ¬ nI t = -1 := by
  intro e
  have h1 := nI_pos h
  rw [e] at h1
  exact h1 (by decide)
theorem ft_t73 {post : Int32 → Prop} {J : Int32 → Prop} {b : Bool} {x1 x2 : Int32} {a1 a2 a3 : Nat → Int32} {s t : Nat} (hS : ft_S b a1 a2) (ht : t < ft_q b) (hs : s ≤ ft_q b) (hh : ft_hm b t 8 (ft_p b) ≤ s) (H : J (nI (s + 1))) : wL_traces_73 post J x1 x2 (nI s) (nI t) 1 (nI (ft_q b)) (nI (ft_p b)) (nI (ft_k b)) a1 a2 a3 := by
  have hq := ft_qb b
  exact br_f (ft_nm1 (by omega)) (br_f (by decide) (br_f ft_ne1 (ft_hmW hS ht (br_t (nI_le hh (by omega)) (nm_r (nI_1 s) H)))))
theorem ft_t73n {post : Int32 → Prop} {J : Int32 → Prop} {x1 x2 f0 f1 f2 : Int32} {a1 a2 a3 : Nat → Int32} {s : Nat} (H : J (nI (s + 1))) : wL_traces_73 post J x1 x2 (nI s) (-1) 0 f0 f1 f2 a1 a2 a3 := br_t rfl (br_f ft_ne1 (br_t rfl (nm_r (nI_1 s) H)))
theorem ft_wt {post : Int32 → Prop} {b : Bool} {a1 a2 a3 : Nat → Int32} {a : Nat} (hS : ft_S b a1 a2) (ha : a < ft_q b) (H : post 1) : ∀ (r n s : Nat), r < n → r + s = ft_q b + 1 → wL_traces_2 post (nI (ft_q b)) (nI a) (nI (ft_q b)) (nI (ft_p b)) (nI (ft_k b)) a1 a2 a3 n (nI s) := by
  have hq := ft_qb b
  intro r
  induction r with
  | zero =>
    intro n s hn hs
    obtain ⟨n, rfl⟩ : ∃ j, n = j + 1 := ⟨n - 1, by omega⟩
    exact br_t (nI_lt (by omega) (by omega)) H
  | succ r ih =>
    intro n s hn hs
    obtain ⟨n, rfl⟩ : ∃ j, n = j + 1 := ⟨n - 1, by omega⟩
    have J := ih n (s + 1) (by omega) (by omega)
    refine br_f (nI_nlt (by omega) (by omega)) (ft_trW hS ha (by omega) (fun h => ?_) (fun h => ?_))
    · have h1 := ft_tr_lt b s 8 0 a s (by omega) ha
      have h2 := ft_home b ha (by omega) h
      exact ft_sw (by omega) (fun _ => ft_t73 hS h1 (by omega) h2 J) (fun h' => absurd (h.symm.trans h') (by decide)) (fun _ => ft_t73 hS h1 (by omega) h2 J) (fun h' => absurd (h.symm.trans h') (by decide))
    · exact ft_sw (by omega) (fun h' => absurd (h.symm.trans h') (by decide)) (fun _ => ft_t73n J) (fun h' => absurd (h.symm.trans h') (by decide)) (fun _ => ft_t73n J)
theorem ft_LtracesW {post : Int32 → Prop} {b : Bool} {a1 a2 a3 : Nat → Int32} {a : Nat} (hS : ft_S b a1 a2) (ha : a < ft_q b) (H : post 1) : wpL_traces post (nI (ft_q b), nI (ft_p b), nI (ft_k b), a1, a2, a3) (nI (ft_q b)) (nI a) := by
  have hq := ft_qb b
  exact ⟨ft_q b, ft_wt hS ha H (ft_q b - 1) (ft_q b) 2 (by omega) (by omega)⟩
/-! logarithms -/
theorem ft_wiv {post : Int32 → Prop} {x1 : Int32} : ∀ (s n a c : Nat) (u v : Int32), s < n → s ≤ 20 → a < 2 ^ 31 → c < 2 ^ 31 → wX_inverseModulo_68 post x1 (ft_iv s a c u v) → wX_inverseModulo_15 post x1 n (nI a) (nI c) u v (nI (20 - s)) := by
  intro s
  induction s with
  | zero =>
    intro n a c u v hn _ _ _ H
    obtain ⟨n, rfl⟩ : ∃ j, n = j + 1 := ⟨n - 1, by omega⟩
    exact pk_le 20 (20 - 0) (fun _ => H) (fun z => absurd z (by omega))
  | succ s ih =>
    intro n a c u v hn hs ha hc H
    obtain ⟨n, rfl⟩ : ∃ j, n = j + 1 := ⟨n - 1, by omega⟩
    have H' : wX_inverseModulo_68 post x1 (if c = 0 then u else ft_iv s c (a % c) v (u - nI (a / c) * v)) := H
    refine pk_le 20 (20 - (s + 1)) (fun z => absurd z (by omega)) (fun _ => pk_le c 0 (fun z => ?_) (fun z => ?_))
    · rw [if_pos (by omega)] at H'
      exact H'
    · rw [if_neg (by omega)] at H'
      have h1 := Nat.mod_lt a z
      exact ⟨nI_ne0 z hc, nm_r (pk_div ha z hc) (nm_r (by rw [← pk_div ha z hc, pk_rem ha z hc]) (nm_e (nm_r (by rw [nI_1, show 20 - (s + 1) + 1 = 20 - s by omega]) (ih n _ _ _ _ (by omega) (by omega) hc (by omega) H'))))⟩
theorem ft_ivW {post : Int32 → Prop} {x m : Nat} (hx : x < 2 ^ 31) (hm : m < 2 ^ 31) (h0 : 0 < m) (H : post (ft_inv x m)) : wpX_inverseModulo post () (nI x) (nI m) := by
  have h1 := Nat.mod_lt x h0
  refine ⟨nI_ne0 h0 hm, nm_r (pk_rem hx h0 hm) ⟨21, ft_wiv 20 21 m (x % m) 0 1 (by omega) (by omega) hm (by omega) ?_⟩⟩
  unfold ft_inv at H
  refine br_c (fun e => ?_) (fun e => ?_)
  · rw [if_pos e] at H
    exact H
  · rw [if_neg e] at H
    exact H
theorem ft_lg0 {post : Int32 → Prop} {b : Bool} {a1 a2 a3 : Nat → Int32} {y x : Nat} (hy : y < ft_q b) (hx : x < ft_q b) (h : y = 0 ∨ x = 0) (H : post (-1)) : wpX_logarithm post (nI (ft_q b), nI (ft_p b), nI (ft_k b), a1, a2, a3) (nI y) (nI x) := by
  have hq := ft_qb b
  unfold wpX_logarithm
  dsimp only
  exact ft_isE hy (br_f ft_ne1 (ft_isE hx (br_f ft_ne1 (pk_eq y 0 (fun _ => H) (fun e => pk_eq x 0 (fun _ => H) (fun e' => absurd h (by omega)))))))
theorem ft_lgW {post : Int32 → Prop} {b : Bool} {a1 a2 a3 : Nat → Int32} {y x : Nat} (hS : ft_S b a1 a2) (hy : y < ft_q b) (hx : x < ft_q b) (hy0 : 0 < y) (hx0 : 0 < x) (H0 : post (-1)) (H1 : ft_ex b x % ft_dv 40 (ft_ex b y) (ft_q b - 1) = 0 → post (nI (ft_lg b y x))) : wpX_logarithm post (nI (ft_q b), nI (ft_p b), nI (ft_k b), a1, a2, a3) (nI y) (nI x) := by
  have hq := ft_qb b
  have h1 := (ft_exb b x hx hx0).1
  have h2 := (ft_exb b y hy hy0).1
  have h3 := ft_or b y hy hy0
  have h4 := ft_ivj b y hy hy0
  unfold ft_lg at H1
  unfold wpX_logarithm
  dsimp only
  rw [nI_clamp (show x < 2 ^ 31 by omega), nI_clamp (show y < 2 ^ 31 by omega), ft_qm, hS.2 x hx0 hx, hS.2 y hy0 hy]
  refine ft_isE hy (br_f ft_ne1 (ft_isE hx (br_f ft_ne1 (br_f (nI_ne0 hy0 (by omega)) (br_f (nI_ne0 hx0 (by omega)) ⟨pk_in y 81 (by omega), ft_dvW (by omega) (by omega) ?_⟩)))))
  generalize ft_dv 40 (ft_ex b y) (ft_q b - 1) = d at h3 h4 H1 ⊢
  have hd : d < 2 ^ 31 := by omega
  have m1 := Nat.mod_lt (ft_ex b x) h3.1
  have q1 := Nat.div_le_self (ft_q b - 1) d
  have q2 := Nat.div_le_self (ft_ex b x) d
  have q3 := Nat.div_le_self (ft_ex b y) d
  refine ⟨pk_in x 81 (by omega), nI_ne0 h3.1 hd, ?_⟩
  rw [pk_rem (show ft_ex b x < 2 ^ 31 by omega) h3.1 hd, pk_div (show ft_ex b x < 2 ^ 31 by omega) h3.1 hd, pk_div (show ft_ex b y < 2 ^ 31 by omega) h3.1 hd, pk_div (show ft_q b - 1 < 2 ^ 31 by omega) h3.1 hd]
  refine pk_eq (ft_ex b x % d) 0 (fun e => ⟨nI_ne0 h3.1 hd, nm_e ⟨pk_in y 81 (by omega), nI_ne0 h3.1 hd, ft_ivW (by omega) (by omega) h3.2.2.1 ⟨pk_in x 81 (by omega), nI_ne0 h3.1 hd, nI_ne0 h3.2.2.1 (by omega), ?_⟩⟩⟩) (fun _ => H0)
  have m2 : ft_ex b x / d * ft_jt b y ≤ 81 * 81 := Nat.mul_le_mul (by omega) (by omega)
  rw [h4.1, pk_mul, pk_rem (by omega) h3.2.2.1 (by omega)]
  exact H1 e
theorem ft_133 {post : Int32 → Prop} {b : Bool} {a1 a2 a3 : Nat → Int32} {x y : Nat} (hS : ft_S b a1 a2) (hx : x < ft_q b) (hy : y < ft_q b) (H : post 1) : wL_field_133 post (nI x) (nI y) (nI (ft_q b)) (nI (ft_p b)) (nI (ft_k b)) a1 a2 a3 := by
  have hq := ft_qb b
  unfold wL_field_133
  by_cases ex : x = 0
  · exact ft_lg0 hy hx (Or.inr ex) (pk_eq x 0 (fun _ => br_t rfl H) (fun z => absurd ex z))
  · by_cases ey : y = 0
    · exact ft_lg0 hy hx (Or.inl ey) (pk_eq x 0 (fun z => absurd z ex) (fun _ => pk_eq y 0 (fun _ => br_t rfl H) (fun z => absurd ey z)))
    · have h3 := ft_or b y hy (by omega)
      refine ft_lgW hS hy hx (by omega) (by omega) (br_f (nI_ne0 (by omega) (by omega)) (br_f (nI_ne0 (by omega) (by omega)) (br_t rfl H))) (fun e => ?_)
      have hl : ft_lg b y x < 81 := by
        have m1 := Nat.mod_lt (ft_ex b x / ft_dv 40 (ft_ex b y) (ft_q b - 1) * ft_jt b y) h3.2.2.1
        have q1 := Nat.div_le_self (ft_q b - 1) (ft_dv 40 (ft_ex b y) (ft_q b - 1))
        unfold ft_lg
        omega
      exact br_f (nI_ne0 (by omega) (by omega)) (br_f (nI_ne0 (by omega) (by omega)) (br_f (ft_nm1 (by omega)) (ft_powW hS hy (by omega) (br_t (by rw [ft_lgE b hy (by omega) hx (by omega) e]) H))))
theorem ft_fieldW {post : Int32 → Prop} {b : Bool} {a1 a2 a3 : Nat → Int32} {x y z : Nat} (hS : ft_S b a1 a2) (hx : x < ft_q b) (hy : y < ft_q b) (hz : z < ft_q b) (H : post 1) : wpL_field post (nI (ft_q b), nI (ft_p b), nI (ft_k b), a1, a2, a3) (nI (ft_q b)) (nI x) (nI y) (nI z) := by
  have hq := ft_qb b
  have xy := ft_mul_lt b hx hy
  have yz := ft_mul_lt b hy hz
  have xz := ft_mul_lt b hx hz
  have sm := ft_addb b hy hz
  have K := ft_133 hS hx hy H (a3 := a3)
  unfold wpL_field
  dsimp only
  refine ft_mulW hS hx hy (ft_mulW hS hy hz (ft_mulW hS hx hz (ft_addW hy hz (ft_mulW hS xy hz (ft_mulW hS hx yz (br_t (by rw [ft_assoc b hx hy hz]) (ft_mulW hS hx sm (ft_addW xy xz (br_t (by rw [ft_dist b hx hy hz]) (br_f (nI_pos (by omega)) (br_t (nI_lt xy (by omega)) (ft_powW hS hx (by omega) (br_t (by rw [ft_pq b x hx]) ?_)))))))))))))
  by_cases ex : x = 0
  · subst ex
    exact ft_ord0 (br_t rfl (br_t rfl K))
  · have h0 : 0 < x := by omega
    have h3 := ft_or b x hx h0
    have q1 := Nat.div_le_self (ft_q b - 1) (ft_dv 40 (ft_ex b x) (ft_q b - 1))
    refine ft_ordW hS hx h0 (br_f (nI_ne0 h0 (by omega)) (br_f (nI_nlt (b := 1) h3.2.2.1 (by omega)) ⟨nI_ne0 h3.2.2.1 (by omega), br_t ?_ K⟩))
    rw [ft_qm, pk_rem (by omega) h3.2.2.1 (by omega), h3.2.2.2]
    rfl
end
section
/-! the law's loop -/
theorem ft_useW (b : Bool) {post : Int32 → St1 → Prop} {f0 f1 f2 : Int32} {a1 a2 a3 : Nat → Int32} (H : ∀ a1 a2 a3 : Nat → Int32, ft_S b a1 a2 → post 0 (nI (ft_q b), nI (ft_p b), nI (ft_k b), a1, a2, a3)) : wpX_use post (f0, f1, f2, a1, a2, a3) (nI (ft_q b)) := by
  cases b with
  | false => exact br_t rfl (br_t rfl (br_t rfl (ft_build false H)))
  | true =>
    have h : ¬ nI (ft_q true) = 64 := by decide
    exact br_f h (br_t rfl (br_f h (br_f h (ft_build true H))))
theorem ft_58 {L : Nat} {xs : Nat → Int32} {J : Int32 → Int32 → Int32 → Int32 → Int32 → (Nat → Int32) → (Nat → Int32) → (Nat → Int32) → Prop} {b : Bool} {i kc ks : Nat} {k : Int32} {a1 a2 a3 : Nat → Int32} (hL : L ≤ 260) (hi : i + 4 ≤ L) (hS : ft_S b a1 a2) (H : J (nI (ft_q b)) (nI (i + 4)) (nI (ft_q b)) (nI (ft_p b)) (nI (ft_k b)) a1 a2 a3) : wL_law_58 (fun r => r = 1) L xs J (nI (ft_q b)) (nI i) k kc ks (nI (ft_q b)) (nI (ft_p b)) (nI (ft_k b)) a1 a2 a3 := by
  have hq := ft_qb b
  have q0 : 0 < ft_q b := by omega
  have hz := nI_ne0 q0 (by omega)
  obtain ⟨j1, h1, e1⟩ := pk_andE (xs (nI i + 1).toNatClampNeg) (m := 255) 8 (by decide)
  obtain ⟨j2, h2, e2⟩ := pk_andE (xs (nI i + 2).toNatClampNeg) (m := 255) 8 (by decide)
  obtain ⟨j3, h3, e3⟩ := pk_andE (xs (nI i + 3).toNatClampNeg) (m := 255) 8 (by decide)
  obtain ⟨j4, h4, e4⟩ := pk_andE (k >>> ((8 : Int32) &&& 31)) (m := 1023) 10 (by decide)
  have e5 : 1 + ((k >>> ((8 : Int32) &&& 31)) &&& 1023) = nI (1 + j4) := by
    rw [e4]
    exact nI_add 1 j4
  have m1 := Nat.mod_lt j1 q0
  have m2 := Nat.mod_lt j2 q0
  have m3 := Nat.mod_lt j3 q0
  unfold wL_law_58
  rw [e1, e2, e3, e5, pk_rem (show j1 < 2 ^ 31 by omega) q0 (by omega), pk_rem (show j2 < 2 ^ 31 by omega) q0 (by omega), pk_rem (show j3 < 2 ^ 31 by omega) q0 (by omega)]
  exact ⟨pk_in (i + 1) L (by omega) (nI_1 i), hz, nm_e ⟨pk_in (i + 2) L (by omega) (nI_add i 2), hz, nm_e ⟨pk_in (i + 3) L (by omega) (nI_add i 3), hz, nm_e (ft_fieldW hS m1 m2 m3 (br_f ft_ne1 (ft_fieldW hS m3 m1 m2 (br_f ft_ne1 (br_c (fun _ => ft_LrootsW hS (by omega) (by omega) (br_f ft_ne1 (ft_LtracesW hS m1 (br_f ft_ne1 (nm_r (nI_add i 4) H))))) (fun _ => nm_r (nI_add i 4) H))))))⟩⟩⟩
theorem ft_13 {L : Nat} {xs : Nat → Int32} {kc ks : Nat} (hL : L ≤ 260) : ∀ (n i : Nat) (b : Bool) (a1 a2 a3 : Nat → Int32), L < i + 4 * n + 4 → i ≤ 260 → ft_S b a1 a2 → wL_law_13 (fun r => r = 1) L xs kc ks (n + 1) (nI (ft_q b)) (nI i) (nI (ft_q b)) (nI (ft_p b)) (nI (ft_k b)) a1 a2 a3 := by
  intro n
  induction n with
  | zero =>
    intro i b a1 a2 a3 hn hi hS
    have hq := ft_qb b
    exact pk_lt L (i + 4) (fun _ => ft_LrootsW (n := 3) hS (by omega) (by omega) (br_f ft_ne1 (ft_LtracesW (a := 7) hS (by omega) (br_f ft_ne1 rfl)))) (fun z => absurd z (by omega)) rfl (nI_add i 4)
  | succ n ih =>
    intro i b a1 a2 a3 hn hi hS
    have hq := ft_qb b
    refine pk_lt L (i + 4) (fun _ => ft_LrootsW (n := 3) hS (by omega) (by omega) (br_f ft_ne1 (ft_LtracesW (a := 7) hS (by omega) (br_f ft_ne1 rfl)))) (fun z => ?_) rfl (nI_add i 4)
    refine ⟨pk_in i L (by omega), nm_e (br_c (fun _ => br_c (fun _ => ?_) (fun _ => ?_)) (fun _ => ft_58 hL z hS (ih (i + 4) b a1 a2 a3 (by omega) (by omega) hS)))⟩
    · exact ft_useW false (fun c1 c2 c3 hS' => br_t rfl (ft_58 (b := false) hL z hS' (ih (i + 4) false c1 c2 c3 (by omega) (by omega) hS')))
    · exact ft_useW true (fun c1 c2 c3 hS' => br_t rfl (ft_58 (b := true) hL z hS' (ih (i + 4) true c1 c2 c3 (by omega) (by omega) hS')))
theorem i_vc (xs : Nat → Int32) (L : Nat) (hL : L ≤ 260) : wpL_law (fun r => r = 1) L xs := by
  refine ⟨3, 253, by omega, by omega, ?_⟩
  refine ⟨by omega, by omega, by omega, by omega, by omega, by omega, ?_⟩
  exact ft_build false (fun a1 a2 a3 hS => ⟨66, ft_13 hL 65 0 false a1 a2 a3 (by omega) (by omega) hS⟩)
end
