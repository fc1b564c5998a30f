section
/-! sums over the first n naturals, in Int -/
def fq_sm (F : Nat → Int) : Nat → Int
  | 0 => 0
  | n + 1 => fq_sm F n + F n
theorem fq_s (F : Nat → Int) (n : Nat) : fq_sm F (n + 1) = fq_sm F n + F n := rfl
theorem fq_congr {F G : Nat → Int} {n : Nat} (h : ∀ x, x < n → F x = G x) : fq_sm F n = fq_sm G n := by
  induction n with
  | zero => rfl
  | succ n ih => rw [fq_s, fq_s, ih (fun x hx => h x (by omega)), h n (by omega)]
theorem fq_zero (n : Nat) : fq_sm (fun _ => 0) n = 0 := by
  induction n with
  | zero => rfl
  | succ n ih => rw [fq_s, ih]; rfl
theorem fq_const (c : Int) (n : Nat) : fq_sm (fun _ => c) n = (n : Int) * c := by
  induction n with
  | zero => simp [fq_sm]
  | succ n ih => rw [fq_s, ih]; push_cast; rw [Int.add_mul, Int.one_mul]
theorem fq_add (F G : Nat → Int) (n : Nat) : fq_sm (fun x => F x + G x) n = fq_sm F n + fq_sm G n := by
  induction n with
  | zero => rfl
  | succ n ih => rw [fq_s, fq_s, fq_s, ih]; omega
theorem fq_mul (c : Int) (F : Nat → Int) (n : Nat) : fq_sm (fun x => c * F x) n = c * fq_sm F n := by
  induction n with
  | zero => exact (Int.mul_zero c).symm
  | succ n ih => rw [fq_s, fq_s, ih, Int.mul_add]
theorem fq_mulr (c : Int) (F : Nat → Int) (n : Nat) : fq_sm (fun x => F x * c) n = fq_sm F n * c := by
  induction n with
  | zero => exact (Int.zero_mul c).symm
  | succ n ih => rw [fq_s, fq_s, ih, Int.add_mul]
theorem fq_swap (F : Nat → Nat → Int) (n m : Nat) : fq_sm (fun x => fq_sm (F x) m) n = fq_sm (fun y => fq_sm (fun x => F x y) n) m := by
  induction n with
  | zero => exact (fq_zero m).symm
  | succ n ih =>
    rw [fq_s, ih]
    exact (fq_add (fun y => fq_sm (fun x => F x y) n) (fun y => F n y) m).symm
theorem fq_prod (F G : Nat → Int) (n m : Nat) : fq_sm F n * fq_sm G m = fq_sm (fun x => fq_sm (fun y => F x * G y) m) n := by
  rw [← fq_mulr]
  exact fq_congr (fun x _ => (fq_mul (F x) G m).symm)
theorem fq_split (F : Nat → Int) (n m : Nat) : fq_sm F (n + m) = fq_sm F n + fq_sm (fun x => F (n + x)) m := by
  induction m with
  | zero => exact (Int.add_zero _).symm
  | succ m ih => rw [← Nat.add_assoc, fq_s, fq_s, ih]; omega
theorem fq_null {F : Nat → Int} {n : Nat} (h : ∀ x, x < n → F x = 0) : fq_sm F n = 0 := by
  rw [fq_congr h, fq_zero]
theorem fq_one {F : Nat → Int} {n k : Nat} (hk : k < n) (h : ∀ x, x < n → x ≠ k → F x = 0) : fq_sm F n = F k := by
  induction n with
  | zero => omega
  | succ n ih =>
    rw [fq_s]
    by_cases e : k = n
    · subst e
      rw [fq_null (fun x hx => h x (by omega) (by omega))]; omega
    · rw [ih (by omega) (fun x hx hne => h x (by omega) hne), h n (by omega) (by omega)]; omega
theorem fq_le {F G : Nat → Int} {n : Nat} (h : ∀ x, x < n → F x ≤ G x) : fq_sm F n ≤ fq_sm G n := by
  induction n with
  | zero => exact Int.le_refl _
  | succ n ih =>
    have h1 := ih (fun x hx => h x (by omega))
    have h2 := h n (by omega)
    rw [fq_s, fq_s]; omega
theorem fq_nn {F : Nat → Int} {n : Nat} (h : ∀ x, x < n → 0 ≤ F x) : 0 ≤ fq_sm F n := by
  have := fq_le (F := fun _ => 0) h
  rw [fq_zero] at this
  exact this
theorem fq_z {F : Nat → Int} {n : Nat} (h : ∀ x, x < n → 0 ≤ F x) (hz : fq_sm F n = 0) : ∀ x, x < n → F x = 0 := by
  induction n with
  | zero => intro x hx; omega
  | succ n ih =>
    rw [fq_s] at hz
    have h1 := fq_nn (fun x hx => h x (Nat.lt_succ_of_lt hx))
    have h2 := h n (by omega)
    intro x hx
    by_cases e : x = n
    · subst e; omega
    · exact ih (fun x hx => h x (by omega)) (by omega) x (by omega)
theorem fq_mem {F : Nat → Int} {n : Nat} (h : ∀ x, x < n → 0 ≤ F x) : ∀ x, x < n → F x ≤ fq_sm F n := by
  induction n with
  | zero => intro x hx; omega
  | succ n ih =>
    intro x hx
    rw [fq_s]
    have h1 := fq_nn (fun x hx => h x (Nat.lt_succ_of_lt hx))
    have h2 := h n (by omega)
    by_cases e : x = n
    · subst e; omega
    · have := ih (fun x hx => h x (by omega)) x (by omega)
      omega
theorem fq_odd {F : Nat → Int} {n : Nat} (h : ∀ x, x < n → F x % 2 = 1) : fq_sm F n % 2 = (n : Int) % 2 := by
  induction n with
  | zero => rfl
  | succ n ih =>
    have h1 := ih (fun x hx => h x (by omega))
    have h2 := h n (by omega)
    rw [fq_s]; omega
/-- the same sum, its places moved by v -/
theorem fq_xlt {x v : Nat} (hx : x < 64) (hv : v < 64) : x ^^^ v < 64 := Nat.xor_lt_two_pow (n := 6) hx hv
theorem fq_xx (x v : Nat) : (x ^^^ v) ^^^ v = x := by rw [Nat.xor_assoc, Nat.xor_self, Nat.xor_zero]
theorem fq_move (A : Nat → Int) {v : Nat} (hv : v < 64) : fq_sm (fun x => A (x ^^^ v)) 64 = fq_sm A 64 := by
  have h1 : fq_sm (fun x => A (x ^^^ v)) 64 = fq_sm (fun x => fq_sm (fun y => if y = x ^^^ v then A y else 0) 64) 64 := by
    apply fq_congr
    intro x hx
    rw [fq_one (k := x ^^^ v) (fq_xlt hx hv) (fun y _ hne => if_neg hne), if_pos rfl]
  have h2 : fq_sm A 64 = fq_sm (fun y => fq_sm (fun x => if y = x ^^^ v then A y else 0) 64) 64 := by
    apply fq_congr
    intro y hy
    rw [fq_one (k := y ^^^ v) (fq_xlt hy hv) (fun x _ hne => if_neg (fun e => hne (by rw [e, fq_xx]))), if_pos (fq_xx y v).symm]
  rw [h1, h2]
  exact fq_swap (fun x y => if y = x ^^^ v then A y else 0) 64 64
/-- a sum whose terms come in equal pairs is even -/
theorem fq_pair {F : Nat → Int} {i : Nat} (hi : i < 6) (h : ∀ x, x < 64 → F (x ^^^ 2 ^ i) = F x) : fq_sm F 64 % 2 = 0 := by
  have hv : 2 ^ i < 64 := Nat.pow_lt_pow_right (by decide) hi
  have h1 : fq_sm F 64 = fq_sm (fun x => if x.testBit i then F x else 0) 64 + fq_sm (fun x => if x.testBit i then 0 else F x) 64 := by
    rw [← fq_add]
    apply fq_congr
    intro x _
    cases x.testBit i <;> simp
  have h2 : fq_sm (fun x => if x.testBit i then F x else 0) 64 = fq_sm (fun x => if x.testBit i then 0 else F x) 64 := by
    rw [← fq_move (fun x => if x.testBit i then F x else 0) hv]
    apply fq_congr
    intro x hx
    show (if (x ^^^ 2 ^ i).testBit i then F (x ^^^ 2 ^ i) else 0) = if x.testBit i then 0 else F x
    rw [h x hx, Nat.testBit_xor, Nat.testBit_two_pow_self]
    cases x.testBit i <;> simp
  omega
/-! products over the digits of a number -/
def fq_pr (φ : Nat → Bool → Int) (u : Nat) : Nat → Int
  | 0 => 1
  | i + 1 => fq_pr φ u i * φ i (u.testBit i)
def fq_pp (φ : Nat → Bool → Int) : Nat → Int
  | 0 => 1
  | i + 1 => fq_pp φ i * (φ i false + φ i true)
theorem fq_pr_s (φ : Nat → Bool → Int) (u i : Nat) : fq_pr φ u (i + 1) = fq_pr φ u i * φ i (u.testBit i) := rfl
theorem fq_pr_c {φ ψ : Nat → Bool → Int} {u v i : Nat} (h : ∀ j, j < i → φ j (u.testBit j) = ψ j (v.testBit j)) : fq_pr φ u i = fq_pr ψ v i := by
  induction i with
  | zero => rfl
  | succ i ih => rw [fq_pr_s, fq_pr_s, ih (fun j hj => h j (by omega)), h i (by omega)]
theorem fq_pr_m (φ ψ : Nat → Bool → Int) (u i : Nat) : fq_pr φ u i * fq_pr ψ u i = fq_pr (fun j b => φ j b * ψ j b) u i := by
  induction i with
  | zero => rfl
  | succ i ih =>
    rw [fq_pr_s, fq_pr_s, fq_pr_s, ← ih]
    ac_rfl
theorem fq_bl {z i : Nat} (hz : z < 2 ^ i) : z.testBit i = false := Nat.testBit_lt_two_pow hz
theorem fq_bh {z i : Nat} (hz : z < 2 ^ i) : (2 ^ i + z).testBit i = true := by
  rw [Nat.testBit_two_pow_add_eq, fq_bl hz]; rfl
theorem fq_pr_hi (φ : Nat → Bool → Int) (z i : Nat) : fq_pr φ (2 ^ i + z) i = fq_pr φ z i :=
  fq_pr_c (fun j hj => by rw [Nat.testBit_two_pow_add_gt hj])
/-- the sum of the products is the product of the sums -/
theorem fq_prs (φ : Nat → Bool → Int) (i : Nat) : fq_sm (fun u => fq_pr φ u i) (2 ^ i) = fq_pp φ i := by
  induction i with
  | zero => rfl
  | succ i ih =>
    rw [Nat.pow_succ, Nat.mul_two, fq_split]
    have h1 : fq_sm (fun u => fq_pr φ u (i + 1)) (2 ^ i) = fq_pp φ i * φ i false := by
      rw [← ih, ← fq_mulr]
      exact fq_congr (fun u hu => by rw [fq_pr_s, fq_bl hu])
    have h2 : fq_sm (fun u => fq_pr φ (2 ^ i + u) (i + 1)) (2 ^ i) = fq_pp φ i * φ i true := by
      rw [← ih, ← fq_mulr]
      exact fq_congr (fun u hu => by rw [fq_pr_s, fq_bh hu, fq_pr_hi])
    rw [h1, h2]
    show _ = fq_pp φ i * (φ i false + φ i true)
    rw [Int.mul_add]
/-! transforms by stages: stage i mixes the two places that differ in digit i -/
def fq_c0 (i y : Nat) : Nat := 2 ^ (i + 1) * (y / 2 ^ (i + 1)) + y % 2 ^ i
def fq_c1 (i y : Nat) : Nat := 2 ^ (i + 1) * (y / 2 ^ (i + 1)) + (2 ^ i + y % 2 ^ i)
def fq_st (k : Bool → Bool → Int) (S : Nat → Int) (i : Nat) : Nat → Int := fun y => k (y.testBit i) false * S (fq_c0 i y) + k (y.testBit i) true * S (fq_c1 i y)
def fq_tr (k : Bool → Bool → Int) (S : Nat → Int) : Nat → Nat → Int
  | 0 => S
  | i + 1 => fq_st k (fq_tr k S i) i
def fq_kk (k : Bool → Bool → Int) (y z i : Nat) : Int := fq_pr (fun j c => k (y.testBit j) c) z i
theorem fq_c0_lo (i y j : Nat) (hj : j < i) : (fq_c0 i y).testBit j = y.testBit j := by
  have e : fq_c0 i y = 2 ^ i * (2 * (y / 2 ^ (i + 1))) + y % 2 ^ i := by
    unfold fq_c0; rw [Nat.pow_succ, Nat.mul_assoc]
  rw [e, Nat.testBit_two_pow_mul_add _ (Nat.mod_lt _ (Nat.two_pow_pos i)), if_pos hj, Nat.testBit_mod_two_pow]
  simp [hj]
theorem fq_c1_lo (i y j : Nat) (hj : j < i) : (fq_c1 i y).testBit j = y.testBit j := by
  have e : fq_c1 i y = 2 ^ i * (2 * (y / 2 ^ (i + 1)) + 1) + y % 2 ^ i := by
    unfold fq_c1; rw [Nat.pow_succ, Nat.mul_add, Nat.mul_assoc, Nat.mul_one, Nat.add_assoc]
  rw [e, Nat.testBit_two_pow_mul_add _ (Nat.mod_lt _ (Nat.two_pow_pos i)), if_pos hj, Nat.testBit_mod_two_pow]
  simp [hj]
theorem fq_c0_hi (i y : Nat) : fq_c0 i y / 2 ^ i * 2 ^ i = y / 2 ^ (i + 1) * 2 ^ (i + 1) := by
  have e : fq_c0 i y = y % 2 ^ i + 2 ^ i * (2 * (y / 2 ^ (i + 1))) := by
    unfold fq_c0; rw [Nat.pow_succ, Nat.mul_assoc, Nat.add_comm]
  rw [e, Nat.add_mul_div_left _ _ (Nat.two_pow_pos i), Nat.div_eq_of_lt (Nat.mod_lt _ (Nat.two_pow_pos i)), Nat.zero_add, Nat.pow_succ]
  ac_rfl
theorem fq_c1_hi (i y : Nat) : fq_c1 i y / 2 ^ i * 2 ^ i = y / 2 ^ (i + 1) * 2 ^ (i + 1) + 2 ^ i := by
  have e : fq_c1 i y = y % 2 ^ i + 2 ^ i * (2 * (y / 2 ^ (i + 1)) + 1) := by
    unfold fq_c1; rw [Nat.pow_succ, Nat.mul_add, Nat.mul_assoc, Nat.mul_one]; omega
  rw [e, Nat.add_mul_div_left _ _ (Nat.two_pow_pos i), Nat.div_eq_of_lt (Nat.mod_lt _ (Nat.two_pow_pos i)), Nat.zero_add, Nat.add_mul, Nat.one_mul, Nat.pow_succ]
  congr 1
  ac_rfl
theorem fq_tr_sum (k : Bool → Bool → Int) (S : Nat → Int) (i : Nat) : ∀ y, fq_tr k S i y = fq_sm (fun z => fq_kk k y z i * S (y / 2 ^ i * 2 ^ i + z)) (2 ^ i) := by
  induction i with
  | zero =>
    intro y
    show S y = 0 + 1 * S (y / 1 * 1 + 0)
    rw [Nat.div_one, Nat.mul_one, Nat.add_zero]; omega
  | succ i ih =>
    intro y
    show k (y.testBit i) false * fq_tr k S i (fq_c0 i y) + k (y.testBit i) true * fq_tr k S i (fq_c1 i y) = _
    rw [ih, ih, fq_c0_hi, fq_c1_hi]
    have e0 : ∀ z, fq_kk k (fq_c0 i y) z i = fq_kk k y z i := fun z => fq_pr_c (fun j hj => by rw [fq_c0_lo i y j hj])
    have e1 : ∀ z, fq_kk k (fq_c1 i y) z i = fq_kk k y z i := fun z => fq_pr_c (fun j hj => by rw [fq_c1_lo i y j hj])
    rw [show (2 : Nat) ^ (i + 1) = 2 ^ i + 2 ^ i by rw [Nat.pow_succ, Nat.mul_two], fq_split, ← fq_mul, ← fq_mul]
    congr 1
    · apply fq_congr
      intro z hz
      rw [e0]
      show _ = fq_pr (fun j c => k (y.testBit j) c) z (i + 1) * _
      rw [fq_pr_s, fq_bl hz]
      show _ * (fq_kk k y z i * _) = fq_kk k y z i * _ * _
      ac_rfl
    · apply fq_congr
      intro z hz
      rw [e1]
      show _ = fq_pr (fun j c => k (y.testBit j) c) (2 ^ i + z) (i + 1) * _
      rw [fq_pr_s, fq_bh hz, fq_pr_hi, Nat.add_assoc]
      show _ * (fq_kk k y z i * _) = fq_kk k y z i * _ * _
      ac_rfl
theorem fq_tr6 (k : Bool → Bool → Int) (S : Nat → Int) {y : Nat} (hy : y < 64) : fq_tr k S 6 y = fq_sm (fun z => fq_kk k y z 6 * S z) 64 := by
  rw [fq_tr_sum]
  apply fq_congr
  intro z _
  rw [show y / 2 ^ 6 = 0 from Nat.div_eq_of_lt hy, Nat.zero_mul, Nat.zero_add]
end
section
/-! the two kernels: signs (spectra) and subsets (forms) -/
def fq_kh (b c : Bool) : Int := if b && c then -1 else 1
def fq_km (b c : Bool) : Int := if c && !b then 0 else 1
def fq_ch (a x : Nat) : Int := fq_kk fq_kh a x 6
def fq_mo (u x : Nat) : Int := fq_kk fq_km u x 6
theorem fq_kh_x : ∀ b c d : Bool, fq_kh b c * fq_kh b d = fq_kh b (c ^^ d) := by decide
theorem fq_kh_s : ∀ b c : Bool, fq_kh b c = fq_kh c b := by decide
theorem fq_kk_x (a x y i : Nat) : fq_kk fq_kh a x i * fq_kk fq_kh a y i = fq_kk fq_kh a (x ^^^ y) i := by
  induction i with
  | zero => rfl
  | succ i ih =>
    have h : fq_kk fq_kh a (x ^^^ y) (i + 1) = fq_kk fq_kh a (x ^^^ y) i * fq_kh (a.testBit i) ((x ^^^ y).testBit i) := rfl
    rw [h, ← ih, Nat.testBit_xor, ← fq_kh_x]
    show (fq_kk fq_kh a x i * fq_kh (a.testBit i) (x.testBit i)) * (fq_kk fq_kh a y i * fq_kh (a.testBit i) (y.testBit i)) = _
    ac_rfl
theorem fq_ch_x (a x y : Nat) : fq_ch a x * fq_ch a y = fq_ch a (x ^^^ y) := fq_kk_x a x y 6
theorem fq_kk_s (a x i : Nat) : fq_kk fq_kh a x i = fq_kk fq_kh x a i := by
  induction i with
  | zero => rfl
  | succ i ih =>
    show fq_kk fq_kh a x i * fq_kh (a.testBit i) (x.testBit i) = fq_kk fq_kh x a i * fq_kh (x.testBit i) (a.testBit i)
    rw [ih, fq_kh_s]
theorem fq_ch_s (a x : Nat) : fq_ch a x = fq_ch x a := fq_kk_s a x 6
theorem fq_orth : ∀ v, v < 64 → fq_sm (fun a => fq_ch a v) 64 = if v = 0 then 64 else 0 := by decide +kernel
theorem fq_ch_0 : ∀ x, x < 64 → fq_ch 0 x = 1 := by decide +kernel
theorem fq_ch_v : ∀ a, a < 64 → ∀ x, x < 64 → fq_ch a x = 1 ∨ fq_ch a x = -1 := by decide +kernel
/-- the spectrum of any numbers -/
def fq_wt (s : Nat → Int) (a : Nat) : Int := fq_sm (fun x => fq_ch a x * s x) 64
theorem fq_xe {u x y : Nat} : u ^^^ x ^^^ y = 0 ↔ y = x ^^^ u := by
  constructor
  · intro h
    have h2 : (u ^^^ x ^^^ y) ^^^ (u ^^^ x) = u ^^^ x := by rw [h, Nat.zero_xor]
    rw [Nat.xor_comm (u ^^^ x) y, fq_xx] at h2
    rw [h2, Nat.xor_comm]
  · intro h
    rw [h, Nat.xor_comm u x, Nat.xor_self]
/-- Wiener and Khinchin -/
theorem fq_wk (s : Nat → Int) {u : Nat} (hu : u < 64) : fq_sm (fun a => fq_ch u a * (fq_wt s a * fq_wt s a)) 64 = 64 * fq_sm (fun x => s x * s (x ^^^ u)) 64 := by
  have hA : ∀ a, fq_ch u a * (fq_wt s a * fq_wt s a) = fq_sm (fun x => fq_sm (fun y => (s x * s y) * fq_ch a (u ^^^ x ^^^ y)) 64) 64 := by
    intro a
    unfold fq_wt
    rw [fq_prod, ← fq_mul]
    apply fq_congr
    intro x _
    rw [← fq_mul]
    apply fq_congr
    intro y _
    rw [← fq_ch_x, ← fq_ch_x, fq_ch_s u a]
    ac_rfl
  have hB : fq_sm (fun a => fq_ch u a * (fq_wt s a * fq_wt s a)) 64 = fq_sm (fun a => fq_sm (fun x => fq_sm (fun y => (s x * s y) * fq_ch a (u ^^^ x ^^^ y)) 64) 64) 64 := fq_congr (fun a _ => hA a)
  rw [hB, fq_swap (fun a x => fq_sm (fun y => (s x * s y) * fq_ch a (u ^^^ x ^^^ y)) 64), ← fq_mul]
  apply fq_congr
  intro x hx
  show fq_sm (fun a => fq_sm (fun y => (s x * s y) * fq_ch a (u ^^^ x ^^^ y)) 64) 64 = 64 * (s x * s (x ^^^ u))
  rw [fq_swap (fun a y => (s x * s y) * fq_ch a (u ^^^ x ^^^ y))]
  have hC : ∀ y, y < 64 → fq_sm (fun a => (s x * s y) * fq_ch a (u ^^^ x ^^^ y)) 64 = if y = x ^^^ u then 64 * (s x * s (x ^^^ u)) else 0 := by
    intro y hy
    rw [fq_mul, fq_orth _ (fq_xlt (fq_xlt hu hx) hy)]
    by_cases e : y = x ^^^ u
    · rw [if_pos (fq_xe.mpr e), if_pos e, e, Int.mul_comm]
    · rw [if_neg (fun h => e (fq_xe.mp h)), if_neg e, Int.mul_zero]
  rw [fq_congr hC, fq_one (k := x ^^^ u) (fq_xlt hx hu) (fun y _ hne => if_neg hne), if_pos rfl]
/-! the table f: its signs, its ones, spectrum, correlations, form -/
def fq_sg (f : Nat → Bool) (x : Nat) : Int := if f x then -1 else 1
def fq_fi (f : Nat → Bool) (x : Nat) : Int := if f x then 1 else 0
def fq_O (f : Nat → Bool) : Int := fq_sm (fq_fi f) 64
def fq_W (f : Nat → Bool) (a : Nat) : Int := fq_wt (fq_sg f) a
def fq_R (f : Nat → Bool) (a : Nat) : Int := fq_sm (fun x => fq_sg f x * fq_sg f (x ^^^ a)) 64
def fq_CI (f : Nat → Bool) (u : Nat) : Int := fq_sm (fun x => fq_mo u x * fq_fi f x) 64
def fq_C (f : Nat → Bool) (u : Nat) : Bool := decide (fq_CI f u % 2 = 1)
theorem fq_sg_v (f : Nat → Bool) (x : Nat) : fq_sg f x = 1 ∨ fq_sg f x = -1 := by
  unfold fq_sg; cases f x <;> simp
theorem fq_sg_fi (f : Nat → Bool) (x : Nat) : fq_sg f x = 1 + (-2) * fq_fi f x := by
  unfold fq_sg fq_fi; cases f x <;> rfl
theorem fq_pm {p q : Int} (hp : p = 1 ∨ p = -1) (hq : q = 1 ∨ q = -1) : p * q = 1 ∨ p * q = -1 := by
  rcases hp with rfl | rfl <;> rcases hq with rfl | rfl <;> decide
theorem fq_pm_b {F : Nat → Int} {n : Nat} (h : ∀ x, x < n → F x = 1 ∨ F x = -1) : fq_sm F n ≤ n ∧ -(n : Int) ≤ fq_sm F n := by
  induction n with
  | zero => exact ⟨Int.le_refl _, Int.le_refl _⟩
  | succ n ih =>
    have h1 := ih (fun x hx => h x (by omega))
    have h2 := h n (by omega)
    rw [fq_s]
    rcases h2 with h2 | h2 <;> omega
theorem fq_W_b (f : Nat → Bool) {a : Nat} (ha : a < 64) : fq_W f a ≤ 64 ∧ -64 ≤ fq_W f a :=
  fq_pm_b (F := fun x => fq_ch a x * fq_sg f x) (n := 64) (fun x hx => fq_pm (fq_ch_v a ha x hx) (fq_sg_v f x))
theorem fq_W_e (f : Nat → Bool) {a : Nat} (ha : a < 64) : fq_W f a % 2 = 0 :=
  fq_odd (F := fun x => fq_ch a x * fq_sg f x) (n := 64) (fun x hx => by rcases fq_pm (fq_ch_v a ha x hx) (fq_sg_v f x) with h | h <;> (show fq_ch a x * fq_sg f x % 2 = 1; rw [h]; rfl))
theorem fq_R_b (f : Nat → Bool) (a : Nat) : fq_R f a ≤ 64 ∧ -64 ≤ fq_R f a :=
  fq_pm_b (F := fun x => fq_sg f x * fq_sg f (x ^^^ a)) (n := 64) (fun x _ => fq_pm (fq_sg_v f x) (fq_sg_v f (x ^^^ a)))
theorem fq_sq (f : Nat → Bool) (x : Nat) : fq_sg f x * fq_sg f x = 1 := by
  unfold fq_sg; cases f x <;> rfl
theorem fq_parseval (f : Nat → Bool) : fq_sm (fun a => fq_W f a * fq_W f a) 64 = 4096 := by
  have h := fq_wk (fq_sg f) (u := 0) (by decide)
  have h1 : fq_sm (fun a => fq_ch 0 a * (fq_wt (fq_sg f) a * fq_wt (fq_sg f) a)) 64 = fq_sm (fun a => fq_W f a * fq_W f a) 64 := by
    apply fq_congr
    intro a ha
    rw [fq_ch_0 a ha, Int.one_mul]; rfl
  have h2 : fq_sm (fun x => fq_sg f x * fq_sg f (x ^^^ 0)) 64 = 64 := by
    rw [fq_congr (G := fun _ => 1) (fun x _ => by rw [Nat.xor_zero, fq_sq]), fq_const]; rfl
  rw [← h1, h, h2]; rfl
theorem fq_W0 (f : Nat → Bool) : fq_W f 0 = 64 - 2 * fq_O f := by
  have h : fq_W f 0 = fq_sm (fun x => 1 + (-2) * fq_fi f x) 64 := fq_congr (fun x hx => by rw [fq_ch_0 x hx, Int.one_mul, fq_sg_fi])
  rw [h, fq_add (fun _ => 1) (fun x => (-2) * fq_fi f x), fq_const, fq_mul]
  show (64 : Int) * 1 + (-2) * fq_O f = _
  omega
theorem fq_fi_v (f : Nat → Bool) (x : Nat) : 0 ≤ fq_fi f x ∧ fq_fi f x ≤ 1 := by
  unfold fq_fi; cases f x <;> decide
theorem fq_O_b (f : Nat → Bool) : 0 ≤ fq_O f ∧ fq_O f ≤ 64 := by
  refine ⟨fq_nn (fun x _ => (fq_fi_v f x).1), ?_⟩
  have h := fq_le (F := fq_fi f) (G := fun _ => 1) (n := 64) (fun x _ => (fq_fi_v f x).2)
  rw [fq_const] at h
  exact h
/-- constant tables -/
def fq_con (f : Nat → Bool) : Prop := fq_O f = 0 ∨ fq_O f = 64
theorem fq_con_of {f : Nat → Bool} (h : ∀ x, x < 64 → f x = f 0) : fq_con f := by
  unfold fq_con fq_O
  rw [fq_congr (G := fun _ => fq_fi f 0) (fun x hx => by unfold fq_fi; rw [h x hx]), fq_const]
  unfold fq_fi
  cases f 0
  · left; rfl
  · right; rfl
theorem fq_con_to {f : Nat → Bool} (h : fq_con f) : ∀ x, x < 64 → f x = f 0 := by
  rcases h with h | h
  · have h1 := fq_z (fun x _ => (fq_fi_v f x).1) h
    have h2 : ∀ x, x < 64 → f x = false := by
      intro x hx
      have := h1 x hx
      unfold fq_fi at this
      cases e : f x
      · rfl
      · rw [e] at this; exact absurd this (by decide)
    intro x hx
    rw [h2 x hx, h2 0 (by decide)]
  · have h0 : fq_sm (fun x => 1 + (-1) * fq_fi f x) 64 = 0 := by
      rw [fq_add (fun _ => 1) (fun x => (-1) * fq_fi f x), fq_const, fq_mul]
      show (64 : Int) * 1 + (-1) * fq_O f = 0
      omega
    have h1 := fq_z (fun x _ => by have := (fq_fi_v f x).2; omega) h0
    have h2 : ∀ x, x < 64 → f x = true := by
      intro x hx
      have := h1 x hx
      unfold fq_fi at this
      cases e : f x
      · rw [e] at this; exact absurd this (by decide)
      · rfl
    intro x hx
    rw [h2 x hx, h2 0 (by decide)]
/-- the spectrum of a constant table, and what such a spectrum says -/
theorem fq_sqn (z : Int) : 0 ≤ z * z := by
  rcases Int.le_total 0 z with h | h
  · exact Int.mul_nonneg h h
  · exact Int.mul_nonneg_of_nonpos_of_nonpos h h
theorem fq_imm {f : Nat → Bool} : fq_con f ↔ ∀ a, 1 ≤ a → a < 64 → fq_W f a = 0 := by
  have hp := fq_parseval f
  have h0 := fq_W0 f
  have hs : fq_sm (fun a => fq_W f a * fq_W f a) (1 + 63) = _ := fq_split (fun a => fq_W f a * fq_W f a) 1 63
  have hs' : fq_sm (fun a => fq_W f a * fq_W f a) 64 = fq_W f 0 * fq_W f 0 + fq_sm (fun x => fq_W f (1 + x) * fq_W f (1 + x)) 63 := by
    rw [show (64 : Nat) = 1 + 63 from rfl, hs]
    show 0 + fq_W f 0 * fq_W f 0 + _ = _
    omega
  rw [hp] at hs'
  constructor
  · intro h a h1 h2
    have e : fq_W f 0 * fq_W f 0 = 4096 := by
      rcases h with h | h
      · rw [h0, h]; rfl
      · rw [h0, h]; rfl
    have ez : fq_sm (fun x => fq_W f (1 + x) * fq_W f (1 + x)) 63 = 0 := by omega
    have := fq_z (F := fun x => fq_W f (1 + x) * fq_W f (1 + x)) (fun x _ => fq_sqn _) ez (a - 1) (by omega)
    have e2 : 1 + (a - 1) = a := by omega
    have this : fq_W f (1 + (a - 1)) * fq_W f (1 + (a - 1)) = 0 := this
    rw [e2] at this
    rcases Int.mul_eq_zero.mp this with z | z <;> exact z
  · intro h
    have ez : fq_sm (fun x => fq_W f (1 + x) * fq_W f (1 + x)) 63 = 0 := fq_null (fun x hx => by
      show fq_W f (1 + x) * fq_W f (1 + x) = 0
      rw [h (1 + x) (by omega) (by omega)]; rfl)
    have hb := fq_O_b f
    rw [ez, h0] at hs'
    unfold fq_con
    generalize fq_O f = o at *
    have h3 : (64 - 2 * o) * (64 - 2 * o) = 4096 - 4 * (o * (64 - o)) := by grind
    have h4 : o * (64 - o) = 0 := by omega
    rcases Int.mul_eq_zero.mp h4 with z | z
    · left; exact z
    · right; omega
/-- some value of the spectrum has size 8 at least -/
theorem fq_max {f : Nat → Bool} {m : Int} (hm : 0 ≤ m) (h : ∀ a, a < 64 → fq_W f a ≤ m ∧ -m ≤ fq_W f a) : 8 ≤ m := by
  have hp := fq_parseval f
  have hle : fq_sm (fun a => fq_W f a * fq_W f a) 64 ≤ fq_sm (fun _ => m * m) 64 := by
    apply fq_le
    intro a ha
    have ⟨h1, h2⟩ := h a ha
    have h3 : 0 ≤ (m - fq_W f a) * (m + fq_W f a) := Int.mul_nonneg (by omega) (by omega)
    have h4 : (m - fq_W f a) * (m + fq_W f a) = m * m - fq_W f a * fq_W f a := by grind
    show fq_W f a * fq_W f a ≤ m * m
    omega
  rw [hp, fq_const] at hle
  have h5 : 64 ≤ m * m := by
    have : (4096 : Int) ≤ 64 * (m * m) := hle
    omega
  rcases (show m < 8 ∨ 8 ≤ m by omega) with z | z
  · have h6 : m * m ≤ 7 * 7 := Int.mul_le_mul (by omega) (by omega) hm (by decide)
    omega
  · exact z
end
section
/-! counting -/
def fq_ct (P : Nat → Bool) : Nat → Nat
  | 0 => 0
  | n + 1 => fq_ct P n + (if P n then 1 else 0)
theorem fq_ct_s (P : Nat → Bool) (n : Nat) : fq_ct P (n + 1) = fq_ct P n + (if P n then 1 else 0) := rfl
theorem fq_ct_le (P : Nat → Bool) (n : Nat) : fq_ct P n ≤ n := by
  induction n with
  | zero => exact Nat.le_refl _
  | succ n ih =>
    rw [fq_ct_s]
    have : (if P n then 1 else 0) ≤ 1 := by cases P n <;> decide
    omega
theorem fq_ct_mono {P Q : Nat → Bool} {n : Nat} (h : ∀ x, x < n → P x = true → Q x = true) : fq_ct P n ≤ fq_ct Q n := by
  induction n with
  | zero => exact Nat.le_refl _
  | succ n ih =>
    rw [fq_ct_s, fq_ct_s]
    have h1 := ih (fun x hx => h x (by omega))
    have h2 : (if P n then 1 else 0) ≤ (if Q n then 1 else 0) := by
      cases e : P n
      · simp
      · rw [h n (by omega) e]; decide
    omega
theorem fq_ct_all {P : Nat → Bool} {n : Nat} (h : ∀ x, x < n → P x = true) : fq_ct P n = n := by
  induction n with
  | zero => rfl
  | succ n ih => rw [fq_ct_s, ih (fun x hx => h x (by omega)), h n (by omega)]; rfl
/-- the number of digits 1 of a number below 64 -/
def fq_pc (x : Nat) : Nat := fq_ct (fun i => x.testBit i) 6
theorem fq_pc_le (x : Nat) : fq_pc x ≤ 6 := fq_ct_le _ 6
theorem fq_pc_pos : ∀ x, x < 64 → 1 ≤ x → 1 ≤ fq_pc x := by decide +kernel
theorem fq_pc_0 : fq_pc 0 = 0 := by decide
theorem fq_pc_mono {u v : Nat} (h : ∀ i, i < 6 → u.testBit i = true → v.testBit i = true) : fq_pc u ≤ fq_pc v := fq_ct_mono h
theorem fq_pc_two : ∀ u, u < 64 → fq_pc u ≤ 1 → u = 0 ∨ u = 1 ∨ u = 2 ∨ u = 4 ∨ u = 8 ∨ u = 16 ∨ u = 32 := by decide +kernel
theorem fq_pc_ch : ∀ a, a < 64 → ∀ x, x < 64 → fq_ch a x = if fq_pc (a &&& x) % 2 = 1 then -1 else 1 := by decide +kernel
theorem fq_free : ∀ v, v < 64 → fq_ct (fun a => decide (a &&& v = 0)) 64 = 2 ^ (6 - fq_pc v) := by decide +kernel
/-! tables that don't change under single digits -/
theorem fq_mod_s (a k : Nat) : a % 2 ^ (k + 1) = (a % 2 ^ k) ^^^ (if a.testBit k then 2 ^ k else 0) := by
  apply Nat.eq_of_testBit_eq
  intro i
  rw [Nat.testBit_xor, Nat.testBit_mod_two_pow, Nat.testBit_mod_two_pow]
  by_cases e : i = k
  · subst e
    cases h : a.testBit i
    · simp
    · rw [if_pos rfl, Nat.testBit_two_pow_self]; simp
  · have e2 : (if a.testBit k then 2 ^ k else 0).testBit i = false := by
      cases a.testBit k
      · simp
      · rw [if_pos rfl, Nat.testBit_two_pow]; simp; omega
    rw [e2]
    by_cases h : i < k
    · simp [h, show i < k + 1 by omega]
    · simp [h, show ¬ i < k + 1 by omega]
theorem fq_inv {f : Nat → Bool} {v a : Nat} (h : ∀ i, i < 6 → v.testBit i = false → ∀ x, x < 64 → f (x ^^^ 2 ^ i) = f x) (ha : a < 64) (hav : a &&& v = 0) : ∀ x, x < 64 → f (x ^^^ a) = f x := by
  have key : ∀ k, k ≤ 6 → ∀ x, x < 64 → f (x ^^^ a % 2 ^ k) = f x := by
    intro k
    induction k with
    | zero => intro _ x _; rw [Nat.pow_zero, Nat.mod_one, Nat.xor_zero]
    | succ k ih =>
      intro hk x hx
      rw [fq_mod_s]
      cases e : a.testBit k
      · rw [if_neg (by decide), Nat.xor_zero]
        exact ih (by omega) x hx
      · rw [if_pos rfl, ← Nat.xor_assoc]
        have hb : v.testBit k = false := by
          have := congrArg (fun z => z.testBit k) hav
          simp only [Nat.testBit_and, Nat.zero_testBit, e, Bool.true_and] at this
          exact this
        have hm : a % 2 ^ k < 64 := Nat.lt_of_le_of_lt (Nat.mod_le _ _) ha
        rw [h k (by omega) hb (x ^^^ a % 2 ^ k) (fq_xlt hx hm)]
        exact ih (by omega) x hx
  intro x hx
  have := key 6 (by omega) x hx
  rw [Nat.mod_eq_of_lt (show a < 2 ^ 6 from ha)] at this
  exact this
/-- correlations of size 64 -/
theorem fq_R_eq {f : Nat → Bool} {a : Nat} (h : ∀ x, x < 64 → f (x ^^^ a) = f x) : fq_R f a = 64 := by
  unfold fq_R
  rw [fq_congr (G := fun _ => 1) (fun x hx => by
    show fq_sg f x * fq_sg f (x ^^^ a) = 1
    unfold fq_sg; rw [h x hx]; cases f x <;> rfl), fq_const]
  rfl
theorem fq_R_ne {f : Nat → Bool} {a : Nat} (h : ∀ x, x < 64 → f (x ^^^ a) = !f x) : fq_R f a = -64 := by
  unfold fq_R
  rw [fq_congr (G := fun _ => -1) (fun x hx => by
    show fq_sg f x * fq_sg f (x ^^^ a) = -1
    unfold fq_sg; rw [h x hx]; cases f x <;> rfl), fq_const]
  rfl
/-! forms -/
theorem fq_km_n : ∀ b d : Bool, fq_km b false * fq_km false d + fq_km b true * fq_km true d = if b then (if d then 1 else 2) else (if d then 0 else 1) := by decide
def fq_nn2 (b d : Bool) : Int := if b then (if d then 1 else 2) else (if d then 0 else 1)
theorem fq_mm (x y : Nat) : fq_sm (fun u => fq_mo x u * fq_mo u y) 64 = fq_pp (fun j c => fq_km (x.testBit j) c * fq_km c (y.testBit j)) 6 := by
  rw [← fq_prs]
  apply fq_congr
  intro u _
  rw [← fq_pr_m]
  congr 1
theorem fq_pp_c {φ ψ : Nat → Bool → Int} {i : Nat} (h : ∀ j, φ j false + φ j true = ψ j false + ψ j true) : fq_pp φ i = fq_pp ψ i := by
  induction i with
  | zero => rfl
  | succ i ih =>
    show fq_pp φ i * _ = fq_pp ψ i * _
    rw [ih, h]
theorem fq_mm2 : ∀ x, x < 64 → ∀ y, y < 64 → fq_pp (fun j c => fq_km (x.testBit j) c * fq_km c (y.testBit j)) 6 % 2 = if x = y then 1 else 0 := by decide +kernel
theorem fq_par {F G : Nat → Int} {n : Nat} (h : ∀ x, x < n → F x % 2 = G x % 2) : fq_sm F n % 2 = fq_sm G n % 2 := by
  induction n with
  | zero => rfl
  | succ n ih =>
    have h1 := ih (fun x hx => h x (by omega))
    have h2 := h n (by omega)
    rw [fq_s, fq_s]; omega
theorem fq_fi_p (f : Nat → Bool) (x : Nat) : f x = decide (fq_fi f x % 2 = 1) := by
  unfold fq_fi; cases f x <;> rfl
theorem fq_C_fi (f : Nat → Bool) (u : Nat) : fq_fi (fq_C f) u % 2 = fq_CI f u % 2 := by
  unfold fq_fi fq_C
  have : fq_CI f u % 2 = 0 ∨ fq_CI f u % 2 = 1 := by omega
  rcases this with h | h <;> rw [h] <;> rfl
theorem fq_mul_p {a b c : Int} (h : b % 2 = c % 2) : a * b % 2 = a * c % 2 := by
  rw [Int.mul_emod, h, ← Int.mul_emod]
/-- the form of the form is the table -/
theorem fq_mobius (f : Nat → Bool) {x : Nat} (hx : x < 64) : fq_C (fq_C f) x = f x := by
  have h1 : fq_CI (fq_C f) x % 2 = fq_sm (fun u => fq_mo x u * fq_CI f u) 64 % 2 := fq_par (fun u _ => fq_mul_p (fq_C_fi f u))
  have h2 : fq_sm (fun u => fq_mo x u * fq_CI f u) 64 = fq_sm (fun y => fq_fi f y * fq_pp (fun j c => fq_km (x.testBit j) c * fq_km c (y.testBit j)) 6) 64 := by
    have h3 : fq_sm (fun u => fq_mo x u * fq_CI f u) 64 = fq_sm (fun u => fq_sm (fun y => fq_fi f y * (fq_mo x u * fq_mo u y)) 64) 64 := by
      apply fq_congr
      intro u _
      unfold fq_CI
      rw [← fq_mul]
      apply fq_congr
      intro y _
      ac_rfl
    rw [h3, fq_swap (fun u y => fq_fi f y * (fq_mo x u * fq_mo u y))]
    apply fq_congr
    intro y _
    show fq_sm (fun u => fq_fi f y * (fq_mo x u * fq_mo u y)) 64 = _
    rw [fq_mul, fq_mm]
  have h4 : fq_sm (fun y => fq_fi f y * fq_pp (fun j c => fq_km (x.testBit j) c * fq_km c (y.testBit j)) 6) 64 % 2 = fq_sm (fun y => if y = x then fq_fi f x else 0) 64 % 2 := by
    apply fq_par
    intro y hy
    show fq_fi f y * fq_pp (fun j c => fq_km (x.testBit j) c * fq_km c (y.testBit j)) 6 % 2 = (if y = x then fq_fi f x else 0) % 2
    have h5 := fq_mm2 x hx y hy
    by_cases e : y = x
    · subst e
      rw [if_pos rfl] at h5 ⊢
      rw [fq_mul_p (c := 1) h5, Int.mul_one]
    · rw [if_neg (fun z => e z.symm)] at h5
      rw [if_neg e, fq_mul_p (c := 0) h5, Int.mul_zero]
  rw [fq_one (k := x) hx (fun y _ hne => if_neg hne), if_pos rfl] at h4
  show decide (fq_CI (fq_C f) x % 2 = 1) = f x
  rw [h1, h2, h4, ← fq_fi_p]
/-- a form of degree 0, a form of degree 1 -/
theorem fq_mo_v : ∀ u, u < 64 → ∀ x, x < 64 → fq_mo u x = if x &&& (63 ^^^ u) = 0 then 1 else 0 := by decide +kernel
theorem fq_deg0 {f : Nat → Bool} (h : ∀ u, u < 64 → 1 ≤ u → fq_C f u = false) : fq_con f := by
  apply fq_con_of
  have key : ∀ x, x < 64 → f x = decide (fq_fi (fq_C f) 0 % 2 = 1) := by
    intro x hx
    rw [← fq_mobius f hx]
    have e : fq_CI (fq_C f) x = fq_mo x 0 * fq_fi (fq_C f) 0 := fq_one (F := fun u => fq_mo x u * fq_fi (fq_C f) u) (k := 0) (by decide) (fun u hu hne => by
      show fq_mo x u * fq_fi (fq_C f) u = 0
      have : fq_fi (fq_C f) u = 0 := by unfold fq_fi; rw [h u hu (by omega)]; rfl
      rw [this, Int.mul_zero])
    have e2 : fq_mo x 0 = 1 := by rw [fq_mo_v x hx 0 (by decide), Nat.zero_and]; rfl
    show decide (fq_CI (fq_C f) x % 2 = 1) = _
    rw [e, e2, Int.one_mul]
  intro x hx
  rw [key x hx, key 0 (by decide)]
/-- seven places hold all: the sum of 64 terms -/
theorem fq_seven {F : Nat → Int} (h : ∀ u, u < 64 → 2 ≤ fq_pc u → F u = 0) : fq_sm F 64 = F 0 + F 1 + F 2 + F 4 + F 8 + F 16 + F 32 := by
  have h1 : fq_sm F 64 = fq_sm (fun u => (if u = 0 then F 0 else 0) + ((if u = 1 then F 1 else 0) + ((if u = 2 then F 2 else 0) + ((if u = 4 then F 4 else 0) + ((if u = 8 then F 8 else 0) + ((if u = 16 then F 16 else 0) + (if u = 32 then F 32 else 0))))))) 64 := by
    apply fq_congr
    intro u hu
    by_cases e : 2 ≤ fq_pc u
    · have n0 : u ≠ 0 := fun z => absurd e (by rw [z]; decide)
      have n1 : u ≠ 1 := fun z => absurd e (by rw [z]; decide)
      have n2 : u ≠ 2 := fun z => absurd e (by rw [z]; decide)
      have n4 : u ≠ 4 := fun z => absurd e (by rw [z]; decide)
      have n8 : u ≠ 8 := fun z => absurd e (by rw [z]; decide)
      have n16 : u ≠ 16 := fun z => absurd e (by rw [z]; decide)
      have n32 : u ≠ 32 := fun z => absurd e (by rw [z]; decide)
      rw [h u hu e, if_neg n0, if_neg n1, if_neg n2, if_neg n4, if_neg n8, if_neg n16, if_neg n32]; rfl
    · rcases fq_pc_two u hu (by omega) with z | z | z | z | z | z | z <;> subst z <;> simp
  have one : ∀ k, k < 64 → fq_sm (fun u => if u = k then F k else 0) 64 = F k := by
    intro k hk
    rw [fq_one (k := k) hk (fun y _ hne => if_neg hne), if_pos rfl]
  rw [h1, fq_add (fun u => if u = 0 then F 0 else 0), fq_add (fun u => if u = 1 then F 1 else 0), fq_add (fun u => if u = 2 then F 2 else 0), fq_add (fun u => if u = 4 then F 4 else 0), fq_add (fun u => if u = 8 then F 8 else 0), fq_add (fun u => if u = 16 then F 16 else 0), one 0 (by decide), one 1 (by decide), one 2 (by decide), one 4 (by decide), one 8 (by decide), one 16 (by decide), one 32 (by decide)]
  omega
def fq_dot (c0 c1 c2 c3 c4 c5 : Bool) (x : Nat) : Bool := (x.testBit 0 && c0) ^^ ((x.testBit 1 && c1) ^^ ((x.testBit 2 && c2) ^^ ((x.testBit 3 && c3) ^^ ((x.testBit 4 && c4) ^^ (x.testBit 5 && c5)))))
theorem fq_bx : ∀ p q r s : Bool, ((p ^^ q) ^^ (r ^^ s)) = ((p ^^ r) ^^ (q ^^ s)) := by decide
theorem fq_b12 (A B C D E F a b c d e f : Bool) : ((A ^^ a) ^^ ((B ^^ b) ^^ ((C ^^ c) ^^ ((D ^^ d) ^^ ((E ^^ e) ^^ (F ^^ f)))))) = ((A ^^ (B ^^ (C ^^ (D ^^ (E ^^ F))))) ^^ (a ^^ (b ^^ (c ^^ (d ^^ (e ^^ f)))))) := by
  rw [fq_bx E e F f, fq_bx D d (E ^^ F) (e ^^ f), fq_bx C c (D ^^ (E ^^ F)) (d ^^ (e ^^ f)), fq_bx B b (C ^^ (D ^^ (E ^^ F))) (c ^^ (d ^^ (e ^^ f))), fq_bx A a (B ^^ (C ^^ (D ^^ (E ^^ F)))) (b ^^ (c ^^ (d ^^ (e ^^ f))))]
theorem fq_dot_x (c0 c1 c2 c3 c4 c5 : Bool) (x a : Nat) : fq_dot c0 c1 c2 c3 c4 c5 (x ^^^ a) = (fq_dot c0 c1 c2 c3 c4 c5 x ^^ fq_dot c0 c1 c2 c3 c4 c5 a) := by
  unfold fq_dot
  simp only [Nat.testBit_xor, Bool.and_xor_distrib_right]
  exact fq_b12 _ _ _ _ _ _ _ _ _ _ _ _
theorem fq_bp (p q : Int) : decide ((p + q) % 2 = 1) = (decide (p % 2 = 1) ^^ decide (q % 2 = 1)) := by
  have hp : p % 2 = 0 ∨ p % 2 = 1 := by omega
  have hq : q % 2 = 0 ∨ q % 2 = 1 := by omega
  rcases hp with hp | hp <;> rcases hq with hq | hq
  · rw [show (p + q) % 2 = 0 by omega, hp, hq]; rfl
  · rw [show (p + q) % 2 = 1 by omega, hp, hq]; rfl
  · rw [show (p + q) % 2 = 1 by omega, hp, hq]; rfl
  · rw [show (p + q) % 2 = 0 by omega, hp, hq]; rfl
theorem fq_mo_0 : ∀ x, x < 64 → fq_mo x 0 = 1 := by decide +kernel
theorem fq_mo_p : ∀ i, i < 6 → ∀ x, x < 64 → fq_mo x (2 ^ i) = if x.testBit i then 1 else 0 := by decide +kernel
theorem fq_term (f : Nat → Bool) {i x : Nat} (hi : i < 6) (hx : x < 64) : decide (fq_mo x (2 ^ i) * fq_fi f (2 ^ i) % 2 = 1) = (x.testBit i && f (2 ^ i)) := by
  rw [fq_mo_p i hi x hx]
  unfold fq_fi
  cases x.testBit i <;> cases f (2 ^ i) <;> rfl
/-- a form of degree 1 at most: the table is affine -/
theorem fq_deg1 {f : Nat → Bool} (h : ∀ u, u < 64 → 2 ≤ fq_pc u → fq_C f u = false) : ∃ d c0 c1 c2 c3 c4 c5 : Bool, ∀ x, x < 64 → f x = (d ^^ fq_dot c0 c1 c2 c3 c4 c5 x) := by
  refine ⟨fq_C f 0, fq_C f 1, fq_C f 2, fq_C f 4, fq_C f 8, fq_C f 16, fq_C f 32, fun x hx => ?_⟩
  rw [← fq_mobius f hx]
  have e : fq_CI (fq_C f) x = _ := fq_seven (F := fun u => fq_mo x u * fq_fi (fq_C f) u) (fun u hu hne => by
      show fq_mo x u * fq_fi (fq_C f) u = 0
      have : fq_fi (fq_C f) u = 0 := by unfold fq_fi; rw [h u hu hne]; rfl
      rw [this, Int.mul_zero])
  have e0 : decide (fq_mo x 0 * fq_fi (fq_C f) 0 % 2 = 1) = fq_C f 0 := by
    rw [fq_mo_0 x hx, Int.one_mul, ← fq_fi_p]
  show decide (fq_CI (fq_C f) x % 2 = 1) = _
  rw [e, fq_bp, fq_bp, fq_bp, fq_bp, fq_bp, fq_bp, e0]
  have t0 := fq_term (fq_C f) (i := 0) (by decide) hx
  have t1 := fq_term (fq_C f) (i := 1) (by decide) hx
  have t2 := fq_term (fq_C f) (i := 2) (by decide) hx
  have t3 := fq_term (fq_C f) (i := 3) (by decide) hx
  have t4 := fq_term (fq_C f) (i := 4) (by decide) hx
  have t5 := fq_term (fq_C f) (i := 5) (by decide) hx
  simp only [show (2 : Nat) ^ 0 = 1 from rfl, show (2 : Nat) ^ 1 = 2 from rfl, show (2 : Nat) ^ 2 = 4 from rfl, show (2 : Nat) ^ 3 = 8 from rfl, show (2 : Nat) ^ 4 = 16 from rfl, show (2 : Nat) ^ 5 = 32 from rfl] at t0 t1 t2 t3 t4 t5
  rw [t0, t1, t2, t3, t4, t5]
  unfold fq_dot
  ac_rfl
theorem fq_deg1_R {f : Nat → Bool} (h : ∀ u, u < 64 → 2 ≤ fq_pc u → fq_C f u = false) {a : Nat} (ha : a < 64) : fq_R f a = 64 ∨ fq_R f a = -64 := by
  obtain ⟨d, c0, c1, c2, c3, c4, c5, hf⟩ := fq_deg1 h
  have hx : ∀ x, x < 64 → f (x ^^^ a) = (f x ^^ fq_dot c0 c1 c2 c3 c4 c5 a) := by
    intro x hx
    rw [hf x hx, hf _ (fq_xlt hx ha), fq_dot_x, Bool.xor_assoc]
  cases e : fq_dot c0 c1 c2 c3 c4 c5 a
  · left; exact fq_R_eq (fun x h => by rw [hx x h, e, Bool.xor_false])
  · right; exact fq_R_ne (fun x h => by rw [hx x h, e, Bool.xor_true])
/-- a digit on which the table doesn't depend stands in no part of the form -/
theorem fq_dep {f : Nat → Bool} {i u : Nat} (hi : i < 6) (hu : u < 64) (hb : u.testBit i = true) (h : ∀ x, x < 64 → f (x ^^^ 2 ^ i) = f x) : fq_C f u = false := by
  have hm : ∀ x, x < 64 → fq_mo u (x ^^^ 2 ^ i) = fq_mo u x := by
    intro x _
    apply fq_pr_c
    intro j _
    rw [Nat.testBit_xor, Nat.testBit_two_pow]
    by_cases e : i = j
    · subst e
      rw [hb, decide_eq_true rfl]; cases x.testBit i <;> rfl
    · rw [decide_eq_false e, Bool.xor_false]
  have h2 : fq_CI f u % 2 = 0 := fq_pair (F := fun x => fq_mo u x * fq_fi f x) hi (fun x hx => by
    show fq_mo u (x ^^^ 2 ^ i) * fq_fi f (x ^^^ 2 ^ i) = fq_mo u x * fq_fi f x
    rw [hm x hx]; unfold fq_fi; rw [h x hx])
  unfold fq_C
  rw [h2]; rfl
end
section
/-! words as numbers (rows of the kit's family of unsigned numbers, renamed) -/
def wd_u (x : Int64) : Nat := x.toUInt64.toNat
theorem wd_u_lt (x : Int64) : wd_u x < 2 ^ 64 := x.toUInt64.toNat_lt
theorem wd_u_inj {x y : Int64} (h : wd_u x = wd_u y) : x = y := congrArg UInt64.toInt64 (UInt64.toNat_inj.mp h)
theorem wd_u_add (x y : Int64) : wd_u (x + y) = (wd_u x + wd_u y) % 2 ^ 64 := by
  show (x.toUInt64 + y.toUInt64).toNat = _
  exact UInt64.toNat_add _ _
theorem wd_u_mul (x y : Int64) : wd_u (x * y) = (wd_u x * wd_u y) % 2 ^ 64 := by
  show (x.toUInt64 * y.toUInt64).toNat = _
  exact UInt64.toNat_mul _ _
theorem wd_u_sub (x y : Int64) (h : wd_u y ≤ wd_u x) : wd_u (x - y) = wd_u x - wd_u y := by
  show (x.toUInt64 - y.toUInt64).toNat = _
  exact UInt64.toNat_sub_of_le _ _ (UInt64.le_iff_toNat_le.mpr h)
theorem wd_u_and (x y : Int64) : wd_u (x &&& y) = wd_u x &&& wd_u y := by
  show (x.toUInt64 &&& y.toUInt64).toNat = _
  exact UInt64.toNat_and _ _
theorem wd_u_or (x y : Int64) : wd_u (x ||| y) = wd_u x ||| wd_u y := by
  show (x.toUInt64 ||| y.toUInt64).toNat = _
  exact UInt64.toNat_or _ _
theorem wd_u_xor (x y : Int64) : wd_u (x ^^^ y) = wd_u x ^^^ wd_u y := by
  show (x.toUInt64 ^^^ y.toUInt64).toNat = _
  exact UInt64.toNat_xor _ _
theorem wd_k_u : ∀ k, k < 64 → ((nI k).toInt64.toUInt64 &&& Int64.toUInt64 63).toNat % 64 = k := by decide +kernel
theorem wd_k_s : ∀ k, k < 64 → (((nI k).toInt64 &&& 63).toBitVec.smod 64).toNat = k := by decide +kernel
theorem wd_u_shr (x : Int64) {k : Nat} (hk : k < 64) : wd_u (x.toUInt64 >>> ((nI k).toInt64.toUInt64 &&& Int64.toUInt64 63)).toInt64 = wd_u x / 2 ^ k := by
  show (x.toUInt64 >>> ((nI k).toInt64.toUInt64 &&& Int64.toUInt64 63)).toNat = _
  rw [UInt64.toNat_shiftRight, wd_k_u k hk, Nat.shiftRight_eq_div_pow]
  rfl
theorem wd_u_shl (x : Int64) {k : Nat} (hk : k < 64) : wd_u (x <<< ((nI k).toInt64 &&& 63)) = (wd_u x * 2 ^ k) % 2 ^ 64 := by
  show (x.toBitVec <<< (((nI k).toInt64 &&& 63).toBitVec.smod 64).toNat).toNat = _
  rw [wd_k_s k hk, BitVec.toNat_shiftLeft, Nat.shiftLeft_eq]
  rfl
theorem wd_lN {x : Int64} {n : Nat} (h : wd_u x = n) (hn : n < 2 ^ 64) : x = lN n := by
  apply wd_u_inj
  rw [h]
  show n = (BitVec.ofNat 64 n).toNat
  rw [BitVec.toNat_ofNat, Nat.mod_eq_of_lt hn]
/-! words as tables -/
def wd_b (w : Int64) (x : Nat) : Bool := (wd_u w).testBit x
theorem wd_ext {v w : Int64} (h : ∀ x, x < 64 → wd_b v x = wd_b w x) : v = w := by
  apply wd_u_inj
  apply Nat.eq_of_testBit_eq
  intro i
  rcases Nat.lt_or_ge i 64 with z | z
  · exact h i z
  · have hp : 2 ^ 64 ≤ 2 ^ i := Nat.pow_le_pow_right (by decide) z
    rw [Nat.testBit_lt_two_pow (Nat.lt_of_lt_of_le (wd_u_lt v) hp), Nat.testBit_lt_two_pow (Nat.lt_of_lt_of_le (wd_u_lt w) hp)]
theorem wd_b_and (v w : Int64) (x : Nat) : wd_b (v &&& w) x = (wd_b v x && wd_b w x) := by
  unfold wd_b; rw [wd_u_and, Nat.testBit_and]
theorem wd_b_or (v w : Int64) (x : Nat) : wd_b (v ||| w) x = (wd_b v x || wd_b w x) := by
  unfold wd_b; rw [wd_u_or, Nat.testBit_or]
theorem wd_b_xor (v w : Int64) (x : Nat) : wd_b (v ^^^ w) x = (wd_b v x ^^ wd_b w x) := by
  unfold wd_b; rw [wd_u_xor, Nat.testBit_xor]
theorem wd_b_shr (w : Int64) {k : Nat} (hk : k < 64) (x : Nat) : wd_b (w.toUInt64 >>> ((nI k).toInt64.toUInt64 &&& Int64.toUInt64 63)).toInt64 x = wd_b w (x + k) := by
  unfold wd_b; rw [wd_u_shr w hk, Nat.testBit_div_two_pow]
theorem wd_b_shl (w : Int64) {k : Nat} (hk : k < 64) {x : Nat} (hx : x < 64) : wd_b (w <<< ((nI k).toInt64 &&& 63)) x = (decide (k ≤ x) && wd_b w (x - k)) := by
  unfold wd_b; rw [wd_u_shl w hk, Nat.testBit_mod_two_pow, Nat.testBit_mul_two_pow]; simp [hx]
/-- the six masks -/
def wd_low : Nat → Int64 := vp_updL (vp_updL (vp_updL (vp_updL (vp_updL (vp_updL (fun _ => 0) 0 6148914691236517205) 1 3689348814741910323) 2 1085102592571150095) 3 71777214294589695) 4 281470681808895) 5 4294967295
theorem wd_low_b : ∀ i, i < 6 → ∀ x, x < 64 → wd_b (wd_low i) x = !x.testBit i := by decide +kernel
theorem wd_1sh : ∀ i, i < 6 → ((1 : Int32) <<< (nI i &&& 31)) = nI (2 ^ i) := by decide +kernel
theorem wd_p2 : ∀ i, i < 6 → 2 ^ i < 64 := by decide
theorem wd_lo : ∀ i, i < 6 → ∀ x, x < 64 → x.testBit i = false → (decide (2 ^ i ≤ x) && !(x - 2 ^ i).testBit i) = false ∧ fq_c0 i x = x ∧ fq_c1 i x = x + 2 ^ i ∧ x ^^^ 2 ^ i = x + 2 ^ i ∧ x + 2 ^ i < 64 ∧ (x + 2 ^ i).testBit i = true := by decide +kernel
theorem wd_hi : ∀ i, i < 6 → ∀ x, x < 64 → x.testBit i = true → 2 ^ i ≤ x ∧ (x - 2 ^ i).testBit i = false ∧ fq_c0 i x = x - 2 ^ i ∧ fq_c1 i x = x ∧ x ^^^ 2 ^ i = x - 2 ^ i := by decide +kernel
/-- one stage of 'transformed' -/
def wd_t (v : Int64) (i : Nat) : Int64 := v ^^^ ((v &&& wd_low i) <<< ((nI (2 ^ i)).toInt64 &&& 63))
theorem wd_t_b {v : Int64} {S : Nat → Int} {i : Nat} (hi : i < 6) (h : ∀ y, y < 64 → wd_b v y = decide (S y % 2 = 1)) : ∀ y, y < 64 → wd_b (wd_t v i) y = decide (fq_st fq_km S i y % 2 = 1) := by
  intro y hy
  have hs : y - 2 ^ i < 64 := Nat.lt_of_le_of_lt (Nat.sub_le _ _) hy
  unfold wd_t fq_st
  rw [wd_b_xor, wd_b_shl _ (wd_p2 i hi) hy, wd_b_and]
  cases e : y.testBit i
  · obtain ⟨h1, h2, -⟩ := wd_lo i hi y hy e
    rw [h2, h y hy, wd_low_b i hi _ hs]
    have h3 : (decide (2 ^ i ≤ y) && (wd_b v (y - 2 ^ i) && !(y - 2 ^ i).testBit i)) = false := by
      revert h1
      cases decide (2 ^ i ≤ y) <;> cases (y - 2 ^ i).testBit i <;> cases wd_b v (y - 2 ^ i) <;> decide
    rw [h3, Bool.xor_false]
    congr 2
    show S y % 2 = (1 * S y + 0 * _) % 2
    omega
  · obtain ⟨h1, h2, h3, h4, -⟩ := wd_hi i hi y hy e
    rw [h3, h4, h y hy, h _ hs, wd_low_b i hi _ hs, h2, decide_eq_true h1]
    show (decide (S y % 2 = 1) ^^ (true && (decide (S (y - 2 ^ i) % 2 = 1) && true))) = decide ((1 * S (y - 2 ^ i) + 1 * S y) % 2 = 1)
    rw [Int.one_mul, Int.one_mul, fq_bp, Bool.true_and, Bool.and_true, Bool.xor_comm]
/-- one stage of 'moved' -/
def wd_m (v : Int64) (i : Nat) : Int64 := ((v &&& wd_low i) <<< ((nI (2 ^ i)).toInt64 &&& 63)) ||| ((v.toUInt64 >>> ((nI (2 ^ i)).toInt64.toUInt64 &&& Int64.toUInt64 63)).toInt64 &&& wd_low i)
theorem wd_m_b {v : Int64} {i : Nat} (hi : i < 6) : ∀ y, y < 64 → wd_b (wd_m v i) y = wd_b v (y ^^^ 2 ^ i) := by
  intro y hy
  have hs : y - 2 ^ i < 64 := Nat.lt_of_le_of_lt (Nat.sub_le _ _) hy
  unfold wd_m
  rw [wd_b_or, wd_b_shl _ (wd_p2 i hi) hy, wd_b_and, wd_b_and, wd_b_shr _ (wd_p2 i hi), wd_low_b i hi y hy, wd_low_b i hi _ hs]
  cases e : y.testBit i
  · obtain ⟨h1, -, -, h4, -⟩ := wd_lo i hi y hy e
    rw [h4]
    have h3 : (decide (2 ^ i ≤ y) && (wd_b v (y - 2 ^ i) && !(y - 2 ^ i).testBit i)) = false := by
      revert h1
      cases decide (2 ^ i ≤ y) <;> cases (y - 2 ^ i).testBit i <;> cases wd_b v (y - 2 ^ i) <;> decide
    rw [h3]
    cases wd_b v (y + 2 ^ i) <;> rfl
  · obtain ⟨h1, h2, -, -, h5⟩ := wd_hi i hi y hy e
    rw [h5, decide_eq_true h1, h2]
    cases wd_b v (y - 2 ^ i) <;> cases wd_b v (y + 2 ^ i) <;> rfl
/-- 'digit' -/
def wd_d (b : Bool) : Int32 := if b then 1 else 0
theorem wd_digit (w : Int64) {x : Nat} (hx : x < 64) : ((w.toUInt64 >>> ((nI x).toInt64.toUInt64 &&& Int64.toUInt64 63)).toInt64 &&& 1).toInt32 = wd_d (wd_b w x) := by
  have h : wd_u ((w.toUInt64 >>> ((nI x).toInt64.toUInt64 &&& Int64.toUInt64 63)).toInt64 &&& 1) = (wd_b w x).toNat := by
    rw [wd_u_and, wd_u_shr w hx]
    show wd_u w / 2 ^ x &&& 1 = _
    rw [Nat.and_one_is_mod]
    unfold wd_b
    rw [Nat.testBit_eq_decide_div_mod_eq]
    have : wd_u w / 2 ^ x % 2 = 0 ∨ wd_u w / 2 ^ x % 2 = 1 := by omega
    rcases this with z | z <;> rw [z] <;> rfl
  rw [wd_lN h (by cases wd_b w x <;> decide)]
  cases wd_b w x <;> decide
theorem wd_flip (w : Int64) {x : Nat} (hx : x < 64) : wd_b (w ^^^ ((1 : Int64) <<< ((nI x).toInt64 &&& 63))) x = !wd_b w x := by
  rw [wd_b_xor, wd_b_shl _ hx hx, decide_eq_true (Nat.le_refl x), Nat.sub_self]
  show (wd_b w x ^^ (true && true)) = _
  cases wd_b w x <;> rfl
/-! 'onesOf': by bytes -/
def wd_as (g : Nat → Nat) : Nat → Nat → Nat
  | 0 => fun _ => 0
  | m + 1 => fun n => g (n % 256) + 256 * wd_as g m (n / 256)
def wd_rep (c : Nat) : Nat → Nat
  | 0 => 0
  | m + 1 => c + 256 * wd_rep c m
theorem wd_as_s (g : Nat → Nat) (m n : Nat) : wd_as g (m + 1) n = g (n % 256) + 256 * wd_as g m (n / 256) := rfl
theorem wd_as_id (m : Nat) : ∀ n, n < 256 ^ m → wd_as (fun b => b) m n = n := by
  induction m with
  | zero => intro n h; rw [Nat.pow_zero] at h; show 0 = n; omega
  | succ m ih =>
    intro n h
    rw [Nat.pow_succ] at h
    rw [wd_as_s, ih _ (by omega)]
    omega
theorem wd_as_c {g h : Nat → Nat} (e : ∀ b, b < 256 → g b = h b) (m : Nat) : ∀ n, wd_as g m n = wd_as h m n := by
  induction m with
  | zero => intro n; rfl
  | succ m ih => intro n; rw [wd_as_s, wd_as_s, ih, e _ (by omega)]
theorem wd_as_add (g h : Nat → Nat) (m : Nat) : ∀ n, wd_as g m n + wd_as h m n = wd_as (fun b => g b + h b) m n := by
  induction m with
  | zero => intro n; rfl
  | succ m ih => intro n; rw [wd_as_s, wd_as_s, wd_as_s, ← ih]; omega
theorem wd_as_le {g h : Nat → Nat} (e : ∀ b, b < 256 → h b ≤ g b) (m : Nat) : ∀ n, wd_as h m n ≤ wd_as g m n := by
  induction m with
  | zero => intro n; exact Nat.le_refl _
  | succ m ih =>
    intro n
    have h1 := ih (n / 256)
    have h2 := e (n % 256) (by omega)
    rw [wd_as_s, wd_as_s]; omega
theorem wd_as_sub {g h : Nat → Nat} (e : ∀ b, b < 256 → h b ≤ g b) (m : Nat) : ∀ n, wd_as g m n - wd_as h m n = wd_as (fun b => g b - h b) m n := by
  induction m with
  | zero => intro n; rfl
  | succ m ih =>
    intro n
    have h1 := wd_as_le e m (n / 256)
    have h2 := e (n % 256) (by omega)
    have h3 := ih (n / 256)
    rw [wd_as_s, wd_as_s, wd_as_s, ← h3]; omega
theorem wd_as_o {g h : Nat → Nat} (e : ∀ b, b < 256 → g b < 256) (m : Nat) : ∀ n, wd_as h m (wd_as g m n) = wd_as (fun b => h (g b)) m n := by
  induction m with
  | zero => intro n; rfl
  | succ m ih =>
    intro n
    have h2 := e (n % 256) (by omega)
    rw [wd_as_s g, wd_as_s h, wd_as_s, ← ih]
    rw [show (g (n % 256) + 256 * wd_as g m (n / 256)) % 256 = g (n % 256) by omega, show (g (n % 256) + 256 * wd_as g m (n / 256)) / 256 = wd_as g m (n / 256) by omega]
theorem wd_as_lt {g : Nat → Nat} (e : ∀ b, b < 256 → g b < 256) (m : Nat) : ∀ n, wd_as g m n < 256 ^ m := by
  induction m with
  | zero => intro n; show 0 < 1; omega
  | succ m ih =>
    intro n
    have h1 := ih (n / 256)
    have h2 := e (n % 256) (by omega)
    rw [wd_as_s, Nat.pow_succ]; omega
/-- 'and' goes byte by byte -/
theorem wd_and_s {z c R : Nat} (hc : c < 256) : z &&& (c + 256 * R) = (z % 256 &&& c) + 256 * (z / 256 &&& R) := by
  have h1 : (z &&& (c + 256 * R)) % 2 ^ 8 = (z % 2 ^ 8) &&& ((c + 256 * R) % 2 ^ 8) := Nat.and_mod_two_pow
  have h2 : (z &&& (c + 256 * R)) / 2 ^ 8 = z / 2 ^ 8 &&& (c + 256 * R) / 2 ^ 8 := Nat.and_div_two_pow
  rw [show (c + 256 * R) % 2 ^ 8 = c by omega] at h1
  rw [show (c + 256 * R) / 2 ^ 8 = R by omega] at h2
  have h3 := Nat.mod_add_div (z &&& (c + 256 * R)) (2 ^ 8)
  rw [h1, h2] at h3
  exact h3.symm
theorem wd_and (c : Nat) (hc : c < 256) (m : Nat) : ∀ n, n &&& wd_rep c m = wd_as (fun b => b &&& c) m n := by
  induction m with
  | zero => intro n; exact Nat.and_zero n
  | succ m ih =>
    intro n
    show n &&& (c + 256 * wd_rep c m) = _
    rw [wd_and_s hc, ih, wd_as_s]
theorem wd_85 : ∀ t, t < 512 → t / 2 % 256 &&& 85 = t % 256 / 2 &&& 85 := by decide +kernel
theorem wd_51 : ∀ t, t < 1024 → t / 4 % 256 &&& 51 = t % 256 / 4 &&& 51 := by decide +kernel
theorem wd_sh1 (m : Nat) : ∀ n, n / 2 &&& wd_rep 85 m = wd_as (fun b => b / 2 &&& 85) m n := by
  induction m with
  | zero => intro n; exact Nat.and_zero _
  | succ m ih =>
    intro n
    show n / 2 &&& (85 + 256 * wd_rep 85 m) = _
    have h := wd_85 (n % 512) (by omega)
    rw [wd_and_s (by decide), wd_as_s, ← ih, show n / 2 / 256 = n / 256 / 2 by omega, show n / 2 % 256 = n % 512 / 2 % 256 by omega, h, show n % 512 % 256 = n % 256 by omega]
theorem wd_sh2 (m : Nat) : ∀ n, n / 4 &&& wd_rep 51 m = wd_as (fun b => b / 4 &&& 51) m n := by
  induction m with
  | zero => intro n; exact Nat.and_zero _
  | succ m ih =>
    intro n
    show n / 4 &&& (51 + 256 * wd_rep 51 m) = _
    have h := wd_51 (n % 1024) (by omega)
    rw [wd_and_s (by decide), wd_as_s, ← ih, show n / 4 / 256 = n / 256 / 4 by omega, show n / 4 % 256 = n % 1024 / 4 % 256 by omega, h, show n % 1024 % 256 = n % 256 by omega]
theorem wd_15 : ∀ t, t < 256 → t &&& 15 = t % 16 := by decide +kernel
theorem wd_as_16 {g : Nat → Nat} (e : ∀ b, b < 256 → g b / 16 ≤ 4 ∧ g b % 16 ≤ 4) (m n : Nat) : wd_as g m n % 16 ≤ 4 := by
  cases m with
  | zero => show 0 % 16 ≤ 4; omega
  | succ m =>
    have := e (n % 256) (by omega)
    rw [wd_as_s]; omega
theorem wd_sh4 {g : Nat → Nat} (e : ∀ b, b < 256 → g b / 16 ≤ 4 ∧ g b % 16 ≤ 4) (m : Nat) : ∀ n, (wd_as g m n + wd_as g m n / 16) &&& wd_rep 15 m = wd_as (fun b => (g b + g b / 16) % 16) m n := by
  induction m with
  | zero => intro n; exact Nat.and_zero _
  | succ m ih =>
    intro n
    show _ &&& (15 + 256 * wd_rep 15 m) = _
    have h1 := e (n % 256) (by omega)
    have h2 := wd_as_16 e m (n / 256)
    rw [wd_and_s (by decide), wd_as_s g, wd_as_s, ← ih]
    generalize wd_as g m (n / 256) = r at *
    generalize g (n % 256) = b at *
    rw [show (b + 256 * r + (b + 256 * r) / 16) / 256 = r + r / 16 by omega, wd_15 _ (Nat.mod_lt _ (by decide)), show (b + 256 * r + (b + 256 * r) / 16) % 256 % 16 = (b + b / 16) % 16 by omega]
def wd_g1 (b : Nat) : Nat := b - (b / 2 &&& 85)
def wd_g2 (b : Nat) : Nat := (b &&& 51) + (b / 4 &&& 51)
def wd_g (b : Nat) : Nat := (wd_g2 (wd_g1 b) + wd_g2 (wd_g1 b) / 16) % 16
theorem wd_g1_le : ∀ b, b < 256 → b / 2 &&& 85 ≤ b := by decide +kernel
theorem wd_g1_lt : ∀ b, b < 256 → wd_g1 b < 256 := by decide +kernel
theorem wd_g2_lt : ∀ b, b < 256 → wd_g2 b < 256 := by decide +kernel
theorem wd_g2_n : ∀ b, b < 256 → wd_g2 (wd_g1 b) / 16 ≤ 4 ∧ wd_g2 (wd_g1 b) % 16 ≤ 4 := by decide +kernel
theorem wd_g_ct : ∀ b, b < 256 → wd_g b = fq_ct (fun i => b.testBit i) 8 := by decide +kernel
theorem wd_g_8 (b : Nat) (hb : b < 256) : wd_g b ≤ 8 := by rw [wd_g_ct b hb]; exact fq_ct_le _ 8
theorem wd_ct_c {P Q : Nat → Bool} {n : Nat} (h : ∀ x, x < n → P x = Q x) : fq_ct P n = fq_ct Q n := by
  induction n with
  | zero => rfl
  | succ n ih => rw [fq_ct_s, fq_ct_s, ih (fun x hx => h x (by omega)), h n (by omega)]
theorem wd_ct_p (P : Nat → Bool) (a b : Nat) : fq_ct P (a + b) = fq_ct P a + fq_ct (fun x => P (a + x)) b := by
  induction b with
  | zero => rfl
  | succ b ih => rw [← Nat.add_assoc, fq_ct_s, fq_ct_s, ih, Nat.add_assoc]
/-- the sum of the bytes' counts -/
def wd_sb : Nat → Nat → Nat
  | 0 => fun _ => 0
  | m + 1 => fun n => wd_g (n % 256) + wd_sb m (n / 256)
theorem wd_sb_ct (m : Nat) : ∀ n, fq_ct (fun x => n.testBit x) (8 * m) = wd_sb m n := by
  induction m with
  | zero => intro n; rfl
  | succ m ih =>
    intro n
    show _ = wd_g (n % 256) + wd_sb m (n / 256)
    rw [show 8 * (m + 1) = 8 + 8 * m by omega, wd_ct_p, wd_g_ct _ (Nat.mod_lt _ (by decide)), ← ih]
    congr 1
    · apply wd_ct_c
      intro x hx
      rw [show (256 : Nat) = 2 ^ 8 from rfl, Nat.testBit_mod_two_pow, decide_eq_true hx, Bool.true_and]
    · apply wd_ct_c
      intro x hx
      show n.testBit (8 + x) = (n / 2 ^ 8).testBit x
      rw [Nat.testBit_div_two_pow, Nat.add_comm]
/-- the last multiplication: its highest byte is the sum -/
theorem wd_top {l s h : Nat} (hl : l < 2 ^ 56) (hs : s < 256) : (l + 2 ^ 56 * (s + 256 * h)) % 2 ^ 64 / 2 ^ 56 = s := by omega
theorem wd_mul8 {a b c d e f g h : Nat} (ha : a ≤ 8) (hb : b ≤ 8) (hc : c ≤ 8) (hd : d ≤ 8) (he : e ≤ 8) (hf : f ≤ 8) (hg : g ≤ 8) (hh : h ≤ 8) :
    (a + 256 * (b + 256 * (c + 256 * (d + 256 * (e + 256 * (f + 256 * (g + 256 * (h + 256 * 0)))))))) * 72340172838076673 % 2 ^ 64 / 2 ^ 56 = a + (b + (c + (d + (e + (f + (g + (h + 0))))))) := by
  have key : (a + 256 * (b + 256 * (c + 256 * (d + 256 * (e + 256 * (f + 256 * (g + 256 * (h + 256 * 0)))))))) * 72340172838076673 =
      (a + 256 * (a + b + 256 * (a + b + c + 256 * (a + b + c + d + 256 * (a + b + c + d + e + 256 * (a + b + c + d + e + f + 256 * (a + b + c + d + e + f + g))))))) + 2 ^ 56 * ((a + (b + (c + (d + (e + (f + (g + (h + 0)))))))) + 256 * (b + c + d + e + f + g + h + 256 * (c + d + e + f + g + h + 256 * (d + e + f + g + h + 256 * (e + f + g + h + 256 * (f + g + h + 256 * (g + h + 256 * h))))))) := by omega
  rw [key]
  exact wd_top (by omega) (by omega)
theorem wd_onesA {n a : Nat} (hn : n < 2 ^ 64) (ea : a = n - (n / 2 &&& wd_rep 85 8)) : n / 2 &&& wd_rep 85 8 ≤ n ∧ a = wd_as wd_g1 8 n := by
  have hid : wd_as (fun b => b) 8 n = n := wd_as_id 8 n hn
  have h1 := wd_as_le wd_g1_le 8 n
  have h2 := wd_as_sub wd_g1_le 8 n
  rw [hid] at h1 h2
  rw [wd_sh1] at ea ⊢
  exact ⟨h1, ea.trans h2⟩
theorem wd_onesB {n a b : Nat} (ea : a = wd_as wd_g1 8 n) (eb : b = (a &&& wd_rep 51 8) + (a / 4 &&& wd_rep 51 8)) : b = wd_as (fun b => wd_g2 (wd_g1 b)) 8 n ∧ b < 2 ^ 64 := by
  have h : b = wd_as (fun b => wd_g2 (wd_g1 b)) 8 n := by
    rw [eb, wd_and 51 (by decide), wd_sh2, wd_as_add, ea]
    exact wd_as_o (h := wd_g2) wd_g1_lt 8 n
  refine ⟨h, ?_⟩
  rw [h]
  exact wd_as_lt (fun b hb => wd_g2_lt _ (wd_g1_lt b hb)) 8 n
theorem wd_onesC {n b c : Nat} (eb : b = wd_as (fun b => wd_g2 (wd_g1 b)) 8 n) (ec : c = (b + b / 16) &&& wd_rep 15 8) : c = wd_as wd_g 8 n := by
  rw [ec, eb, wd_sh4 wd_g2_n]; rfl
theorem wd_onesD (n : Nat) : wd_as wd_g 8 n * 72340172838076673 % 2 ^ 64 / 2 ^ 56 = fq_ct (fun x => n.testBit x) 64 := by
  rw [show (64 : Nat) = 8 * 8 from rfl, wd_sb_ct 8 n]
  exact wd_mul8 (wd_g_8 _ (Nat.mod_lt _ (by decide))) (wd_g_8 _ (Nat.mod_lt _ (by decide))) (wd_g_8 _ (Nat.mod_lt _ (by decide))) (wd_g_8 _ (Nat.mod_lt _ (by decide))) (wd_g_8 _ (Nat.mod_lt _ (by decide))) (wd_g_8 _ (Nat.mod_lt _ (by decide))) (wd_g_8 _ (Nat.mod_lt _ (by decide))) (wd_g_8 _ (Nat.mod_lt _ (by decide)))
theorem wd_and_mod {z r : Nat} (hr : r < 2 ^ 64) : z % 2 ^ 64 &&& r = z &&& r := by
  have h1 : (z &&& r) % 2 ^ 64 = (z % 2 ^ 64) &&& (r % 2 ^ 64) := Nat.and_mod_two_pow
  rw [Nat.mod_eq_of_lt hr, Nat.mod_eq_of_lt (Nat.and_lt_two_pow z hr)] at h1
  exact h1.symm
theorem wd_l0 : wd_u (wd_low 0) = wd_rep 85 8 := by decide +kernel
theorem wd_l1 : wd_u (wd_low 1) = wd_rep 51 8 := by decide +kernel
theorem wd_l2 : wd_u (wd_low 2) = wd_rep 15 8 := by decide +kernel
theorem wd_ones (w x3 x5 x7 : Int64) (h3 : x3 = w - ((w.toUInt64 >>> ((nI 1).toInt64.toUInt64 &&& Int64.toUInt64 63)).toInt64 &&& wd_low 0))
    (h5 : x5 = (x3 &&& wd_low 1) + ((x3.toUInt64 >>> ((nI 2).toInt64.toUInt64 &&& Int64.toUInt64 63)).toInt64 &&& wd_low 1))
    (h7 : x7 = (x5 + (x5.toUInt64 >>> ((nI 4).toInt64.toUInt64 &&& Int64.toUInt64 63)).toInt64) &&& wd_low 2) :
    ((x7 * 72340172838076673).toUInt64 >>> ((nI 56).toInt64.toUInt64 &&& Int64.toUInt64 63)).toInt64.toInt32 = nI (fq_ct (wd_b w) 64) := by
  have ea := wd_onesA (n := wd_u w) (wd_u_lt w) rfl
  have e3 : wd_u x3 = wd_u w - (wd_u w / 2 &&& wd_rep 85 8) := by
    have e : wd_u ((w.toUInt64 >>> ((nI 1).toInt64.toUInt64 &&& Int64.toUInt64 63)).toInt64 &&& wd_low 0) = wd_u w / 2 &&& wd_rep 85 8 := by
      rw [wd_u_and, wd_u_shr w (by decide), wd_l0]
    rw [h3, wd_u_sub _ _ (by rw [e]; exact ea.1), e]
  have e3' := (wd_onesA (wd_u_lt w) e3).2
  have eb := wd_onesB e3' rfl
  have e5 : wd_u x5 = (wd_u x3 &&& wd_rep 51 8) + (wd_u x3 / 4 &&& wd_rep 51 8) := by
    rw [h5, wd_u_add, wd_u_and, wd_u_and, wd_u_shr x3 (by decide), wd_l1]
    exact Nat.mod_eq_of_lt eb.2
  have e5' := (wd_onesB e3' e5).1
  have e7 : wd_u x7 = (wd_u x5 + wd_u x5 / 16) &&& wd_rep 15 8 := by
    rw [h7, wd_u_and, wd_u_add, wd_u_shr x5 (by decide), wd_l2, wd_and_mod (by decide +kernel)]
  have e7' := wd_onesC e5' e7
  have e8 : wd_u ((x7 * 72340172838076673).toUInt64 >>> ((nI 56).toInt64.toUInt64 &&& Int64.toUInt64 63)).toInt64 = fq_ct (fun x => (wd_u w).testBit x) 64 := by
    rw [wd_u_shr _ (by decide), wd_u_mul, e7', ← wd_onesD]
    rfl
  have hl := fq_ct_le (wd_b w) 64
  rw [wd_lN e8 (by have := fq_ct_le (fun x => (wd_u w).testBit x) 64; omega), lN_i]
  rfl
end
section
/-! Int32 rows -/
theorem mt_nat (n : Nat) : Int32.ofInt (n : Int) = nI n := Int32.ofInt_eq_ofNat
theorem mt_toInt {z : Int} (h1 : -1000000 ≤ z) (h2 : z ≤ 1000000) : (Int32.ofInt z).toInt = z := Int32.toInt_ofInt_of_le (by omega) (by omega)
theorem mt_inj {y z : Int} (h1 : -1000000 ≤ y) (h2 : y ≤ 1000000) (h3 : -1000000 ≤ z) (h4 : z ≤ 1000000) (h : Int32.ofInt y = Int32.ofInt z) : y = z := by
  rw [← mt_toInt h1 h2, ← mt_toInt h3 h4, h]
theorem mt_abs {z : Int} (h1 : -1000000 ≤ z) (h2 : z ≤ 1000000) : (0 ≤ Int32.ofInt z → Int32.ofInt z = nI z.natAbs) ∧ (¬ 0 ≤ Int32.ofInt z → -Int32.ofInt z = nI z.natAbs) := by
  constructor
  · intro h
    rw [Int32.le_iff_toInt_le, mt_toInt h1 h2] at h
    have h' : 0 ≤ z := h
    rw [← mt_nat, Int.natAbs_of_nonneg h']
  · intro h
    rw [Int32.le_iff_toInt_le, mt_toInt h1 h2] at h
    have h' : ¬ (0 ≤ z) := h
    rw [← mt_nat, ← Int32.ofInt_neg]
    congr 1
    omega
theorem mt_div64 {z : Int} (h1 : -1000 ≤ z) (h2 : z ≤ 1000) : Int32.ofInt (64 * z) / 64 = Int32.ofInt z := by
  apply Int32.toInt_inj.mp
  rw [Int32.toInt_div_of_ne_right _ _ (by decide), mt_toInt (by omega) (by omega), mt_toInt (by omega) (by omega)]
  show (64 * z).tdiv 64 = z
  exact Int.mul_tdiv_cancel_left z (by decide)
theorem wd_d_n (b : Bool) : wd_d b = nI (if b then 1 else 0) := by cases b <;> rfl
theorem wd_d_1 (b : Bool) : wd_d b = 1 ↔ b = true := by cases b <;> decide
theorem wd_d_i (b : Bool) : wd_d b = Int32.ofInt (if b then 1 else 0) := by cases b <;> rfl
theorem mt_bit : ∀ i, i < 6 → ∀ x, x < 64 → (nI x >>> (nI i &&& 31)) &&& 1 = wd_d (x.testBit i) := by decide +kernel
/-! the small methods -/
section
variable {a1 a2 : Nat → Int64} {a3 : Nat → Int32}
theorem mt_bad {post : Int32 → Prop} {t : Nat} (ht : t < 4) (h : post 0) : wpX_bad post (a1, a2, a3) (nI t) :=
  pk_lt t 0 (fun z => absurd z (by omega)) (fun _ => pk_lt t 4 (fun _ => h) (fun z => absurd z (by omega)))
theorem mt_badN {post : Int32 → Prop} {p : Int32} (hp : p < 0 ∨ nI 4 ≤ p) (h : post 1) : wpX_bad post (a1, a2, a3) p :=
  br_c (fun _ => h) (fun z => br_c (fun y => by
    rcases hp with g | g
    · exact absurd g z
    · rw [Int32.lt_iff_toInt_lt] at y
      rw [Int32.le_iff_toInt_le] at g
      have e : (4 : Int32).toInt = 4 := by decide
      have e' : (nI 4).toInt = 4 := by decide
      omega) (fun _ => h))
theorem mt_bp {post : Int32 → Prop} {x : Nat} (hx : x < 64) (h : post 0) : wpX_badPoint post (a1, a2, a3) (nI x) :=
  pk_lt x 0 (fun z => absurd z (by omega)) (fun _ => pk_lt x 64 (fun _ => h) (fun z => absurd z (by omega)))
theorem mt_bpN {post : Int32 → Prop} {p : Int32} (hp : p < 0 ∨ nI 64 ≤ p) (h : post 1) : wpX_badPoint post (a1, a2, a3) p :=
  br_c (fun _ => h) (fun z => br_c (fun y => by
    rcases hp with g | g
    · exact absurd g z
    · rw [Int32.lt_iff_toInt_lt] at y
      rw [Int32.le_iff_toInt_le] at g
      have e : (64 : Int32).toInt = 64 := by decide
      have e' : (nI 64).toInt = 64 := by decide
      omega) (fun _ => h))
theorem mt_digit {post : Int32 → Prop} {w : Int64} {x : Nat} (hx : x < 64) (h : post (wd_d (wd_b w x))) : wpX_digit post (a1, a2, a3) w (nI x) :=
  ek_v (P := post) (wd_digit w hx) h
theorem mt_value {post : Int32 → Prop} {t x : Nat} (ht : t < 4) (hx : x < 64) (h : post (wd_d (wd_b (a1 t) x))) : wpX_value post (a1, a2, a3) (nI t) (nI x) := by
  unfold wpX_value
  exact mt_bad ht (br_t rfl (mt_bp hx (br_t rfl ⟨pk_in t 4 ht, by rw [nI_clamp (by omega)]; exact mt_digit hx h⟩)))
theorem mt_valueN {post : Int32 → Prop} {p q : Int32} (hp : p < 0 ∨ nI 4 ≤ p ∨ q < 0 ∨ nI 64 ≤ q) (h : post (-1000)) : wpX_value post (a1, a2, a3) p q := by
  unfold wpX_value
  rcases pk_ix p (n := 4) (by decide) with z | z | ⟨t, ht, rfl⟩
  · exact mt_badN (Or.inl z) (br_f (by decide) h)
  · exact mt_badN (Or.inr z) (br_f (by decide) h)
  · refine mt_bad ht (br_t rfl (mt_bpN ?_ (br_f (by decide) h)))
    rcases hp with g | g | g
    · exact absurd g (nI_pos (by omega))
    · exact absurd g (nI_ge ht (by decide))
    · exact g
/-! transformed -/
def wd_tt (w : Int64) : Nat → Int64
  | 0 => w
  | i + 1 => wd_t (wd_tt w i) i
theorem wd_tt_b (w : Int64) : ∀ i, i ≤ 6 → ∀ y, y < 64 → wd_b (wd_tt w i) y = decide (fq_tr fq_km (fq_fi (wd_b w)) i y % 2 = 1) := by
  intro i
  induction i with
  | zero => intro _ y _; exact fq_fi_p (wd_b w) y
  | succ i ih => intro hi; exact wd_t_b (by omega) (ih (by omega))
theorem wd_tt_C (w : Int64) {y : Nat} (hy : y < 64) : wd_b (wd_tt w 6) y = fq_C (wd_b w) y := by
  rw [wd_tt_b w 6 (by omega) y hy, fq_tr6 _ _ hy]; rfl
theorem mt_tr {post : Int64 → Prop} {w : Int64} (h : post (wd_tt w 6)) : wpX_transformed post (a1, wd_low, a3) w :=
  pk_loop (fun n i s => wX_transformed_5 post a1 wd_low a3 n s (nI i)) (fun i s => s = wd_tt w i) 6 0 w (by omega) rfl
    (fun n s hs => pk_le 6 6 (fun _ => by rw [hs]; exact h) (fun z => absurd z (by omega)))
    (fun n i s hi hs hw => pk_le 6 i (fun z => absurd z (by omega)) (fun _ => ⟨pk_in i 6 hi, nm_r (e' := wd_t s i) (by rw [nI_clamp (by omega), wd_1sh i hi]; rfl) (nm_r (nI_1 i) (hw _ (by rw [hs]; rfl)))⟩))
/-! sizes -/
theorem mt_szs {x i : Nat} (hx : x < 64) (hi : i < 6) : nI (fq_ct (fun i => x.testBit i) i) + ((nI x >>> (nI i &&& 31)) &&& 1) = nI (fq_ct (fun i => x.testBit i) (i + 1)) := by
  rw [mt_bit i hi x hx, wd_d_n, nI_add, fq_ct_s]
theorem mt_size {post : Int32 → Prop} {x : Nat} (hx : x < 64) (h : post (nI (fq_pc x))) : wpX_sizeOf post (a1, a2, a3) (nI x) :=
  pk_loop (fun n i s => wX_sizeOf_4 post (nI x) a1 a2 a3 n s (nI i)) (fun i s => s = nI (fq_ct (fun i => x.testBit i) i)) 6 0 0 (by omega) rfl
    (fun n s hs => pk_le 6 6 (fun _ => by rw [hs]; exact h) (fun z => absurd z (by omega)))
    (fun n i s hi hs hw => pk_le 6 i (fun z => absurd z (by omega)) (fun _ => nm_r (e' := nI (fq_ct (fun i => x.testBit i) (i + 1))) (by rw [hs]; exact mt_szs hx hi) (nm_r (nI_1 i) (hw _ rfl))))
theorem mt_lsize {post : Int32 → Prop} {x : Nat} (hx : x < 64) (h : post (nI (fq_pc x))) : wpL_size post () (nI x) :=
  pk_loop (fun n i s => wL_size_4 post (nI x) n s (nI i)) (fun i s => s = nI (fq_ct (fun i => x.testBit i) i)) 6 0 0 (by omega) rfl
    (fun n s hs => pk_le 6 6 (fun _ => by rw [hs]; exact h) (fun z => absurd z (by omega)))
    (fun n i s hi hs hw => pk_le 6 i (fun z => absurd z (by omega)) (fun _ => nm_r (e' := nI (fq_ct (fun i => x.testBit i) (i + 1))) (by rw [hs]; exact mt_szs hx hi) (nm_r (nI_1 i) (hw _ rfl))))
/-! form, degree -/
theorem mt_form {post : Int32 → Prop} {t u : Nat} (ht : t < 4) (hu : u < 64) (h : post (wd_d (fq_C (wd_b (a1 t)) u))) : wpX_form post (a1, wd_low, a3) (nI t) (nI u) := by
  unfold wpX_form
  refine mt_bad ht (br_t rfl (mt_bp hu (br_t rfl ⟨pk_in t 4 ht, ?_⟩)))
  rw [nI_clamp (by omega)]
  exact mt_tr (mt_digit hu (by rw [wd_tt_C _ hu]; exact h))
theorem mt_formN {post : Int32 → Prop} {p q : Int32} (hp : p < 0 ∨ nI 4 ≤ p) (h : post (-1000)) : wpX_form post (a1, a2, a3) p q := by
  unfold wpX_form
  exact mt_badN hp (br_f (by decide) h)
/-- what 'degree' answers: the largest size of a part of the form -/
def fq_deg (f : Nat → Bool) (n b : Nat) : Prop := b ≤ 6 ∧ (∀ v, v < n → fq_C f v = true → fq_pc v ≤ b) ∧ (b = 0 ∨ ∃ v, v < n ∧ fq_C f v = true ∧ fq_pc v = b)
theorem fq_deg_keep {f : Nat → Bool} {n b : Nat} (h : fq_deg f n b) (hn : fq_C f n = true → fq_pc n ≤ b) : fq_deg f (n + 1) b := by
  obtain ⟨h1, h2, h3⟩ := h
  refine ⟨h1, fun v hv hc => ?_, ?_⟩
  · by_cases e : v = n
    · subst e; exact hn hc
    · exact h2 v (by omega) hc
  · rcases h3 with h3 | ⟨v, hv, hc, hp⟩
    · exact Or.inl h3
    · exact Or.inr ⟨v, by omega, hc, hp⟩
theorem fq_deg_new {f : Nat → Bool} {n b : Nat} (h : fq_deg f n b) (hn : fq_C f n = true) (hb : b < fq_pc n) : fq_deg f (n + 1) (fq_pc n) := by
  obtain ⟨h1, h2, h3⟩ := h
  refine ⟨fq_pc_le n, fun v hv hc => ?_, Or.inr ⟨n, by omega, hn, rfl⟩⟩
  by_cases e : v = n
  · subst e; exact Nat.le_refl _
  · have := h2 v (by omega) hc
    omega
theorem mt_degree {post : Int32 → Prop} {t : Nat} (ht : t < 4) (h : ∀ b, fq_deg (wd_b (a1 t)) 64 b → post (nI b)) : wpX_degree post (a1, wd_low, a3) (nI t) := by
  unfold wpX_degree
  refine mt_bad ht (br_t rfl ⟨pk_in t 4 ht, ?_⟩)
  rw [nI_clamp (by omega)]
  refine mt_tr ?_
  refine pk_loop (fun n i b => wX_degree_29 post (wd_tt (a1 t) 6) a1 wd_low a3 n (nI b) (nI i)) (fun i b => fq_deg (wd_b (a1 t)) i b) 64 0 0 (by omega) ⟨by omega, fun v hv => absurd hv (by omega), Or.inl rfl⟩ ?_ ?_
  · exact fun n b hb => pk_le 64 64 (fun _ => h b hb) (fun z => absurd z (by omega))
  · intro n i b hi hb hw
    have hb6 := hb.1
    have hp6 := fq_pc_le i
    refine pk_le 64 i (fun z => absurd z (by omega)) (fun _ => mt_size hi (mt_digit hi ?_))
    rw [wd_tt_C _ hi]
    refine br_c (fun hd => pk_le (fq_pc i) b (fun z => nm_r (nI_1 i) (hw b (fq_deg_keep hb (fun _ => z)))) (fun z => nm_r (nI_1 i) (hw _ (fq_deg_new hb ((wd_d_1 _).mp hd) z)))) (fun hd => nm_r (nI_1 i) (hw b (fq_deg_keep hb (fun z => absurd ((wd_d_1 _).mpr z) hd))))
theorem mt_degreeN {post : Int32 → Prop} {p : Int32} (hp : p < 0 ∨ nI 4 ≤ p) (h : post (-1000)) : wpX_degree post (a1, a2, a3) p := by
  unfold wpX_degree
  exact mt_badN hp (br_f (by decide) h)
/-! moved, linear, ones -/
theorem mt_moved {post : Int64 → Prop} {w : Int64} {a : Nat} (ha : a < 64) (h : ∀ r, (∀ y, y < 64 → wd_b r y = wd_b w (y ^^^ a)) → post r) : wpX_moved post (a1, wd_low, a3) w (nI a) := by
  refine pk_loop (fun n i s => wX_moved_6 post (nI a) a1 wd_low a3 n s (nI i)) (fun i s => ∀ y, y < 64 → wd_b s y = wd_b w (y ^^^ a % 2 ^ i)) 6 0 w (by omega) (fun y _ => by rw [Nat.pow_zero, Nat.mod_one, Nat.xor_zero]) ?_ ?_
  · intro n s hs
    refine pk_le 6 6 (fun _ => h s (fun y hy => ?_)) (fun z => absurd z (by omega))
    rw [hs y hy, Nat.mod_eq_of_lt (show a < 2 ^ 6 from ha)]
  · intro n i s hi hs hw
    refine pk_le 6 i (fun z => absurd z (by omega)) (fun _ => ?_)
    rw [mt_bit i hi a ha]
    refine br_c (fun hd => ?_) (fun hd => nm_r (nI_1 i) (hw s (fun y hy => ?_)))
    · have hd' := (wd_d_1 _).mp hd
      refine nm_r (wd_1sh i hi) ⟨pk_in i 6 hi, pk_in i 6 hi, nm_r (e' := wd_m s i) (by rw [nI_clamp (by omega)]; rfl) (nm_r (nI_1 i) (hw _ (fun y hy => ?_)))⟩
      rw [wd_m_b hi y hy, hs _ (fq_xlt hy (wd_p2 i hi)), fq_mod_s, hd', if_pos rfl, Nat.xor_assoc, Nat.xor_comm (2 ^ i)]
    · have hd' : a.testBit i = false := by
        cases e : a.testBit i
        · rfl
        · exact absurd ((wd_d_1 _).mpr e) hd
      rw [hs y hy, fq_mod_s, hd', if_neg (by decide), Nat.xor_zero]
theorem mt_linear {post : Int64 → Prop} {b : Nat} (hb : b < 64) (h : ∀ r, post r) : wpX_linear post (a1, wd_low, a3) (nI b) :=
  pk_loop (fun n i s => wX_linear_5 post (nI b) a1 wd_low a3 n s (nI i)) (fun _ _ => True) 6 0 0 (by omega) trivial
    (fun n s _ => pk_le 6 6 (fun _ => h s) (fun z => absurd z (by omega)))
    (fun n i s hi _ hw => pk_le 6 i (fun z => absurd z (by omega)) (fun _ => br_c (fun _ => ⟨pk_in i 6 hi, nm_e (nm_r (nI_1 i) (hw _ trivial))⟩) (fun _ => nm_r (nI_1 i) (hw _ trivial))))
theorem mt_onesOf {post : Int32 → Prop} {w : Int64} (h : post (nI (fq_ct (wd_b w) 64))) : wpX_onesOf post (a1, wd_low, a3) w :=
  fun x3 h3 x5 h5 x7 h7 => ek_v (P := post) (wd_ones w x3 x5 x7 h3 h5 h7) h
theorem mt_ones {post : Int32 → Prop} {t : Nat} (ht : t < 4) (h : post (nI (fq_ct (wd_b (a1 t)) 64))) : wpX_ones post (a1, wd_low, a3) (nI t) := by
  unfold wpX_ones
  refine mt_bad ht (br_t rfl ⟨pk_in t 4 ht, ?_⟩)
  rw [nI_clamp (by omega)]
  exact mt_onesOf h
theorem mt_onesN {post : Int32 → Prop} {p : Int32} (hp : p < 0 ∨ nI 4 ≤ p) (h : post (-1000)) : wpX_ones post (a1, a2, a3) p := by
  unfold wpX_ones
  exact mt_badN hp (br_f (by decide) h)
theorem wd_O (w : Int64) : fq_O (wd_b w) = (fq_ct (wd_b w) 64 : Int) := by
  have : ∀ n, fq_sm (fq_fi (wd_b w)) n = (fq_ct (wd_b w) n : Int) := by
    intro n
    induction n with
    | zero => rfl
    | succ n ih =>
      rw [fq_s, fq_ct_s, ih]
      unfold fq_fi
      cases wd_b w n <;> simp
  exact this 64
/-! variables -/
def fq_vs (f : Nat → Bool) (n v : Nat) : Prop := v < 2 ^ n ∧ ∀ i, i < n → (v.testBit i = false ↔ ∀ x, x < 64 → f (x ^^^ 2 ^ i) = f x)
theorem fq_vs_keep {f : Nat → Bool} {n v : Nat} (h : fq_vs f n v) (hn : ∀ x, x < 64 → f (x ^^^ 2 ^ n) = f x) : fq_vs f (n + 1) v := by
  obtain ⟨h1, h2⟩ := h
  refine ⟨by rw [Nat.pow_succ]; omega, fun i hi => ?_⟩
  by_cases e : i = n
  · subst e
    exact ⟨fun _ => hn, fun _ => fq_bl h1⟩
  · exact h2 i (by omega)
theorem fq_vs_new {f : Nat → Bool} {n v : Nat} (h : fq_vs f n v) (hn : ¬ ∀ x, x < 64 → f (x ^^^ 2 ^ n) = f x) : fq_vs f (n + 1) (2 ^ n + v) := by
  obtain ⟨h1, h2⟩ := h
  refine ⟨by rw [Nat.pow_succ]; omega, fun i hi => ?_⟩
  by_cases e : i = n
  · subst e
    rw [fq_bh h1]
    exact ⟨fun z => absurd z (by decide), fun z => absurd z hn⟩
  · rw [Nat.testBit_two_pow_add_gt (by omega)]
    exact h2 i (by omega)
theorem mt_or : ∀ i, i < 6 → ∀ v, v < 64 → v < 2 ^ i → nI v ||| nI (2 ^ i) = nI (2 ^ i + v) := by decide +kernel
theorem mt_vars {post : Int32 → Prop} {t : Nat} (ht : t < 4) (h : ∀ v, fq_vs (wd_b (a1 t)) 6 v → post (nI v)) : wpX_variables post (a1, wd_low, a3) (nI t) := by
  unfold wpX_variables
  refine mt_bad ht (br_t rfl ?_)
  refine pk_loop (fun n i v => wX_variables_16 post (nI t) a1 wd_low a3 n (nI v) (nI i)) (fun i v => fq_vs (wd_b (a1 t)) i v) 6 0 0 (by omega) ⟨by decide, fun i hi => absurd hi (by omega)⟩ ?_ ?_
  · exact fun n v hv => pk_le 6 6 (fun _ => h v hv) (fun z => absurd z (by omega))
  · intro n i v hi hv hw
    refine pk_le 6 i (fun z => absurd z (by omega)) (fun _ => ⟨pk_in t 4 ht, ?_⟩)
    rw [nI_clamp (show t < 2 ^ 31 by omega), wd_1sh i hi]
    refine mt_moved (wd_p2 i hi) (fun r hr => ⟨pk_in t 4 ht, br_c (fun e => nm_r (nI_1 i) (hw v (fq_vs_keep hv (fun x hx => ?_)))) (fun e => nm_r (mt_or i hi v ?_ hv.1) (nm_r (nI_1 i) (hw _ (fq_vs_new hv (fun z => e ?_)))))⟩)
    · rw [← hr x hx, e]
    · have := wd_p2 i hi
      have := hv.1
      omega
    · exact wd_ext (fun x hx => by rw [hr x hx, z x hx])
end
end
section
/-! spread -/
theorem sp_c0_lt : ∀ i, i < 6 → ∀ j, j < 64 → fq_c0 i j < 64 := by decide +kernel
theorem sp_c0_b : ∀ i, i < 6 → ∀ j, j < 64 → (fq_c0 i j).testBit i = false := by decide +kernel
/-- the places where the inner loop has been, and where it hasn't -/
def sp_at (S : Nat → Int) (i x j : Nat) : Int := if fq_c0 i j < x then fq_st fq_kh S i j else S j
theorem sp_skip {S : Nat → Int} {i x j : Nat} (h : fq_c0 i j ≠ x) : sp_at S i (x + 1) j = sp_at S i x j := by
  unfold sp_at
  by_cases e : fq_c0 i j < x
  · rw [if_pos e, if_pos (by omega)]
  · rw [if_neg e, if_neg (by omega)]
theorem sp_which {i x j : Nat} (hi : i < 6) (hj : j < 64) (h : fq_c0 i j = x) : j = x ∨ j = x + 2 ^ i := by
  cases e : j.testBit i
  · left; rw [← h, (wd_lo i hi j hj e).2.1]
  · right
    obtain ⟨h1, -, h3, -⟩ := wd_hi i hi j hj e
    omega
theorem sp_step {S : Nat → Int} {s : Nat → Int32} {i x : Nat} (hi : i < 6) (hx : x < 64) (hb : x.testBit i = false) (hs : ∀ j, j < 64 → s j = Int32.ofInt (sp_at S i x j)) :
    ∀ j, j < 64 → upd (upd s x (s x + s (x + 2 ^ i))) (x + 2 ^ i) (s x - s (x + 2 ^ i)) j = Int32.ofInt (sp_at S i (x + 1) j) := by
  obtain ⟨-, h2, h3, -, h5, h6⟩ := wd_lo i hi x hx hb
  have hp : 0 < 2 ^ i := Nat.two_pow_pos i
  obtain ⟨-, -, g3, g4, -⟩ := wd_hi i hi (x + 2 ^ i) h5 h6
  rw [Nat.add_sub_cancel] at g3
  have e1 : s x = Int32.ofInt (S x) := by
    rw [hs x hx]; unfold sp_at; rw [h2, if_neg (by omega)]
  have e2 : s (x + 2 ^ i) = Int32.ofInt (S (x + 2 ^ i)) := by
    rw [hs _ h5]; unfold sp_at; rw [g3, if_neg (by omega)]
  intro j hj
  by_cases z2 : j = x + 2 ^ i
  · subst z2
    rw [pk_us, e1, e2, ← Int32.ofInt_sub]
    unfold sp_at fq_st
    rw [g3, g4, h6, if_pos (by omega)]
    congr 1
    show _ = 1 * S x + (-1) * S (x + 2 ^ i)
    omega
  · rw [pk_un z2]
    by_cases z1 : j = x
    · subst z1
      rw [pk_us, e1, e2, ← Int32.ofInt_add]
      unfold sp_at fq_st
      rw [h2, h3, hb, if_pos (by omega)]
      congr 1
      show _ = 1 * S j + 1 * S (j + 2 ^ i)
      omega
    · rw [pk_un z1, hs j hj, sp_skip (fun z => by rcases sp_which hi hj z with y | y <;> omega)]
section
variable {a1 a2 : Nat → Int64} {a3 : Nat → Int32}
theorem sp_14 {post : St1 → Prop} {J2 : Int32 → (Nat → Int64) → (Nat → Int64) → (Nat → Int32) → Prop} {S : Nat → Int} {i : Nat} (hi : i < 6) (hs : ∀ j, j < 64 → a3 j = Int32.ofInt (S j))
    (h : ∀ s, (∀ j, j < 64 → s j = Int32.ofInt (fq_st fq_kh S i j)) → J2 (nI (i + 1)) a1 a2 s) : ∃ n, wX_spread_14 post J2 (nI i) (nI (2 ^ i)) n 0 a1 a2 a3 := by
  refine pk_loop (fun n x s => wX_spread_14 post J2 (nI i) (nI (2 ^ i)) n (nI x) a1 a2 s) (fun x s => ∀ j, j < 64 → s j = Int32.ofInt (sp_at S i x j)) 64 0 a3 (by omega) (fun j hj => by rw [hs j hj]; unfold sp_at; rw [if_neg (by omega)]) ?_ ?_
  · intro n s hs
    refine pk_le 64 64 (fun _ => nm_r (nI_1 i) (h s (fun j hj => ?_))) (fun z => absurd z (by omega))
    rw [hs j hj]; unfold sp_at; rw [if_pos (sp_c0_lt i hi j hj)]
  · intro n x s hx hs hw
    refine pk_le 64 x (fun z => absurd z (by omega)) (fun _ => ?_)
    rw [mt_bit i hi x hx]
    cases hb : x.testBit i
    · obtain ⟨-, -, -, -, h5, -⟩ := wd_lo i hi x hx hb
      refine br_t rfl ?_
      rw [nI_add, nI_clamp (show x < 2 ^ 31 by omega), nI_clamp (show x + 2 ^ i < 2 ^ 31 by omega)]
      exact ⟨pk_in x 64 hx, nm_e ⟨pk_in (x + 2 ^ i) 64 h5, nm_e ⟨pk_in x 64 hx, nm_e ⟨pk_in (x + 2 ^ i) 64 h5, nm_e (nm_r (nI_1 x) (hw _ (sp_step hi hx hb hs)))⟩⟩⟩⟩
    · refine br_f (by decide) (nm_r (nI_1 x) (hw s (fun j hj => ?_)))
      rw [hs j hj, sp_skip (fun z => ?_)]
      have := sp_c0_b i hi j hj
      rw [z, hb] at this
      exact absurd this (by decide)
theorem sp_spread {post : St1 → Prop} {S : Nat → Int} (hs : ∀ j, j < 64 → a3 j = Int32.ofInt (S j)) (h : ∀ s, (∀ j, j < 64 → s j = Int32.ofInt (fq_wt S j)) → post (a1, a2, s)) : wpX_spread post (a1, a2, a3) := by
  refine pk_loop (fun n i s => wX_spread_2 post n (nI i) a1 a2 s) (fun i s => ∀ j, j < 64 → s j = Int32.ofInt (fq_tr fq_kh S i j)) 6 0 a3 (by omega) hs ?_ ?_
  · intro n s hs
    refine pk_le 6 6 (fun _ => h s (fun j hj => ?_)) (fun z => absurd z (by omega))
    rw [hs j hj, fq_tr6 _ _ hj]; rfl
  · intro n i s hi hs hw
    exact pk_le 6 i (fun z => absurd z (by omega)) (fun _ => nm_r (wd_1sh i hi) (sp_14 hi hs (fun s' hs' => hw s' hs')))
theorem sp_of {post : St1 → Prop} {t : Nat} (ht : t < 4) (h : ∀ s, (∀ j, j < 64 → s j = Int32.ofInt (fq_W (wd_b (a1 t)) j)) → post (a1, a2, s)) : wpX_spectrumOf post (a1, a2, a3) (nI t) := by
  refine pk_loop (fun n x s => wX_spectrumOf_2 post (nI t) n (nI x) a1 a2 s) (fun x s => ∀ j, j < x → s j = Int32.ofInt (fq_sg (wd_b (a1 t)) j)) 64 0 a3 (by omega) (fun j hj => absurd hj (by omega)) ?_ ?_
  · intro n s hs
    exact pk_le 64 64 (fun _ => sp_spread hs h) (fun z => absurd z (by omega))
  · intro n x s hx hs hw
    refine pk_le 64 x (fun z => absurd z (by omega)) (fun _ => ⟨pk_in t 4 ht, ?_⟩)
    rw [nI_clamp (show t < 2 ^ 31 by omega), nI_clamp (show x < 2 ^ 31 by omega)]
    refine mt_digit hx ⟨pk_in x 64 hx, nm_e (nm_r (nI_1 x) (hw _ (fun j hj => ?_)))⟩
    by_cases e : j = x
    · subst e
      rw [pk_us]
      unfold fq_sg
      cases wd_b (a1 t) j <;> decide
    · rw [pk_un e]; exact hs j (by omega)
theorem sp_mag {post : Int32 → Prop} {z : Int} (h1 : -1000000 ≤ z) (h2 : z ≤ 1000000) (h : post (nI z.natAbs)) : wpX_magnitude post (a1, a2, a3) (Int32.ofInt z) :=
  br_c (fun y => by rw [(mt_abs h1 h2).1 y]; exact h) (fun y => by rw [(mt_abs h1 h2).2 y]; exact h)
theorem sp_Wb (f : Nat → Bool) {a : Nat} (ha : a < 64) : -1000000 ≤ fq_W f a ∧ fq_W f a ≤ 1000000 ∧ (fq_W f a).natAbs ≤ 64 := by
  have := fq_W_b f ha
  omega
/-- the peak -/
def fq_pk (f : Nat → Bool) (n b : Nat) : Prop := b < n ∧ ∀ c, c < n → (fq_W f c).natAbs ≤ (fq_W f b).natAbs
theorem fq_pk_keep {f : Nat → Bool} {n b : Nat} (h : fq_pk f n b) (hn : (fq_W f n).natAbs ≤ (fq_W f b).natAbs) : fq_pk f (n + 1) b := by
  refine ⟨by have := h.1; omega, fun c hc => ?_⟩
  by_cases e : c = n
  · subst e; exact hn
  · exact h.2 c (by omega)
theorem fq_pk_new {f : Nat → Bool} {n b : Nat} (h : fq_pk f n b) (hn : (fq_W f b).natAbs < (fq_W f n).natAbs) : fq_pk f (n + 1) n := by
  refine ⟨by omega, fun c hc => ?_⟩
  by_cases e : c = n
  · subst e; exact Nat.le_refl _
  · have := h.2 c (by omega)
    omega
theorem sp_peak {post : Int32 → Prop} {f : Nat → Bool} (hs : ∀ j, j < 64 → a3 j = Int32.ofInt (fq_W f j)) (h : ∀ b, fq_pk f 64 b → post (nI b)) : wpX_peak post (a1, a2, a3) := by
  refine pk_loop (fun n a b => wX_peak_4 post a1 a2 a3 n (nI b) (nI a)) (fun a b => 1 ≤ a ∧ fq_pk f a b) 64 1 0 (by omega) ⟨by omega, by omega, fun c hc => by rw [show c = 0 by omega]; exact Nat.le_refl _⟩ ?_ ?_
  · exact fun n b hb => pk_le 64 64 (fun _ => h b hb.2) (fun z => absurd z (by omega))
  · intro n a b ha hb hw
    have hb1 := hb.2.1
    have hb64 : b < 64 := by omega
    obtain ⟨p1, p2, p3⟩ := sp_Wb f ha
    obtain ⟨q1, q2, q3⟩ := sp_Wb f hb64
    refine pk_le 64 a (fun z => absurd z (by omega)) (fun _ => ⟨pk_in a 64 ha, ?_⟩)
    rw [nI_clamp (show a < 2 ^ 31 by omega), nI_clamp (show b < 2 ^ 31 by omega), hs a ha, hs b hb64]
    refine sp_mag p1 p2 ⟨pk_in b 64 hb64, sp_mag q1 q2 ?_⟩
    exact pk_le (fq_W f a).natAbs (fq_W f b).natAbs (fun z => nm_r (nI_1 a) (hw b ⟨by omega, fq_pk_keep hb.2 z⟩)) (fun z => nm_r (nI_1 a) (hw a ⟨by omega, fq_pk_new hb.2 z⟩))
theorem sp_spectrum {post : Int32 → St1 → Prop} {t a : Nat} (ht : t < 4) (ha : a < 64) (h : ∀ s, post (Int32.ofInt (fq_W (wd_b (a1 t)) a)) (a1, a2, s)) : wpX_spectrum post (a1, a2, a3) (nI t) (nI a) := by
  unfold wpX_spectrum
  refine mt_bad ht (br_t rfl (mt_bp ha (br_t rfl (sp_of ht (fun s hs => ⟨pk_in a 64 ha, ?_⟩)))))
  rw [nI_clamp (by omega), hs a ha]
  exact h s
theorem sp_spectrumN {post : Int32 → St1 → Prop} {t : Nat} {q : Int32} (ht : t < 4) (hq : q < 0) (h : post (-1000) (a1, a2, a3)) : wpX_spectrum post (a1, a2, a3) (nI t) q := by
  unfold wpX_spectrum
  exact mt_bad ht (br_t rfl (mt_bpN (Or.inl hq) (br_f (by decide) h)))
theorem sp_nearest {post : Int32 → St1 → Prop} {t : Nat} (ht : t < 4) (h : ∀ b s, fq_pk (wd_b (a1 t)) 64 b → post (nI b) (a1, a2, s)) : wpX_nearest post (a1, a2, a3) (nI t) := by
  unfold wpX_nearest
  exact mt_bad ht (br_t rfl (sp_of ht (fun s hs => sp_peak hs (fun b hb => h b s hb))))
theorem sp_nearestN {post : Int32 → St1 → Prop} {p : Int32} (hp : p < 0 ∨ nI 4 ≤ p) (h : post (-1000) (a1, a2, a3)) : wpX_nearest post (a1, a2, a3) p := by
  unfold wpX_nearest
  exact mt_badN hp (br_f (by decide) h)
theorem sp_distance {post : Int32 → St1 → Prop} {t : Nat} (ht : t < 4) (h : ∀ b s, fq_pk (wd_b (a1 t)) 64 b → post (nI (32 - (fq_W (wd_b (a1 t)) b).natAbs / 2)) (a1, a2, s)) : wpX_distance post (a1, a2, a3) (nI t) := by
  unfold wpX_distance
  refine mt_bad ht (br_t rfl (sp_of ht (fun s hs => sp_peak hs (fun b hb => ⟨pk_in b 64 hb.1, ?_⟩))))
  have hb64 := hb.1
  obtain ⟨q1, q2, q3⟩ := sp_Wb (wd_b (a1 t)) hb64
  rw [nI_clamp (by omega), hs b hb64]
  refine sp_mag q1 q2 ⟨by decide, ?_⟩
  have e : (32 : Int32) - nI (fq_W (wd_b (a1 t)) b).natAbs / 2 = nI (32 - (fq_W (wd_b (a1 t)) b).natAbs / 2) := by
    have e1 : nI (fq_W (wd_b (a1 t)) b).natAbs / 2 = nI ((fq_W (wd_b (a1 t)) b).natAbs / 2) := pk_div (d := 2) (by omega) (by omega) (by omega)
    rw [e1]
    exact pk_sub (a := 32) (by omega)
  rw [e]
  exact h b s hb
/-- what 'immunity' answers, plus one -/
def fq_im (f : Nat → Bool) (n m : Nat) : Prop := 1 ≤ m ∧ m ≤ 7 ∧ (∀ a, 1 ≤ a → a < n → fq_W f a ≠ 0 → m ≤ fq_pc a) ∧ (m = 7 ∨ ∃ a, 1 ≤ a ∧ a < n ∧ fq_W f a ≠ 0 ∧ fq_pc a = m)
theorem fq_im_keep {f : Nat → Bool} {n m : Nat} (h : fq_im f n m) (hn : fq_W f n ≠ 0 → m ≤ fq_pc n) : fq_im f (n + 1) m := by
  obtain ⟨h0, h1, h2, h3⟩ := h
  refine ⟨h0, h1, fun v hv hc hd => ?_, ?_⟩
  · by_cases e : v = n
    · subst e; exact hn hd
    · exact h2 v hv (by omega) hd
  · rcases h3 with h3 | ⟨v, hv, hc, hp⟩
    · exact Or.inl h3
    · exact Or.inr ⟨v, hv, by omega, hp⟩
theorem fq_im_new {f : Nat → Bool} {n m : Nat} (h : fq_im f n m) (h1n : 1 ≤ n) (h64 : n < 64) (hn : fq_W f n ≠ 0) (hm : fq_pc n < m) : fq_im f (n + 1) (fq_pc n) := by
  obtain ⟨h0, h1, h2, h3⟩ := h
  refine ⟨fq_pc_pos n h64 h1n, by omega, fun v hv hc hd => ?_, Or.inr ⟨n, h1n, by omega, hn, rfl⟩⟩
  by_cases e : v = n
  · subst e; exact Nat.le_refl _
  · have := h2 v hv (by omega) hd
    omega
theorem sp_immunity {post : Int32 → St1 → Prop} {t : Nat} (ht : t < 4) (h : ∀ m s, fq_im (wd_b (a1 t)) 64 m → post (nI (m - 1)) (a1, a2, s)) : wpX_immunity post (a1, a2, a3) (nI t) := by
  unfold wpX_immunity
  refine mt_bad ht (br_t rfl (sp_of ht (fun s hs => ?_)))
  refine pk_loop (fun n a m => wX_immunity_22 post a1 a2 s n (nI m) (nI a)) (fun a m => 1 ≤ a ∧ fq_im (wd_b (a1 t)) a m) 64 1 7 (by omega) ⟨by omega, by omega, by omega, fun a h1 h2 => absurd h2 (by omega), Or.inl rfl⟩ ?_ ?_
  · intro n m hm
    refine pk_le 64 64 (fun _ => ?_) (fun z => absurd z (by omega))
    have e : nI m - 1 = nI (m - 1) := pk_sub (b := 1) hm.2.1
    rw [e]
    exact h m s hm.2
  · intro n a m ha hm hw
    have hm7 := hm.2.2.1
    have hp6 := fq_pc_le a
    obtain ⟨p1, p2, p3⟩ := sp_Wb (wd_b (a1 t)) ha
    refine pk_le 64 a (fun z => absurd z (by omega)) (fun _ => mt_size ha ⟨pk_in a 64 ha, ?_⟩)
    rw [nI_clamp (show a < 2 ^ 31 by omega), hs a ha]
    refine br_c (fun e => nm_r (nI_1 a) (hw m ⟨by omega, fq_im_keep hm.2 (fun z => absurd (mt_inj p1 p2 (by omega) (by omega) (e.trans (by rfl : (0 : Int32) = Int32.ofInt 0))) z)⟩)) (fun e => ?_)
    have hne : fq_W (wd_b (a1 t)) a ≠ 0 := fun z => e (by rw [z]; rfl)
    exact pk_le m (fq_pc a) (fun z => nm_r (nI_1 a) (hw m ⟨by omega, fq_im_keep hm.2 (fun _ => z)⟩)) (fun z => nm_r (nI_1 a) (hw _ ⟨by omega, fq_im_new hm.2 hm.1 ha hne z⟩))
/-! correlations -/
theorem sp_corr {post : St1 → Prop} {t : Nat} (ht : t < 4) (h : ∀ s, (∀ j, j < 64 → s j = Int32.ofInt (fq_R (wd_b (a1 t)) j)) → post (a1, a2, s)) : wpX_correlate post (a1, a2, a3) (nI t) := by
  unfold wpX_correlate
  refine sp_of ht (fun s hs => ?_)
  refine pk_loop (fun n x s => wX_correlate_7 post n (nI x) a1 a2 s) (fun x s => ∀ j, j < 64 → s j = Int32.ofInt (if j < x then fq_W (wd_b (a1 t)) j * fq_W (wd_b (a1 t)) j else fq_W (wd_b (a1 t)) j)) 64 0 s (by omega) (fun j hj => by rw [hs j hj, if_neg (by omega)]) ?_ ?_
  · intro n s hs
    refine pk_le 64 64 (fun _ => ?_) (fun z => absurd z (by omega))
    refine sp_spread (S := fun j => fq_W (wd_b (a1 t)) j * fq_W (wd_b (a1 t)) j) (fun j hj => by rw [hs j hj, if_pos hj]) (fun s hs => ?_)
    refine pk_loop (fun n x s => wX_correlate_44 post n (nI x) a1 a2 s) (fun x s => ∀ j, j < 64 → s j = Int32.ofInt (if j < x then fq_R (wd_b (a1 t)) j else 64 * fq_R (wd_b (a1 t)) j)) 64 0 s (by omega) (fun j hj => ?_) ?_ ?_
    · rw [hs j hj, if_neg (by omega)]
      congr 1
      exact fq_wk (fq_sg (wd_b (a1 t))) hj
    · intro n s hs
      exact pk_le 64 64 (fun _ => h s (fun j hj => by rw [hs j hj, if_pos hj])) (fun z => absurd z (by omega))
    · intro n x s hx hs hw
      refine pk_le 64 x (fun z => absurd z (by omega)) (fun _ => ⟨pk_in x 64 hx, by decide, pk_in x 64 hx, ?_⟩)
      rw [nI_clamp (show x < 2 ^ 31 by omega)]
      refine nm_e (nm_r (nI_1 x) (hw _ (fun j hj => ?_)))
      have hb := fq_R_b (wd_b (a1 t)) x
      by_cases e : j = x
      · subst e
        rw [pk_us, hs j hj, if_neg (by omega), if_pos (by omega), mt_div64 (by omega) (by omega)]
      · rw [pk_un e, hs j hj]
        by_cases g : j < x
        · rw [if_pos g, if_pos (by omega)]
        · rw [if_neg g, if_neg (by omega)]
  · intro n x s hx hs hw
    refine pk_le 64 x (fun z => absurd z (by omega)) (fun _ => ⟨pk_in x 64 hx, pk_in x 64 hx, pk_in x 64 hx, ?_⟩)
    rw [nI_clamp (show x < 2 ^ 31 by omega)]
    refine nm_e (nm_r (nI_1 x) (hw _ (fun j hj => ?_)))
    by_cases e : j = x
    · subst e
      rw [pk_us, hs j hj, if_neg (by omega), if_pos (by omega), ← Int32.ofInt_mul]
    · rw [pk_un e, hs j hj]
      by_cases g : j < x
      · rw [if_pos g, if_pos (by omega)]
      · rw [if_neg g, if_neg (by omega)]
theorem sp_auto {post : Int32 → St1 → Prop} {t a : Nat} (ht : t < 4) (ha : a < 64) (h : ∀ s, post (Int32.ofInt (fq_R (wd_b (a1 t)) a)) (a1, a2, s)) : wpX_autocorrelation post (a1, a2, a3) (nI t) (nI a) := by
  unfold wpX_autocorrelation
  refine mt_bad ht (br_t rfl (mt_bp ha (br_t rfl (sp_corr ht (fun s hs => ⟨pk_in a 64 ha, ?_⟩)))))
  rw [nI_clamp (by omega), hs a ha]
  exact h s
def fq_str (f : Nat → Bool) (n : Nat) : Nat := fq_ct (fun a => decide ((fq_R f a).natAbs = 64)) n
theorem sp_struct {post : Int32 → St1 → Prop} {t : Nat} (ht : t < 4) (h : ∀ s, post (nI (fq_str (wd_b (a1 t)) 64)) (a1, a2, s)) : wpX_structures post (a1, a2, a3) (nI t) := by
  unfold wpX_structures
  refine mt_bad ht (br_t rfl (sp_corr ht (fun s hs => ?_)))
  refine pk_loop (fun n a c => wX_structures_21 post a1 a2 s n (nI c) (nI a)) (fun a c => c = fq_str (wd_b (a1 t)) a) 64 0 0 (by omega) rfl ?_ ?_
  · intro n c hc
    refine pk_le 64 64 (fun _ => ?_) (fun z => absurd z (by omega))
    rw [hc]; exact h s
  · intro n a c ha hc hw
    have hb := fq_R_b (wd_b (a1 t)) a
    refine pk_le 64 a (fun z => absurd z (by omega)) (fun _ => ⟨pk_in a 64 ha, ?_⟩)
    rw [nI_clamp (show a < 2 ^ 31 by omega), hs a ha]
    refine sp_mag (by omega) (by omega) ?_
    refine pk_eq (fq_R (wd_b (a1 t)) a).natAbs 64 (fun z => nm_r (nI_1 c) (nm_r (nI_1 a) (hw _ ?_))) (fun z => nm_r (nI_1 a) (hw _ ?_))
    · rw [hc]
      show _ = fq_str (wd_b (a1 t)) a + (if decide ((fq_R (wd_b (a1 t)) a).natAbs = 64) then 1 else 0)
      rw [z]; rfl
    · rw [hc]
      show _ = fq_str (wd_b (a1 t)) a + (if decide ((fq_R (wd_b (a1 t)) a).natAbs = 64) then 1 else 0)
      rw [decide_eq_false z]; rfl
end
end
section
/-! what the answers say of each other -/
theorem fn_deg_vs {f : Nat → Bool} {d v : Nat} (h : fq_deg f 64 d) (hv : fq_vs f 6 v) : d ≤ fq_pc v := by
  rcases h.2.2 with z | ⟨u, hu, hc, hp⟩
  · omega
  · rw [← hp]
    apply fq_pc_mono
    intro i hi hb
    cases e : v.testBit i
    · rw [fq_dep hi hu hb ((hv.2 i hi).mp e)] at hc
      exact absurd hc (by decide)
    · rfl
theorem fn_con_inv {f : Nat → Bool} (h : fq_con f) {v : Nat} (hv : v < 64) : ∀ x, x < 64 → f (x ^^^ v) = f x := by
  intro x hx
  rw [fq_con_to h x hx, fq_con_to h _ (fq_xlt hx hv)]
theorem fn_vs_0 {f : Nat → Bool} (h : fq_con f) : fq_vs f 6 0 :=
  ⟨by decide, fun i hi => ⟨fun _ => fn_con_inv h (wd_p2 i hi), fun _ => Nat.zero_testBit i⟩⟩
theorem fn_deg_con {f : Nat → Bool} {d : Nat} (h : fq_deg f 64 d) : d = 0 ↔ fq_con f := by
  constructor
  · intro z
    apply fq_deg0
    intro u hu h1
    cases e : fq_C f u
    · rfl
    · have := h.2.1 u hu e
      have := fq_pc_pos u hu h1
      omega
  · intro z
    have := fn_deg_vs h (fn_vs_0 z)
    rw [fq_pc_0] at this
    omega
theorem fn_vs_con {f : Nat → Bool} {v : Nat} (h : fq_vs f 6 v) : v = 0 ↔ fq_con f := by
  constructor
  · intro z
    subst z
    apply fq_con_of
    intro x hx
    have := fq_inv (f := f) (v := 0) (a := x) (fun i hi e => (h.2 i hi).mp e) hx (Nat.and_zero x) 0 (by decide)
    rw [Nat.zero_xor] at this
    exact this
  · intro z
    apply Nat.eq_of_testBit_eq
    intro i
    rw [Nat.zero_testBit]
    rcases Nat.lt_or_ge i 6 with g | g
    · exact (h.2 i g).mpr (fn_con_inv z (wd_p2 i g))
    · exact Nat.testBit_lt_two_pow (Nat.lt_of_lt_of_le h.1 (Nat.pow_le_pow_right (by decide) g))
theorem fn_str_vs {f : Nat → Bool} {v : Nat} (h : fq_vs f 6 v) : 2 ^ (6 - fq_pc v) ≤ fq_str f 64 := by
  rw [← fq_free v h.1]
  apply fq_ct_mono
  intro a ha e
  have e' := of_decide_eq_true e
  apply decide_eq_true
  rw [fq_R_eq (fq_inv (fun i hi z => (h.2 i hi).mp z) ha e')]
  rfl
theorem fn_str_deg {f : Nat → Bool} {d : Nat} (h : fq_deg f 64 d) (hd : d ≤ 1) : fq_str f 64 = 64 := by
  apply fq_ct_all
  intro a ha
  apply decide_eq_true
  have hz : ∀ u, u < 64 → 2 ≤ fq_pc u → fq_C f u = false := by
    intro u hu h2
    cases e : fq_C f u
    · rfl
    · have := h.2.1 u hu e
      omega
  rcases fq_deg1_R hz ha with z | z <;> rw [z] <;> rfl
theorem fn_im_con {f : Nat → Bool} {m : Nat} (h : fq_im f 64 m) : m = 7 ↔ fq_con f := by
  rw [fq_imm]
  obtain ⟨h0, h1, h2, h3⟩ := h
  constructor
  · intro z a ha hb
    by_cases e : fq_W f a = 0
    · exact e
    · have := h2 a ha hb e
      have := fq_pc_le a
      omega
  · intro z
    rcases h3 with g | ⟨a, g1, g2, g3, g4⟩
    · exact g
    · exact absurd (z a g1 g2) g3
theorem fn_pk_8 {f : Nat → Bool} {b : Nat} (h : fq_pk f 64 b) : 8 ≤ (fq_W f b).natAbs := by
  have := fq_max (f := f) (m := ((fq_W f b).natAbs : Int)) (by omega) (fun a ha => by
    have := h.2 a ha
    omega)
  omega
theorem fn_pk_2 {f : Nat → Bool} {b c : Nat} (h : fq_pk f 64 b) (g : fq_pk f 64 c) : (fq_W f c).natAbs = (fq_W f b).natAbs := by
  have h1 := h.2 c g.1
  have h2 := g.2 b h.1
  omega
/-! the last checks of 'sound' -/
theorem so_f1 {c : Bool} (h : c = true) : (1 : Int32) = wd_d c := by rw [h]; rfl
theorem so_f0 {c : Bool} (h : ¬ c = true) : (0 : Int32) = wd_d c := by
  cases c
  · rfl
  · exact absurd rfl h
theorem so_sh : ∀ p, p < 7 → (1 : Int32) <<< ((6 - nI p) &&& 31) = nI (2 ^ (6 - p)) := by decide +kernel
theorem so_p7 : ∀ p, p < 7 → 2 ^ (6 - p) ≤ 64 := by decide
section
variable {post : Int32 → St1 → Prop} {a1 a2 : Nat → Int64} {a3 : Nat → Int32}
theorem so_406 {m : Nat} {c : Bool} (hm : m ≤ 6) (h : m = 6 ↔ c = true) (hp : post 1 (a1, a2, a3)) : wL_sound_406 post (nI m) (wd_d c) a1 a2 a3 :=
  pk_eq m 6 (fun z => br_t (so_f1 (h.mp z)) hp) (fun z => br_t (so_f0 (fun y => z (h.mpr y))) hp)
theorem so_363 {d m v st : Nat} {c : Bool} {z0 : Int32} (hd : d ≤ 6) (hm : m ≤ 6) (hv : v < 64) (hst : st ≤ 64) (e : z0 = wd_d c) (h1 : d ≤ fq_pc v) (h2 : 2 ^ (6 - fq_pc v) ≤ st) (h3 : d ≤ 1 → st = 64) (h4 : m = 6 ↔ c = true) (hp : post 1 (a1, a2, a3)) :
    wL_sound_363 post (nI d) (nI m) (nI v) (nI st) (wd_d c) z0 a1 a2 a3 := by
  have h6 := fq_pc_le v
  have h7 := so_p7 (fq_pc v) (by omega)
  refine br_t e (mt_lsize hv (pk_lt (fq_pc v) d (fun z => absurd z (by omega)) (fun _ => mt_lsize hv ?_)))
  rw [so_sh _ (by omega)]
  exact pk_lt st (2 ^ (6 - fq_pc v)) (fun z => absurd z (by omega)) (fun _ => pk_lt 1 d (fun _ => so_406 hm h4 hp) (fun z => pk_eq st 64 (fun _ => so_406 hm h4 hp) (fun y => absurd (h3 z) y)))
theorem so_348 {d m v st : Nat} {c : Bool} {z0 : Int32} (hd : d ≤ 6) (hm : m ≤ 6) (hv : v < 64) (hst : st ≤ 64) (e : z0 = wd_d c) (h0 : v = 0 ↔ c = true) (h1 : d ≤ fq_pc v) (h2 : 2 ^ (6 - fq_pc v) ≤ st) (h3 : d ≤ 1 → st = 64) (h4 : m = 6 ↔ c = true) (hp : post 1 (a1, a2, a3)) :
    wL_sound_348 post (nI d) (nI m) (nI v) (nI st) (wd_d c) z0 a1 a2 a3 :=
  br_t e (pk_eq v 0 (fun z => so_363 hd hm hv hst (so_f1 (h0.mp z)) h1 h2 h3 h4 hp) (fun z => so_363 hd hm hv hst (so_f0 (fun y => z (h0.mpr y))) h1 h2 h3 h4 hp))
theorem so_304 {D A d m v st : Nat} {c : Bool} (hD : D ≤ 32) (hA : A ≤ 64 - 2 * D) (hd : d ≤ 6) (hm : m ≤ 6) (hv : v < 64) (hst : st ≤ 64) (h5 : d = 0 ↔ c = true) (h0 : v = 0 ↔ c = true) (h1 : d ≤ fq_pc v) (h2 : 2 ^ (6 - fq_pc v) ≤ st) (h3 : d ≤ 1 → st = 64) (h4 : m = 6 ↔ c = true) (hp : post 1 (a1, a2, a3)) :
    wL_sound_304 post (nI D) (nI d) (nI m) (nI v) (nI st) (wd_d c) (nI A) a1 a2 a3 := by
  have e : (64 : Int32) - 2 * nI D = nI (64 - 2 * D) := by
    have e1 : (2 : Int32) * nI D = nI (2 * D) := pk_mul 2 D
    rw [e1]
    exact pk_sub (a := 64) (by omega)
  unfold wL_sound_304
  rw [e]
  exact pk_lt (64 - 2 * D) A (fun z => absurd z (by omega)) (fun _ => pk_lt d 0 (fun z => absurd z (by omega)) (fun _ => pk_lt 6 d (fun z => absurd z (by omega)) (fun _ =>
    pk_lt m 0 (fun z => absurd z (by omega)) (fun _ => pk_lt 6 m (fun z => absurd z (by omega)) (fun _ =>
    pk_eq d 0 (fun z => so_348 hd hm hv hst (so_f1 (h5.mp z)) h0 h1 h2 h3 h4 hp) (fun z => so_348 hd hm hv hst (so_f0 (fun y => z (h5.mpr y))) h0 h1 h2 h3 h4 hp))))))
theorem so_281 {D d m v st : Nat} {A : Int} {c : Bool} (hD : D ≤ 32) (hA : A.natAbs ≤ 64 - 2 * D) (hd : d ≤ 6) (hm : m ≤ 6) (hv : v < 64) (hst : st ≤ 64) (h5 : d = 0 ↔ c = true) (h0 : v = 0 ↔ c = true) (h1 : d ≤ fq_pc v) (h2 : 2 ^ (6 - fq_pc v) ≤ st) (h3 : d ≤ 1 → st = 64) (h4 : m = 6 ↔ c = true) (hp : post 1 (a1, a2, a3)) :
    wL_sound_281 post (Int32.ofInt A) (nI D) (nI d) (nI m) (nI v) (nI st) (wd_d c) (nI (64 - 2 * D)) a1 a2 a3 := by
  have e : (64 : Int32) - 2 * nI D = nI (64 - 2 * D) := by
    have e1 : (2 : Int32) * nI D = nI (2 * D) := pk_mul 2 D
    rw [e1]
    exact pk_sub (a := 64) (by omega)
  have ab := mt_abs (z := A) (by omega) (by omega)
  unfold wL_sound_281
  rw [e]
  exact br_t rfl (br_c (fun y => by rw [ab.1 y]; exact so_304 hD hA hd hm hv hst h5 h0 h1 h2 h3 h4 hp) (fun y => by rw [ab.2 y]; exact so_304 hD hA hd hm hv hst h5 h0 h1 h2 h3 h4 hp))
theorem so_254 {D d m v st : Nat} {A B : Int} {c : Bool} (hD : D ≤ 28) (hB : B.natAbs = 64 - 2 * D) (hA : A.natAbs ≤ 64 - 2 * D) (hd : d ≤ 6) (hm : m ≤ 6) (hv : v < 64) (hst : st ≤ 64) (h5 : d = 0 ↔ c = true) (h0 : v = 0 ↔ c = true) (h1 : d ≤ fq_pc v) (h2 : 2 ^ (6 - fq_pc v) ≤ st) (h3 : d ≤ 1 → st = 64) (h4 : m = 6 ↔ c = true) (hp : post 1 (a1, a2, a3)) :
    wL_sound_254 post (Int32.ofInt A) (nI D) (nI d) (nI m) (nI v) (nI st) (Int32.ofInt B) (wd_d c) a1 a2 a3 := by
  have ab := mt_abs (z := B) (by omega) (by omega)
  rw [hB] at ab
  exact pk_lt D 0 (fun z => absurd z (by omega)) (fun _ => pk_lt 28 D (fun z => absurd z (by omega)) (fun _ =>
    br_c (fun y => by rw [ab.1 y]; exact so_281 (by omega) hA hd hm hv hst h5 h0 h1 h2 h3 h4 hp) (fun y => by rw [ab.2 y]; exact so_281 (by omega) hA hd hm hv hst h5 h0 h1 h2 h3 h4 hp)))
/-- all the last checks, at a table -/
theorem so_239 {f : Nat → Bool} {a b b2 d m v : Nat} (ha : a < 64) (hb : fq_pk f 64 b) (hb2 : fq_pk f 64 b2) (hd : fq_deg f 64 d) (hm : fq_im f 64 m) (hv : fq_vs f 6 v) (hp : post 1 (a1, a2, a3)) :
    wL_sound_239 post (Int32.ofInt (fq_O f)) (Int32.ofInt (fq_W f a)) (nI (32 - (fq_W f b).natAbs / 2)) (nI d) (nI (m - 1)) (nI v) (nI (fq_str f 64)) (Int32.ofInt (fq_W f b2)) a1 a2 a3 := by
  have hM := fn_pk_8 hb
  have hW := fq_W_b f hb.1
  have hE := fq_W_e f hb.1
  have hM2 := fn_pk_2 hb hb2
  have hA := hb.2 a ha
  have hO := fq_O_b f
  have hm1 := hm.1
  have hm2 := hm.2.1
  have hc1 := fn_deg_con hd
  have hc2 := fn_vs_con hv
  have hc3 := fn_im_con hm
  have hst : fq_str f 64 ≤ 64 := fq_ct_le _ 64
  have go : ∀ c : Bool, (c = true ↔ fq_con f) → wL_sound_254 post (Int32.ofInt (fq_W f a)) (nI (32 - (fq_W f b).natAbs / 2)) (nI d) (nI (m - 1)) (nI v) (nI (fq_str f 64)) (Int32.ofInt (fq_W f b2)) (wd_d c) a1 a2 a3 := by
    intro c hc
    refine so_254 (by omega) (by omega) (by omega) hd.1 (by omega) hv.1 hst (hc1.trans hc.symm) (hc2.trans hc.symm) (fn_deg_vs hd hv) (fn_str_vs hv) (fn_str_deg hd) ?_ hp
    rw [hc, ← hc3]
    omega
  refine br_c (fun z => ?_) (fun z => br_c (fun y => ?_) (fun y => ?_))
  · have e : fq_O f = 0 := mt_inj (by omega) (by omega) (by omega) (by omega) (z.trans (by rfl : (0 : Int32) = Int32.ofInt 0))
    exact go true ⟨fun _ => Or.inl e, fun _ => rfl⟩
  · have e : fq_O f = 64 := mt_inj (by omega) (by omega) (by omega) (by omega) (y.trans (by rfl : (64 : Int32) = Int32.ofInt 64))
    exact go true ⟨fun _ => Or.inr e, fun _ => rfl⟩
  · refine go false ⟨fun t => absurd t (by decide), fun t => ?_⟩
    rcases t with t | t
    · exact absurd (by rw [t]; rfl) z
    · exact absurd (by rw [t]; rfl) y
end
end
section
theorem so_and (a b : Nat) : nI a &&& nI b = nI (a &&& b) := by
  apply Int32.toBitVec_inj.1
  show BitVec.ofNat 32 a &&& BitVec.ofNat 32 b = BitVec.ofNat 32 (a &&& b)
  apply BitVec.eq_of_getLsbD_eq
  intro i hi
  simp [hi]
theorem so_xor (a b : Nat) : nI a ^^^ nI b = nI (a ^^^ b) := by
  apply Int32.toBitVec_inj.1
  show BitVec.ofNat 32 a ^^^ BitVec.ofNat 32 b = BitVec.ofNat 32 (a ^^^ b)
  apply BitVec.eq_of_getLsbD_eq
  intro i hi
  simp [hi]
theorem so_not : ∀ a, a < 64 → ∀ x, x < 64 → nI x &&& (nI a ^^^ (-1)) = nI (x &&& (63 ^^^ a)) := by decide +kernel
theorem so_p1 : ∀ p, p < 7 → nI p &&& 1 = wd_d (decide (p % 2 = 1)) := by decide +kernel
theorem so_dx : ∀ b c : Bool, wd_d b ^^^ wd_d c = wd_d (b ^^ c) := by decide
theorem so_de : ∀ b c : Bool, wd_d b = wd_d c ↔ b = c := by decide
/-- the four sums that 'sound' keeps -/
def so_O (f : Nat → Bool) (x : Nat) : Int32 := Int32.ofInt (fq_sm (fq_fi f) x)
def so_W (f : Nat → Bool) (a x : Nat) : Int32 := Int32.ofInt (fq_sm (fun x => fq_ch a x * fq_sg f x) x)
def so_R (f : Nat → Bool) (a x : Nat) : Int32 := Int32.ofInt (fq_sm (fun x => fq_sg f x * fq_sg f (x ^^^ a)) x)
def so_C (f : Nat → Bool) (a x : Nat) : Int32 := wd_d (decide (fq_sm (fun x => fq_mo a x * fq_fi f x) x % 2 = 1))
theorem so_O_s (f : Nat → Bool) (x : Nat) : so_O f x + wd_d (f x) = so_O f (x + 1) := by
  unfold so_O
  rw [fq_s, Int32.ofInt_add, wd_d_i]; rfl
theorem so_W_s (f : Nat → Bool) {a x : Nat} (ha : a < 64) (hx : x < 64) : (f x = decide (fq_pc (a &&& x) % 2 = 1) → so_W f a x + 1 = so_W f a (x + 1)) ∧ (¬ f x = decide (fq_pc (a &&& x) % 2 = 1) → so_W f a x - 1 = so_W f a (x + 1)) := by
  unfold so_W
  rw [fq_s, fq_pc_ch a ha x hx]
  unfold fq_sg
  by_cases e : fq_pc (a &&& x) % 2 = 1
  · rw [if_pos e, decide_eq_true e]
    cases h : f x
    · exact ⟨fun z => absurd z (by decide), fun _ => (Int32.ofInt_sub _ 1).symm⟩
    · exact ⟨fun _ => (Int32.ofInt_add _ 1).symm, fun z => absurd rfl z⟩
  · rw [if_neg e, decide_eq_false e]
    cases h : f x
    · exact ⟨fun _ => (Int32.ofInt_add _ 1).symm, fun z => absurd rfl z⟩
    · exact ⟨fun z => absurd z (by decide), fun _ => (Int32.ofInt_sub _ 1).symm⟩
theorem so_R_s (f : Nat → Bool) (a x : Nat) : (f x = f (x ^^^ a) → so_R f a x + 1 = so_R f a (x + 1)) ∧ (¬ f x = f (x ^^^ a) → so_R f a x - 1 = so_R f a (x + 1)) := by
  unfold so_R
  rw [fq_s]
  unfold fq_sg
  cases h : f x <;> cases g : f (x ^^^ a)
  · exact ⟨fun _ => (Int32.ofInt_add _ 1).symm, fun z => absurd rfl z⟩
  · exact ⟨fun z => absurd z (by decide), fun _ => (Int32.ofInt_sub _ 1).symm⟩
  · exact ⟨fun z => absurd z (by decide), fun _ => (Int32.ofInt_sub _ 1).symm⟩
  · exact ⟨fun _ => (Int32.ofInt_add _ 1).symm, fun z => absurd rfl z⟩
theorem so_C_s (f : Nat → Bool) {a x : Nat} (ha : a < 64) (hx : x < 64) : (x &&& (63 ^^^ a) = 0 → so_C f a x ^^^ wd_d (f x) = so_C f a (x + 1)) ∧ (¬ x &&& (63 ^^^ a) = 0 → so_C f a x = so_C f a (x + 1)) := by
  unfold so_C
  rw [fq_s, fq_mo_v a ha x hx, fq_bp]
  by_cases e : x &&& (63 ^^^ a) = 0
  · refine ⟨fun _ => ?_, fun z => absurd e z⟩
    rw [if_pos e, Int.one_mul, ← fq_fi_p, so_dx]
  · refine ⟨fun z => absurd z e, fun _ => ?_⟩
    rw [if_neg e, Int.zero_mul]
    show _ = wd_d (_ ^^ false)
    rw [Bool.xor_false]
section
variable {post : Int32 → St1 → Prop} {a1 : Nat → Int64} {a3 : Nat → Int32}
theorem so_108 {J : Int32 → Int32 → Int32 → Int32 → Int32 → Prop} {x1 x2 x3 x4 x5 z0 : Int32} {x : Nat} {b : Bool} (h : J x3 x4 x5 z0 (nI (x + 1))) : wL_sound_108 post J x1 x2 x3 x4 x5 (nI x) (wd_d b) z0 a1 wd_low a3 := by
  cases b
  · exact br_f (by decide) (br_t (by decide) (nm_r (nI_1 x) h))
  · exact br_f (by decide) (br_t (by decide) (nm_r (nI_1 x) h))
theorem so_87 {J : Int32 → Int32 → Int32 → Int32 → Int32 → Prop} {x1 x3 x4 x5 : Int32} {a x : Nat} {f : Nat → Bool} (ha : a < 64) (hx : x < 64) (h : J x3 x4 x5 (so_C f a (x + 1)) (nI (x + 1))) :
    wL_sound_87 post J x1 (nI a) x3 x4 (so_C f a x) (nI x) (wd_d (f x)) x5 a1 wd_low a3 := by
  have hs := so_C_s f ha hx
  unfold wL_sound_87
  rw [so_not a ha x hx]
  have hlt : x &&& (63 ^^^ a) < 2 ^ 31 := Nat.lt_of_le_of_lt Nat.and_le_left (by omega)
  refine pk_eq (x &&& (63 ^^^ a)) 0 (fun z => ?_) (fun z => ?_)
  · rw [hs.1 z]; exact so_108 h
  · rw [hs.2 z]; exact so_108 h
theorem so_60 {J : Int32 → Int32 → Int32 → Int32 → Int32 → Prop} {x3 x4 : Int32} {t a x : Nat} (ht : t < 4) (ha : a < 64) (hx : x < 64) (h : J x3 x4 (so_R (wd_b (a1 t)) a (x + 1)) (so_C (wd_b (a1 t)) a (x + 1)) (nI (x + 1))) :
    wL_sound_60 post J (nI t) (nI a) x3 (so_R (wd_b (a1 t)) a x) (so_C (wd_b (a1 t)) a x) (nI x) (wd_d (wd_b (a1 t) x)) x4 a1 wd_low a3 := by
  have hs := so_R_s (wd_b (a1 t)) a x
  unfold wL_sound_60
  rw [so_xor]
  refine mt_value ht (fq_xlt hx ha) (br_c (fun z => ?_) (fun z => ?_))
  · rw [hs.1 ((so_de _ _).mp z)]; exact so_87 ha hx h
  · rw [hs.2 (fun y => z ((so_de _ _).mpr y))]; exact so_87 ha hx h
/-- the law's 'sound' answers 1, and changes 'sums' alone -/
theorem so_sound {t a : Nat} (ht : t < 4) (ha : a < 64) (h : ∀ s, post 1 (a1, wd_low, s)) : wpL_sound post (a1, wd_low, a3) (nI t) (nI a) := by
  refine pk_loop (σ := Unit) (fun n x _ => wL_sound_14 post (nI t) (nI a) a1 wd_low a3 n (so_O (wd_b (a1 t)) x) (so_W (wd_b (a1 t)) a x) (so_R (wd_b (a1 t)) a x) (so_C (wd_b (a1 t)) a x) (nI x)) (fun _ _ => True) 64 0 () (by omega) trivial ?_ ?_
  · intro n _ _
    refine pk_le 64 64 (fun _ => ?_) (fun z => absurd z (by omega))
    refine sp_distance ht (fun b s1 hb => ?_)
    refine sp_nearest ht (fun b2 s2 hb2 => ?_)
    refine mt_degree ht (fun d hd => ?_)
    refine sp_immunity ht (fun m s3 hm => ?_)
    refine mt_vars ht (fun v hv => ?_)
    refine sp_struct ht (fun s4 => ?_)
    refine sp_spectrum ht hb2.1 (fun s5 => ?_)
    refine mt_ones ht (br_t ?_ ?_)
    · show nI _ = Int32.ofInt (fq_O (wd_b (a1 t)))
      rw [wd_O, mt_nat]
    · refine sp_spectrum ht ha (fun s6 => br_t rfl ?_)
      refine sp_auto ht ha (fun s7 => br_t rfl ?_)
      refine mt_form ht ha (br_t rfl ?_)
      have e : wL_sound_239 post (so_O (wd_b (a1 t)) 64) (so_W (wd_b (a1 t)) a 64) (nI (32 - (fq_W (wd_b (a1 t)) b).natAbs / 2)) (nI d) (nI (m - 1)) (nI v) (nI (fq_str (wd_b (a1 t)) 64)) (Int32.ofInt (fq_W (wd_b (a1 t)) b2)) a1 wd_low s7 := so_239 ha hb hb2 hd hm hv (h s7)
      refine br_c (fun z => mt_lsize ha ?_) (fun _ => e)
      have z2 : fq_C (wd_b (a1 t)) a = true := (wd_d_1 _).mp z
      have hd6 := hd.1
      have hp6 := fq_pc_le a
      exact pk_le (fq_pc a) d (fun _ => e) (fun y => absurd (hd.2.1 a ha z2) (by omega))
  · intro n x _ hx _ hw
    have hp : fq_pc (a &&& x) < 7 := by have := fq_pc_le (a &&& x); omega
    have hs := so_W_s (wd_b (a1 t)) ha hx
    refine pk_le 64 x (fun z => absurd z (by omega)) (fun _ => mt_value ht hx (nm_r (so_O_s _ x) ?_))
    rw [so_and]
    refine mt_lsize (Nat.lt_of_le_of_lt Nat.and_le_left ha) ?_
    rw [so_p1 _ hp]
    refine br_c (fun z => ?_) (fun z => ?_)
    · rw [hs.1 ((so_de _ _).mp z)]; exact so_60 ht ha hx (hw () trivial)
    · rw [hs.2 (fun y => z ((so_de _ _).mpr y))]; exact so_60 ht ha hx (hw () trivial)
end
end
section
/-! what fits -/
def la_T (p : Int32) : Prop := ¬ p < 0 ∧ ¬ 3 < p
def la_P (p : Int32) : Prop := ¬ p < 0 ∧ ¬ 63 < p
def la_B (p : Int32) : Prop := p = 0 ∨ p = 1
def la_fits (o : Nat) (x y z w : Int32) : Prop := la_T x ∧ (if o < 6 then la_P y ∧ la_B z else if o < 10 then la_P y else if o < 13 then la_T y ∧ la_T z ∧ la_T w else la_T y ∧ la_P z ∧ la_P w)
theorem la_fits0 {o : Nat} {x y z w : Int32} (h : o < 6) : la_fits o x y z w ↔ la_T x ∧ la_P y ∧ la_B z := by
  unfold la_fits; rw [if_pos h]
theorem la_fits1 {o : Nat} {x y z w : Int32} (h : 6 ≤ o) (h2 : o < 10) : la_fits o x y z w ↔ la_T x ∧ la_P y := by
  unfold la_fits; rw [if_neg (by omega), if_pos h2]
theorem la_fits2 {o : Nat} {x y z w : Int32} (h : 10 ≤ o) (h2 : o < 13) : la_fits o x y z w ↔ la_T x ∧ la_T y ∧ la_T z ∧ la_T w := by
  unfold la_fits; rw [if_neg (by omega), if_neg (by omega), if_pos h2]
theorem la_fits3 {o : Nat} {x y z w : Int32} (h : 13 ≤ o) : la_fits o x y z w ↔ la_T x ∧ la_T y ∧ la_P z ∧ la_P w := by
  unfold la_fits; rw [if_neg (by omega), if_neg (by omega), if_neg (by omega)]
theorem la_T_n {t : Nat} (h : t < 4) : la_T (nI t) := ⟨nI_pos (by omega), nI_nlt (a := 3) (b := t) (by omega) (by decide)⟩
theorem la_P_n {t : Nat} (h : t < 64) : la_P (nI t) := ⟨nI_pos (by omega), nI_nlt (a := 63) (b := t) (by omega) (by decide)⟩
theorem la_T_c (p : Int32) : (∃ t, t < 4 ∧ p = nI t) ∨ ((p < 0 ∨ nI 4 ≤ p) ∧ ¬ la_T p) := by
  rcases pk_ix p (n := 4) (by decide) with z | z | z
  · exact Or.inr ⟨Or.inl z, fun h => h.1 z⟩
  · refine Or.inr ⟨Or.inr z, fun h => h.2 ?_⟩
    rw [Int32.le_iff_toInt_le] at z
    rw [Int32.lt_iff_toInt_lt]
    have e : (nI 4).toInt = 4 := by decide
    have e' : (3 : Int32).toInt = 3 := by decide
    omega
  · exact Or.inl z
theorem la_P_c (p : Int32) : (∃ t, t < 64 ∧ p = nI t) ∨ ((p < 0 ∨ nI 64 ≤ p) ∧ ¬ la_P p) := by
  rcases pk_ix p (n := 64) (by decide) with z | z | z
  · exact Or.inr ⟨Or.inl z, fun h => h.1 z⟩
  · refine Or.inr ⟨Or.inr z, fun h => h.2 ?_⟩
    rw [Int32.le_iff_toInt_le] at z
    rw [Int32.lt_iff_toInt_lt]
    have e : (nI 64).toInt = 64 := by decide
    have e' : (63 : Int32).toInt = 63 := by decide
    omega
  · exact Or.inl z
section
variable {post : Int32 → St1 → Prop} {a1 : Nat → Int64} {a3 : Nat → Int32}
theorem la_put {p q r : Int32} (hN : ¬ (la_T p ∧ la_P q ∧ la_B r) → post (-1000) (a1, wd_low, a3))
    (hY : ∀ t x v, t < 4 → x < 64 → v < 2 → p = nI t → q = nI x → r = nI v → ∀ b1, wd_d (wd_b (b1 t) x) = nI v → post (wd_d (wd_b (a1 t) x)) (b1, wd_low, a3)) :
    wpX_put post (a1, wd_low, a3) p q r := by
  unfold wpX_put
  rcases la_T_c p with ⟨t, ht, rfl⟩ | ⟨z, z2⟩
  · refine mt_bad ht (br_t rfl ?_)
    rcases la_P_c q with ⟨x, hx, rfl⟩ | ⟨z, z2⟩
    · refine mt_bp hx (br_t rfl ?_)
      rcases pk_ix r (n := 2) (by decide) with z | z | ⟨v, hv, rfl⟩
      · refine br_t z (hN (fun h => ?_))
        rcases h.2.2 with y | y <;> (rw [y] at z; exact absurd z (by decide))
      · have e : ¬ r ≤ 1 := by
          rw [Int32.le_iff_toInt_le] at z ⊢
          have e : (nI 2).toInt = 2 := by decide
          have e' : (1 : Int32).toInt = 1 := by decide
          omega
        refine br_c (fun _ => hN (fun h => ?_)) (fun _ => br_f e (hN (fun h => ?_)))
        · rcases h.2.2 with y | y <;> (rw [y] at e; exact absurd (by decide) e)
        · rcases h.2.2 with y | y <;> (rw [y] at e; exact absurd (by decide) e)
      · refine pk_lt v 0 (fun z => absurd z (by omega)) (fun _ => pk_le v 1 (fun _ => ⟨pk_in t 4 ht, ?_⟩) (fun z => absurd z (by omega)))
        rw [nI_clamp (by omega)]
        refine mt_digit hx (br_c (fun e => hY t x v ht hx hv rfl rfl rfl a1 e) (fun e => ⟨pk_in t 4 ht, pk_in t 4 ht, nm_e (hY t x v ht hx hv rfl rfl rfl _ ?_)⟩))
        rw [pk_uLs, wd_flip _ hx]
        rcases (show v = 0 ∨ v = 1 by omega) with g | g
        · subst g
          cases h : wd_b (a1 t) x
          · rw [h] at e; exact absurd rfl e
          · rfl
        · subst g
          cases h : wd_b (a1 t) x
          · rfl
          · rw [h] at e; exact absurd rfl e
    · exact mt_bpN z (br_f (by decide) (hN (fun h => z2 h.2.1)))
  · exact mt_badN z (br_f (by decide) (hN (fun h => z2 h.1)))
theorem la_turnForm {p q : Int32} (hN : ¬ (la_T p ∧ la_P q) → post (-1000) (a1, wd_low, a3))
    (hY : la_T p ∧ la_P q → ∀ t, t < 4 → p = nI t → ∀ b1, post (nI (fq_ct (wd_b (b1 t)) 64)) (b1, wd_low, a3)) :
    wpX_turnForm post (a1, wd_low, a3) p q := by
  unfold wpX_turnForm
  rcases la_T_c p with ⟨t, ht, rfl⟩ | ⟨z, z2⟩
  · refine mt_bad ht (br_t rfl ?_)
    rcases la_P_c q with ⟨x, hx, rfl⟩ | ⟨z, z2⟩
    · refine mt_bp hx (br_t rfl ?_)
      refine mt_tr ⟨pk_in t 4 ht, pk_in t 4 ht, nm_e ⟨pk_in t 4 ht, ?_⟩⟩
      rw [nI_clamp (by omega)]
      exact mt_onesOf (hY ⟨la_T_n ht, la_P_n hx⟩ t ht rfl _)
    · exact mt_bpN z (br_f (by decide) (hN (fun h => z2 h.2)))
  · exact mt_badN z (br_f (by decide) (hN (fun h => z2 h.1)))
theorem la_126 {t : Nat} (ht : t < 4) {b1 : Nat → Int64} (hY : ∀ b1, post (nI (fq_ct (wd_b (b1 t)) 64)) (b1, wd_low, a3)) : wX_combine_126 post (nI t) b1 wd_low a3 := by
  refine ⟨pk_in t 4 ht, ?_⟩
  rw [nI_clamp (by omega)]
  exact mt_onesOf (hY _)
theorem la_combine {p q r s : Int32} (hN : ¬ (la_T p ∧ la_T q ∧ la_T r ∧ la_T s) → post (-1000) (a1, wd_low, a3))
    (hY : la_T p ∧ la_T q ∧ la_T r ∧ la_T s → ∀ t, t < 4 → p = nI t → ∀ b1, post (nI (fq_ct (wd_b (b1 t)) 64)) (b1, wd_low, a3)) :
    wpX_combine post (a1, wd_low, a3) p q r s := by
  unfold wpX_combine
  rcases la_T_c p with ⟨t, ht, rfl⟩ | ⟨z, z2⟩
  · refine mt_bad ht (br_t rfl ?_)
    refine br_c (fun c => hN (fun h => h.2.1.1 c)) (fun c1 => br_c (fun c => hN (fun h => h.2.1.2 c)) (fun c2 => ?_))
    rcases la_T_c r with ⟨x, hx, rfl⟩ | ⟨z, z2⟩
    · refine mt_bad hx (br_t rfl ?_)
      rcases la_T_c s with ⟨y, hy, rfl⟩ | ⟨z, z2⟩
      · refine mt_bad hy (br_t rfl ?_)
        have H := hY ⟨la_T_n ht, ⟨c1, c2⟩, la_T_n hx, la_T_n hy⟩ t ht rfl
        exact ⟨pk_in x 4 hx, nm_e ⟨pk_in y 4 hy, nm_e (br_c (fun _ => ⟨pk_in t 4 ht, nm_e (la_126 ht H)⟩) (fun _ => br_c (fun _ => ⟨pk_in t 4 ht, nm_e (la_126 ht H)⟩) (fun _ => br_c (fun _ => ⟨pk_in t 4 ht, nm_e (la_126 ht H)⟩) (fun _ => ⟨pk_in t 4 ht, nm_e (la_126 ht H)⟩))))⟩⟩
      · exact mt_badN z (br_f (by decide) (hN (fun h => z2 h.2.2.2)))
    · exact mt_badN z (br_f (by decide) (hN (fun h => z2 h.2.2.1)))
  · exact mt_badN z (br_f (by decide) (hN (fun h => z2 h.1)))
theorem la_shift {p q r s : Int32} (hN : ¬ (la_T p ∧ la_T q ∧ la_P r ∧ la_P s) → post (-1000) (a1, wd_low, a3))
    (hY : la_T p ∧ la_T q ∧ la_P r ∧ la_P s → ∀ t, t < 4 → p = nI t → ∀ b1, post (nI (fq_ct (wd_b (b1 t)) 64)) (b1, wd_low, a3)) :
    wpX_shift post (a1, wd_low, a3) p q r s := by
  unfold wpX_shift
  rcases la_T_c p with ⟨t, ht, rfl⟩ | ⟨z, z2⟩
  · refine mt_bad ht (br_t rfl ?_)
    rcases la_T_c q with ⟨u, hu, rfl⟩ | ⟨z, z2⟩
    · refine mt_bad hu (br_t rfl ?_)
      rcases la_P_c r with ⟨x, hx, rfl⟩ | ⟨z, z2⟩
      · refine mt_bp hx (br_t rfl ?_)
        rcases la_P_c s with ⟨y, hy, rfl⟩ | ⟨z, z2⟩
        · refine mt_bp hy (br_t rfl ⟨pk_in u 4 hu, ?_⟩)
          refine mt_moved hx (fun r1 _ => mt_linear hy (fun r2 => ⟨pk_in t 4 ht, nm_e ⟨pk_in t 4 ht, ?_⟩⟩))
          rw [nI_clamp (show t < 2 ^ 31 by omega)]
          exact mt_onesOf (hY ⟨la_T_n ht, la_T_n hu, la_P_n hx, la_P_n hy⟩ t ht rfl _)
        · exact mt_bpN z (br_f (by decide) (hN (fun h => z2 h.2.2.2)))
      · exact mt_bpN z (br_f (by decide) (hN (fun h => z2 h.2.2.1)))
    · exact mt_badN z (br_f (by decide) (hN (fun h => z2 h.2.1)))
  · exact mt_badN z (br_f (by decide) (hN (fun h => z2 h.1)))
theorem la_turn {o : Nat} (ho : o < 16) {x y z w : Int32} (hN : ¬ la_fits o x y z w → post (-1000) (a1, wd_low, a3))
    (h1 : o < 6 → ∀ t p v, t < 4 → p < 64 → v < 2 → x = nI t → y = nI p → z = nI v → ∀ b1, wd_d (wd_b (b1 t) p) = nI v → post (wd_d (wd_b (a1 t) p)) (b1, wd_low, a3))
    (h2 : 6 ≤ o → la_fits o x y z w → ∀ t, t < 4 → x = nI t → ∀ b1, post (nI (fq_ct (wd_b (b1 t)) 64)) (b1, wd_low, a3)) :
    wpL_turn post (a1, wd_low, a3) (nI o) x y z w := by
  have e : nI o &&& 15 = nI o := by
    rw [pk_andN (by omega) 4 (by decide), Nat.mod_eq_of_lt (show o < 2 ^ 4 from ho)]
  refine nm_r e (pk_le 6 o (fun h6 => pk_le 10 o (fun h10 => pk_le 13 o (fun h13 => ?_) (fun h13 => ?_)) (fun h10 => ?_)) (fun h6 => ?_))
  · exact la_shift (fun n => hN (fun F => n ((la_fits3 h13).mp F))) (fun F => h2 h6 ((la_fits3 h13).mpr F))
  · exact la_combine (fun n => hN (fun F => n ((la_fits2 h10 h13).mp F))) (fun F => h2 h6 ((la_fits2 h10 h13).mpr F))
  · exact la_turnForm (fun n => hN (fun F => n ((la_fits1 h6 h10).mp F))) (fun F => h2 h6 ((la_fits1 h6 h10).mpr F))
  · exact la_put (fun n => hN (fun F => n ((la_fits0 h6).mp F))) (h1 h6)
end
end
section
section
variable {post : Int32 → Prop} {L : Nat} {xs : Nat → Int32} {J : Int32 → (Nat → Int64) → (Nat → Int64) → (Nat → Int32) → Prop} {kc ks : Nat}
/-- what fits: the flags lead there -/
theorem la_139 {o : Nat} (ho : o < 16) {bt bp bb : Bool} {x2 x4 x5 x6 x7 x8 x9 x10 : Int32} {b1 b2 : Nat → Int64} {b3 : Nat → Int32} (ht : bt = true ↔ la_T x4) (hp : bp = true ↔ la_P x5) (hb : bb = true ↔ la_B x6)
    (hY : la_fits o x4 x5 x6 x7 → wL_law_261 post L xs J x2 (nI o) x4 x5 x6 x8 x9 x10 (wd_d bt) 1 kc ks b1 b2 b3)
    (hN : ¬ la_fits o x4 x5 x6 x7 → wL_law_261 post L xs J x2 (nI o) x4 x5 x6 x8 x9 x10 (wd_d bt) 0 kc ks b1 b2 b3) :
    wL_law_139 post L xs J x2 (nI o) x4 x5 x6 x7 x8 x9 x10 (wd_d bt) (wd_d bp) (wd_d bb) kc ks b1 b2 b3 := by
  have f0 : ∀ c : Bool, wd_d c = 0 → ¬ c = true := by decide
  have f1 : ∀ c : Bool, ¬ wd_d c = 0 → c = true := by decide
  refine br_c (fun e => hN (fun F => f0 _ e (ht.mpr F.1))) (fun e => ?_)
  have hT := ht.mp (f1 _ e)
  refine pk_le 6 o (fun h6 => pk_le 10 o (fun h10 => pk_le 13 o (fun h13 => ?_) (fun h13 => ?_)) (fun h10 => ?_)) (fun h6 => ?_)
  · have E := la_fits3 (x := x4) (y := x5) (z := x6) (w := x7) h13
    exact br_c (fun c => hN (fun F => (E.mp F).2.1.1 c)) (fun c1 => br_c (fun c => hN (fun F => (E.mp F).2.1.2 c)) (fun c2 =>
      br_c (fun c => hN (fun F => (E.mp F).2.2.1.1 c)) (fun c3 => br_c (fun c => hN (fun F => (E.mp F).2.2.1.2 c)) (fun c4 =>
      br_c (fun c => hN (fun F => (E.mp F).2.2.2.1 c)) (fun c5 => br_c (fun c => hN (fun F => (E.mp F).2.2.2.2 c)) (fun c6 => hY (E.mpr ⟨hT, ⟨c1, c2⟩, ⟨c3, c4⟩, ⟨c5, c6⟩⟩)))))))
  · have E := la_fits2 (x := x4) (y := x5) (z := x6) (w := x7) h10 h13
    exact br_c (fun c => hN (fun F => (E.mp F).2.1.1 c)) (fun c1 => br_c (fun c => hN (fun F => (E.mp F).2.1.2 c)) (fun c2 =>
      br_c (fun c => hN (fun F => (E.mp F).2.2.1.1 c)) (fun c3 => br_c (fun c => hN (fun F => (E.mp F).2.2.1.2 c)) (fun c4 =>
      br_c (fun c => hN (fun F => (E.mp F).2.2.2.1 c)) (fun c5 => br_c (fun c => hN (fun F => (E.mp F).2.2.2.2 c)) (fun c6 => hY (E.mpr ⟨hT, ⟨c1, c2⟩, ⟨c3, c4⟩, ⟨c5, c6⟩⟩)))))))
  · have E := la_fits1 (x := x4) (y := x5) (z := x6) (w := x7) h6 h10
    exact br_c (fun c => hN (fun F => f0 _ c (hp.mpr (E.mp F).2))) (fun c => hY (E.mpr ⟨hT, hp.mp (f1 _ c)⟩))
  · have E := la_fits0 (x := x4) (y := x5) (z := x6) (w := x7) h6
    exact br_c (fun c => hN (fun F => f0 _ c (hp.mpr (E.mp F).2.1))) (fun c => br_c (fun d => hN (fun F => f0 _ d (hb.mpr (E.mp F).2.2))) (fun d => hY (E.mpr ⟨hT, hp.mp (f1 _ c), hb.mp (f1 _ d)⟩)))
theorem la_121 {o : Nat} (ho : o < 16) {bt bp : Bool} {x2 x4 x5 x6 x7 x8 x9 x10 : Int32} {b1 b2 : Nat → Int64} {b3 : Nat → Int32} (ht : bt = true ↔ la_T x4) (hp : bp = true ↔ la_P x5)
    (hY : la_fits o x4 x5 x6 x7 → wL_law_261 post L xs J x2 (nI o) x4 x5 x6 x8 x9 x10 (wd_d bt) 1 kc ks b1 b2 b3)
    (hN : ¬ la_fits o x4 x5 x6 x7 → wL_law_261 post L xs J x2 (nI o) x4 x5 x6 x8 x9 x10 (wd_d bt) 0 kc ks b1 b2 b3) :
    wL_law_121 post L xs J x2 (nI o) x4 x5 x6 x7 x8 x9 x10 (wd_d bt) (wd_d bp) kc ks b1 b2 b3 := by
  refine br_c (fun e => ?_) (fun e => br_c (fun d => ?_) (fun d => ?_))
  · exact la_139 (bb := true) ho ht hp ⟨fun _ => Or.inl e, fun _ => rfl⟩ hY hN
  · exact la_139 (bb := true) ho ht hp ⟨fun _ => Or.inr d, fun _ => rfl⟩ hY hN
  · exact la_139 (bb := false) ho ht hp ⟨fun z => absurd z (by decide), fun z => by rcases z with z | z; exact absurd z e; exact absurd z d⟩ hY hN
theorem la_102 {o : Nat} (ho : o < 16) {bt : Bool} {x2 x4 x5 x6 x7 x8 x9 x10 : Int32} {b1 b2 : Nat → Int64} {b3 : Nat → Int32} (ht : bt = true ↔ la_T x4)
    (hY : la_fits o x4 x5 x6 x7 → wL_law_261 post L xs J x2 (nI o) x4 x5 x6 x8 x9 x10 (wd_d bt) 1 kc ks b1 b2 b3)
    (hN : ¬ la_fits o x4 x5 x6 x7 → wL_law_261 post L xs J x2 (nI o) x4 x5 x6 x8 x9 x10 (wd_d bt) 0 kc ks b1 b2 b3) :
    wL_law_102 post L xs J x2 (nI o) x4 x5 x6 x7 x8 x9 x10 (wd_d bt) kc ks b1 b2 b3 := by
  refine br_c (fun e => ?_) (fun e => br_c (fun d => ?_) (fun d => ?_))
  · exact la_121 (bp := false) ho ht ⟨fun z => absurd z (by decide), fun z => absurd e z.1⟩ hY hN
  · exact la_121 (bp := false) ho ht ⟨fun z => absurd z (by decide), fun z => absurd d z.2⟩ hY hN
  · exact la_121 (bp := true) ho ht ⟨fun _ => ⟨e, d⟩, fun _ => rfl⟩ hY hN
/-- behind a turn that doesn't fit -/
theorem la_no {k : Nat} {x3 x4 x5 x6 x8 x9 : Int32} {bt : Bool} {a1 : Nat → Int64} {a3 : Nat → Int32} (ht : bt = true ↔ la_T x4) (h8 : ∀ (p : Int32 → Prop) s, p x8 → wpX_ones p (a1, wd_low, s) x4)
    (hJ : ∀ b1 s, J (nI (k + 5)) b1 wd_low s) : wL_law_261 post L xs J (nI k) x3 x4 x5 x6 x8 x9 (-1000) (wd_d bt) 0 kc ks a1 wd_low a3 := by
  have G : ∀ s, wL_law_303 post L xs J (nI k) x3 x4 x5 x6 x8 x9 (-1000) 0 kc ks a1 wd_low s := fun s => br_t rfl (h8 _ s (br_t rfl (br_t rfl (nm_r (nI_add k 5) (hJ a1 s)))))
  refine br_t rfl (br_t rfl ?_)
  cases bt
  · exact br_t rfl (G a3)
  · refine br_f (by decide) ?_
    rcases la_T_c x4 with ⟨t, h4, rfl⟩ | ⟨z, z2⟩
    · obtain ⟨a, ha, ea⟩ := pk_andE (x5 ^^^ x6) (m := 63) 6 (by decide)
      rw [ea]
      exact so_sound h4 ha (fun s => br_f (by decide) (G s))
    · exact absurd (ht.mp rfl) z2
/-- behind a turn that fits -/
theorem la_yes {k o t : Nat} {x5 x6 x8 x9 x10 : Int32} {a1 : Nat → Int64} {a3 : Nat → Int32} (ho : o < 16) (ht : t < 4) (h10 : ¬ x10 = -1000) (h6 : 6 ≤ o → x10 = nI (fq_ct (wd_b (a1 t)) 64))
    (h0 : o < 6 → x10 = x9 ∧ ∀ (p : Int32 → Prop) s, p x6 → wpX_value p (a1, wd_low, s) (nI t) x5)
    (hJ : ∀ b1 s, J (nI (k + 5)) b1 wd_low s) : wL_law_261 post L xs J (nI k) (nI o) (nI t) x5 x6 x8 x9 x10 (wd_d true) 1 kc ks a1 wd_low a3 := by
  refine br_f h10 (br_t rfl (br_f (by decide) ?_))
  obtain ⟨a, ha, ea⟩ := pk_andE (x5 ^^^ x6) (m := 63) 6 (by decide)
  rw [ea]
  refine so_sound ht ha (fun s => br_f (by decide) (br_f (by decide) (br_f (by decide) ?_)))
  refine pk_le 6 o (fun z => mt_ones ht (br_t (h6 z) (nm_r (nI_add k 5) (hJ a1 s)))) (fun z => br_t (h0 z).1 ((h0 z).2 _ s (br_t rfl (nm_r (nI_add k 5) (hJ a1 s)))))
theorem la_dne : ∀ b : Bool, ¬ wd_d b = -1000 := by decide
theorem la_nne : ∀ c, c < 65 → ¬ nI c = -1000 := by decide +kernel
/-- the law's loop -/
theorem la_loop {post : Int32 → Prop} (hpost : post 1) (hL : L ≤ 260) (a1 : Nat → Int64) (a3 : Nat → Int32) : ∃ n, wL_law_10 post L xs kc ks n 0 a1 wd_low a3 := by
  refine loop_m (σ := Nat × (Nat → Int64) × (Nat → Int32)) (fun n s => wL_law_10 post L xs kc ks n (nI s.1) s.2.1 wd_low s.2.2) (fun s => s.1 ≤ 260) (fun s => 260 - s.1) ?_ (0, a1, a3) (by show 0 ≤ 260; omega)
  intro n s
  obtain ⟨k, a1, a3⟩ := s
  intro hk hw
  have hk : k ≤ 260 := hk
  show wL_law_10 post L xs kc ks (n + 1) (nI k) a1 wd_low a3
  refine pk_le L (k + 4) (fun z => ?_) (fun z => ?_) rfl (nI_add k 4)
  · refine mt_valueN (p := 0) (q := 64) (Or.inr (Or.inr (Or.inr (by decide)))) (br_t rfl ?_)
    refine mt_degreeN (Or.inr (by decide)) (br_t rfl ?_)
    refine sp_nearestN (Or.inl (by decide)) (br_t rfl ?_)
    unfold wpX_shifted
    refine mt_bad (t := 0) (by decide) (br_t rfl (mt_badN (Or.inr (by decide)) (br_f (by decide) (br_t rfl ?_))))
    refine sp_spectrumN (t := 0) (by decide) (by decide) (br_t rfl ?_)
    exact mt_formN (Or.inr (by decide)) (br_t rfl hpost)
  · have hJ : ∀ b1 s, wL_law_10 post L xs kc ks n (nI (k + 5)) b1 wd_low s := fun b1 s => hw (k + 5, b1, s) (by show k + 5 ≤ 260; omega) (by show 260 - (k + 5) < 260 - k; omega)
    obtain ⟨o, ho, eo⟩ := pk_andE (xs (nI k).toNatClampNeg) (m := 15) 4 (by decide)
    have ho : o < 16 := ho
    refine ⟨pk_in k L (by omega), nm_r eo ⟨pk_in (k + 1) L (by omega) (nI_add k 1), fun x4 _ => ⟨pk_in (k + 2) L (by omega) (nI_add k 2), fun x5 _ => ⟨pk_in (k + 3) L (by omega) (nI_add k 3), fun x6 _ => ⟨pk_in (k + 4) L (by omega) (nI_add k 4), fun x7 _ => ?_⟩⟩⟩⟩⟩
    have h8 : ∃ x8, ∀ (p : Int32 → Prop) s, p x8 → wpX_ones p (a1, wd_low, s) x4 := by
      rcases la_T_c x4 with ⟨t, h4, rfl⟩ | ⟨z, z2⟩
      · exact ⟨_, fun p s hp => mt_ones h4 hp⟩
      · exact ⟨_, fun p s hp => mt_onesN z hp⟩
    have h9 : ∃ x9, (∀ (p : Int32 → Prop) s, p x9 → wpX_value p (a1, wd_low, s) x4 x5) ∧ ∀ t q, t < 4 → q < 64 → x4 = nI t → x5 = nI q → x9 = wd_d (wd_b (a1 t) q) := by
      rcases la_T_c x4 with ⟨t, h4, rfl⟩ | ⟨z, z2⟩
      · rcases la_P_c x5 with ⟨q, h5, rfl⟩ | ⟨z, z2⟩
        · refine ⟨_, fun p s hp => mt_value h4 h5 hp, fun t' q' ht' hq' e e' => ?_⟩
          rw [(nI_eq (by omega) (by omega)).mp e, (nI_eq (by omega) (by omega)).mp e']
        · exact ⟨_, fun p s hp => mt_valueN (Or.inr (Or.inr z)) hp, fun t' q' ht' hq' e e' => absurd (by rw [e']; exact la_P_n hq') z2⟩
      · refine ⟨-1000, fun p s hp => mt_valueN ?_ hp, fun t' q' ht' hq' e e' => absurd (by rw [e]; exact la_T_n ht') z2⟩
        rcases z with z | z
        · exact Or.inl z
        · exact Or.inr (Or.inl z)
    obtain ⟨x8, h8⟩ := h8
    obtain ⟨x9, h9, h9'⟩ := h9
    refine h8 _ a3 (h9 _ a3 ?_)
    -- behind the turn: the flag 'table', then the rest
    have top : ∀ (x10 : Int32) (b1 : Nat → Int64), (∀ bt : Bool, (bt = true ↔ la_T x4) → la_fits o x4 x5 x6 x7 → wL_law_261 post L xs (wL_law_10 post L xs kc ks n) (nI k) (nI o) x4 x5 x6 x8 x9 x10 (wd_d bt) 1 kc ks b1 wd_low a3) →
        (∀ bt : Bool, (bt = true ↔ la_T x4) → ¬ la_fits o x4 x5 x6 x7 → wL_law_261 post L xs (wL_law_10 post L xs kc ks n) (nI k) (nI o) x4 x5 x6 x8 x9 x10 (wd_d bt) 0 kc ks b1 wd_low a3) →
        ((x4 < 0 → wL_law_101 post L xs (wL_law_10 post L xs kc ks n) (nI k) (nI o) x4 x5 x6 x7 x8 x9 x10 kc ks b1 wd_low a3) ∧ (¬ x4 < 0 → ((3 < x4 → wL_law_101 post L xs (wL_law_10 post L xs kc ks n) (nI k) (nI o) x4 x5 x6 x7 x8 x9 x10 kc ks b1 wd_low a3) ∧ (¬ 3 < x4 → wL_law_102 post L xs (wL_law_10 post L xs kc ks n) (nI k) (nI o) x4 x5 x6 x7 x8 x9 x10 1 kc ks b1 wd_low a3)))) := by
      intro x10 b1 hY hN
      refine br_c (fun e => ?_) (fun e => br_c (fun d => ?_) (fun d => ?_))
      · have h : false = true ↔ la_T x4 := ⟨fun z => absurd z (by decide), fun z => absurd e z.1⟩
        exact la_102 (bt := false) ho h (hY _ h) (hN _ h)
      · have h : false = true ↔ la_T x4 := ⟨fun z => absurd z (by decide), fun z => absurd d z.2⟩
        exact la_102 (bt := false) ho h (hY _ h) (hN _ h)
      · have h : true = true ↔ la_T x4 := ⟨fun _ => ⟨e, d⟩, fun _ => rfl⟩
        exact la_102 (bt := true) ho h (hY _ h) (hN _ h)
    refine la_turn ho (fun F => ?_) (fun h6 t q v ht hq hv e4 e5 e6 b1 hb => ?_) (fun h6 F t ht e4 b1 => ?_)
    · exact top _ _ (fun bt _ F' => absurd F' F) (fun bt hbt _ => la_no hbt h8 hJ)
    · have F : la_fits o x4 x5 x6 x7 := (la_fits0 h6).mpr ⟨by rw [e4]; exact la_T_n ht, by rw [e5]; exact la_P_n hq, by
        rw [e6]
        rcases (show v = 0 ∨ v = 1 by omega) with g | g
        · left; rw [g]; rfl
        · right; rw [g]; rfl⟩
      refine top _ _ (fun bt hbt _ => ?_) (fun bt _ F' => absurd F F')
      have hbt' : bt = true := hbt.mpr F.1
      have e9 := h9' t q ht hq e4 e5
      subst hbt' e4 e5 e6
      exact la_yes ho ht (la_dne _) (fun z => absurd z (by omega)) (fun _ => ⟨e9.symm, fun p s hp => mt_value ht hq (by rw [hb]; exact hp)⟩) hJ
    · refine top _ _ (fun bt hbt _ => ?_) (fun bt _ F' => absurd F F')
      have hbt' : bt = true := hbt.mpr F.1
      subst hbt' e4
      have := fq_ct_le (wd_b (b1 t)) 64
      exact la_yes ho ht (la_nne _ (by omega)) (fun _ => rfl) (fun z => absurd z (by omega)) hJ
end
theorem i_vc (xs : Nat → Int32) (L : Nat) (hL : L ≤ 260) : wpL_law (fun r => r = 1) L xs := by
  refine ⟨3, 74, by omega, by omega, ?_⟩
  refine ⟨by omega, by omega, by omega, by omega, by omega, by omega, ?_⟩
  exact nm_e (nm_e (nm_e (nm_e (nm_e (nm_e (la_loop (post := fun r => r = 1) rfl hL (fun _ => 0) (fun _ => 0)))))))
end
