section
/-! plain ring: numbers modulo 7681, powers, sums, the transform of 64 places -/
abbrev wm_Z : Type := Fin 7681
def wm_pw (x : wm_Z) : Nat → wm_Z
  | 0 => 1
  | n + 1 => wm_pw x n * x
def wm_sm (f : Nat → wm_Z) : Nat → wm_Z
  | 0 => 0
  | n + 1 => wm_sm f n + f n
theorem wm_pw_add (x : wm_Z) (a b : Nat) : wm_pw x (a + b) = wm_pw x a * wm_pw x b := by
  induction b with
  | zero =>
    show wm_pw x a = wm_pw x a * 1
    grind
  | succ b ih =>
    show wm_pw x (a + b) * x = wm_pw x a * (wm_pw x b * x)
    rw [ih]
    grind
theorem wm_pw_mul (x : wm_Z) (a b : Nat) : wm_pw x (a * b) = wm_pw (wm_pw x a) b := by
  induction b with
  | zero => rfl
  | succ b ih =>
    rw [Nat.mul_succ, wm_pw_add, ih]
    rfl
theorem wm_pw_one (b : Nat) : wm_pw 1 b = 1 := by
  induction b with
  | zero => rfl
  | succ b ih =>
    show wm_pw 1 b * 1 = 1
    rw [ih]
    rfl
theorem wm_sm_congr {f g : Nat → wm_Z} {n : Nat} (h : ∀ j, j < n → f j = g j) : wm_sm f n = wm_sm g n := by
  induction n with
  | zero => rfl
  | succ n ih =>
    show wm_sm f n + f n = wm_sm g n + g n
    rw [ih (fun j hj => h j (by omega)), h n (by omega)]
theorem wm_sm_add (f g : Nat → wm_Z) (n : Nat) : wm_sm (fun j => f j + g j) n = wm_sm f n + wm_sm g n := by
  induction n with
  | zero => rfl
  | succ n ih =>
    show wm_sm (fun j => f j + g j) n + (f n + g n) = (wm_sm f n + f n) + (wm_sm g n + g n)
    rw [ih]
    grind
theorem wm_sm_mul (c : wm_Z) (f : Nat → wm_Z) (n : Nat) : wm_sm (fun j => c * f j) n = c * wm_sm f n := by
  induction n with
  | zero =>
    show (0 : wm_Z) = c * 0
    grind
  | succ n ih =>
    show wm_sm (fun j => c * f j) n + c * f n = c * (wm_sm f n + f n)
    rw [ih]
    grind
theorem wm_sm_mulr (c : wm_Z) (f : Nat → wm_Z) (n : Nat) : wm_sm (fun j => f j * c) n = wm_sm f n * c := by
  rw [show wm_sm f n * c = c * wm_sm f n from Fin.mul_comm _ _, ← wm_sm_mul]
  exact wm_sm_congr (fun j _ => Fin.mul_comm _ _)
theorem wm_sm_zero {f : Nat → wm_Z} {n : Nat} (h : ∀ j, j < n → f j = 0) : wm_sm f n = 0 := by
  induction n with
  | zero => rfl
  | succ n ih =>
    show wm_sm f n + f n = 0
    rw [ih (fun j hj => h j (by omega)), h n (by omega)]
    rfl
theorem wm_sm_swap (f : Nat → Nat → wm_Z) (n m : Nat) : wm_sm (fun a => wm_sm (fun b => f a b) m) n = wm_sm (fun b => wm_sm (fun a => f a b) n) m := by
  induction n with
  | zero => exact (wm_sm_zero (fun j _ => rfl)).symm
  | succ n ih =>
    show wm_sm (fun a => wm_sm (fun b => f a b) m) n + wm_sm (fun b => f n b) m = wm_sm (fun b => wm_sm (fun a => f a b) n + f n b) m
    rw [ih, wm_sm_add]
theorem wm_sm_prod (f g : Nat → wm_Z) (n m : Nat) : wm_sm f n * wm_sm g m = wm_sm (fun a => wm_sm (fun b => f a * g b) m) n := by
  rw [← wm_sm_mulr]
  exact wm_sm_congr (fun a _ => (wm_sm_mul _ _ _).symm)
theorem wm_sm_two (f : Nat → wm_Z) (N : Nat) : wm_sm f (2 * N) = wm_sm (fun j => f (2 * j)) N + wm_sm (fun j => f (2 * j + 1)) N := by
  induction N with
  | zero => rfl
  | succ N ih =>
    show wm_sm f (2 * N) + f (2 * N) + f (2 * N + 1) = (wm_sm (fun j => f (2 * j)) N + f (2 * N)) + (wm_sm (fun j => f (2 * j + 1)) N + f (2 * N + 1))
    rw [ih]
    grind
theorem wm_sm_cut {f : Nat → wm_Z} {m n : Nat} (h : m ≤ n) (hz : ∀ j, m ≤ j → j < n → f j = 0) : wm_sm f n = wm_sm f m := by
  induction n with
  | zero =>
    have : m = 0 := by omega
    rw [this]
  | succ n ih =>
    by_cases e : m = n + 1
    · rw [e]
    · show wm_sm f n + f n = wm_sm f m
      rw [ih (by omega) (fun j h1 h2 => hz j h1 (by omega)), hz n (by omega) (by omega)]
      exact Fin.add_zero _
theorem wm_sm_one {f : Nat → wm_Z} {n i : Nat} (hi : i < n) (h : ∀ j, j < n → j ≠ i → f j = 0) : wm_sm f n = f i := by
  rw [wm_sm_cut (m := i + 1) (by omega) (fun j h1 h2 => h j h2 (by omega))]
  show wm_sm f i + f i = f i
  rw [wm_sm_zero (fun j hj => h j (by omega) (by omega))]
  exact Fin.zero_add _
theorem wm_sm_left (f : Nat → wm_Z) (n : Nat) : wm_sm f (n + 1) = f 0 + wm_sm (fun j => f (j + 1)) n := by
  induction n with
  | zero =>
    show (0 : wm_Z) + f 0 = f 0 + 0
    grind
  | succ n ih =>
    show wm_sm f (n + 1) + f (n + 1) = f 0 + (wm_sm (fun j => f (j + 1)) n + f (n + 1))
    rw [ih]
    grind
theorem wm_sm_rev (f : Nat → wm_Z) (m : Nat) : wm_sm (fun j => f (m - 1 - j)) m = wm_sm f m := by
  induction m with
  | zero => rfl
  | succ m ih =>
    rw [wm_sm_left]
    show f (m + 1 - 1 - 0) + wm_sm (fun j => f (m + 1 - 1 - (j + 1))) m = wm_sm f m + f m
    rw [← ih, wm_sm_congr (g := fun j => f (m - 1 - j)) (fun j _ => congrArg f (by omega)), show m + 1 - 1 - 0 = m by omega]
    grind
/-- part of the transform: N places from r on, d apart, at the frequency k -/
def wm_F (θ : wm_Z) (x : Nat → wm_Z) (N d r k : Nat) : wm_Z := wm_sm (fun j => x (r + j * d) * wm_pw θ (j * k * d)) N
theorem wm_F_lo (θ : wm_Z) (x : Nat → wm_Z) (N h r k : Nat) : wm_F θ x (2 * N) h r k = wm_F θ x N (2 * h) r k + wm_F θ x N (2 * h) (r + h) k * wm_pw θ (k * h) := by
  unfold wm_F
  rw [wm_sm_two, ← wm_sm_mulr]
  congr 1
  · refine wm_sm_congr (fun j _ => ?_)
    rw [show r + 2 * j * h = r + j * (2 * h) by grind, show 2 * j * k * h = j * k * (2 * h) by grind]
  · refine wm_sm_congr (fun j _ => ?_)
    rw [show r + (2 * j + 1) * h = r + h + j * (2 * h) by grind, show (2 * j + 1) * k * h = j * k * (2 * h) + k * h by grind, wm_pw_add]
    grind
theorem wm_pw64 {θ : wm_Z} (hθ : wm_pw θ 32 = -1) (j : Nat) : wm_pw θ (64 * j) = 1 := by
  rw [wm_pw_mul, show (64 : Nat) = 32 + 32 from rfl, wm_pw_add, hθ]
  exact wm_pw_one j
theorem wm_F_hi {θ : wm_Z} (hθ : wm_pw θ 32 = -1) (x : Nat → wm_Z) {N h : Nat} (hN : N * h = 32) (r k : Nat) : wm_F θ x (2 * N) h r (k + N) = wm_F θ x N (2 * h) r k - wm_F θ x N (2 * h) (r + h) k * wm_pw θ (k * h) := by
  unfold wm_F
  rw [wm_sm_two, ← wm_sm_mulr]
  have e : wm_sm (fun j => x (r + (2 * j + 1) * h) * wm_pw θ ((2 * j + 1) * (k + N) * h)) N = (-1) * wm_sm (fun j => x (r + h + j * (2 * h)) * wm_pw θ (j * k * (2 * h)) * wm_pw θ (k * h)) N := by
    rw [← wm_sm_mul]
    refine wm_sm_congr (fun j _ => ?_)
    rw [show r + (2 * j + 1) * h = r + h + j * (2 * h) by grind, show (2 * j + 1) * (k + N) * h = j * k * (2 * h) + k * h + 64 * j + 32 by grind, wm_pw_add, wm_pw_add, wm_pw_add, wm_pw64 hθ, hθ]
    grind
  have e2 : wm_sm (fun j => x (r + 2 * j * h) * wm_pw θ (2 * j * (k + N) * h)) N = wm_sm (fun j => x (r + j * (2 * h)) * wm_pw θ (j * k * (2 * h))) N := by
    refine wm_sm_congr (fun j _ => ?_)
    rw [show r + 2 * j * h = r + j * (2 * h) by grind, show 2 * j * (k + N) * h = j * k * (2 * h) + 64 * j by grind, wm_pw_add, wm_pw64 hθ]
    grind
  rw [e, e2]
  grind
/-- the bits of k in turned order -/
def wm_rv (k : Nat) : Nat := k % 2 * 32 + k / 2 % 2 * 16 + k / 4 % 2 * 8 + k / 8 % 2 * 4 + k / 16 % 2 * 2 + k / 32 % 2
theorem wm_rv_lt : ∀ k, k < 64 → wm_rv k < 64 := by decide +kernel
theorem wm_rv_rv : ∀ k, k < 64 → wm_rv (wm_rv k) = k := by decide +kernel
/-- one level of butterflies, whose halves are H long -/
def wm_L (θ : wm_Z) (A : Nat → wm_Z) (H q : Nat) : wm_Z := if q / H % 2 = 0 then A q + A (q + H) * wm_pw θ (q % H * (32 / H)) else A (q - H) - A q * wm_pw θ (q % H * (32 / H))
theorem wm_c0 : ∀ s, s < 6 → ∀ q, q < 64 → q / 2 ^ s % 2 = 0 → q + 2 ^ s < 64 ∧ q / 2 ^ (s + 1) * 2 ^ (s + 1) = q / 2 ^ s * 2 ^ s ∧ wm_rv ((q + 2 ^ s) / 2 ^ s * 2 ^ s) = wm_rv (q / 2 ^ s * 2 ^ s) + 2 ^ (5 - s) ∧ (q + 2 ^ s) % 2 ^ s = q % 2 ^ s ∧ q % 2 ^ (s + 1) = q % 2 ^ s := by decide +kernel
theorem wm_c1 : ∀ s, s < 6 → ∀ q, q < 64 → ¬ q / 2 ^ s % 2 = 0 → q - 2 ^ s < 64 ∧ wm_rv (q / 2 ^ s * 2 ^ s) = wm_rv ((q - 2 ^ s) / 2 ^ s * 2 ^ s) + 2 ^ (5 - s) ∧ wm_rv (q / 2 ^ (s + 1) * 2 ^ (s + 1)) = wm_rv ((q - 2 ^ s) / 2 ^ s * 2 ^ s) ∧ (q - 2 ^ s) % 2 ^ s = q % 2 ^ s ∧ q % 2 ^ (s + 1) = q % 2 ^ s + 2 ^ s := by decide +kernel
theorem wm_c2 : ∀ s, s < 6 → 32 / 2 ^ s = 2 ^ (5 - s) ∧ 2 ^ s * 2 ^ (5 - s) = 32 ∧ 2 ^ (s + 1) = 2 * 2 ^ s ∧ 2 ^ (6 - s) = 2 * 2 ^ (5 - s) ∧ 6 - (s + 1) = 5 - s := by decide +kernel
theorem wm_lev {θ : wm_Z} (hθ : wm_pw θ 32 = -1) (x A : Nat → wm_Z) (s : Nat) (hs : s < 6) (hA : ∀ q, q < 64 → A q = wm_F θ x (2 ^ s) (2 ^ (6 - s)) (wm_rv (q / 2 ^ s * 2 ^ s)) (q % 2 ^ s)) (q : Nat) (hq : q < 64) :
    wm_L θ A (2 ^ s) q = wm_F θ x (2 ^ (s + 1)) (2 ^ (6 - (s + 1))) (wm_rv (q / 2 ^ (s + 1) * 2 ^ (s + 1))) (q % 2 ^ (s + 1)) := by
  obtain ⟨d1, d2, d3, d4, d5⟩ := wm_c2 s hs
  unfold wm_L
  by_cases e : q / 2 ^ s % 2 = 0
  · obtain ⟨e1, e2, e3, e4, e5⟩ := wm_c0 s hs q hq e
    rw [if_pos e, hA q hq, hA _ e1, e2, e3, e4, e5, d1, d5, d4]
    rw [show wm_F θ x (2 ^ (s + 1)) = wm_F θ x (2 * 2 ^ s) by rw [d3]]
    exact (wm_F_lo θ x _ _ _ _).symm
  · obtain ⟨e1, e2, e3, e4, e5⟩ := wm_c1 s hs q hq e
    rw [if_neg e, hA q hq, hA _ e1, e3, e2, e4, e5, d1, d5, d4]
    rw [show wm_F θ x (2 ^ (s + 1)) = wm_F θ x (2 * 2 ^ s) by rw [d3]]
    exact (wm_F_hi hθ x d2 _ _).symm
/-- the transform -/
def wm_D (θ : wm_Z) (x : Nat → wm_Z) (k : Nat) : wm_Z := wm_sm (fun j => x j * wm_pw θ (j * k)) 64
theorem wm_fin {θ : wm_Z} {x : Nat → wm_Z} {q : Nat} (hq : q < 64) : wm_F θ x (2 ^ 6) (2 ^ (6 - 6)) (wm_rv (q / 2 ^ 6 * 2 ^ 6)) (q % 2 ^ 6) = wm_D θ x q := by
  have e1 : q / 2 ^ 6 * 2 ^ 6 = 0 := by omega
  have e2 : q % 2 ^ 6 = q := by omega
  rw [e1, e2]
  refine wm_sm_congr (fun j _ => ?_)
  rw [show wm_rv 0 + j * 2 ^ (6 - 6) = j by show 0 + j * 1 = j; omega, show j * q * 2 ^ (6 - 6) = j * q by show j * q * 1 = j * q; omega]
theorem wm_beg {θ : wm_Z} {x : Nat → wm_Z} {q : Nat} : wm_F θ x (2 ^ 0) (2 ^ (6 - 0)) (wm_rv (q / 2 ^ 0 * 2 ^ 0)) (q % 2 ^ 0) = x (wm_rv q) := by
  have e1 : q / 2 ^ 0 * 2 ^ 0 = q := by omega
  have e2 : q % 2 ^ 0 = 0 := by omega
  rw [e1, e2]
  show (0 : wm_Z) + x (wm_rv q + 0 * 2 ^ (6 - 0)) * wm_pw θ (0 * 0 * 2 ^ (6 - 0)) = x (wm_rv q)
  rw [show wm_rv q + 0 * 2 ^ (6 - 0) = wm_rv q by omega, show 0 * 0 * 2 ^ (6 - 0) = 0 from rfl]
  show (0 : wm_Z) + x (wm_rv q) * 1 = x (wm_rv q)
  grind
end
section
/-! the root, the way back, products -/
def wm_w : wm_Z := wm_pw 17 120
theorem wm_w32 : wm_pw wm_w 32 = -1 := by decide +kernel
theorem wm_b32 : wm_pw (wm_pw wm_w 63) 32 = -1 := by decide +kernel
/-- a geometric sum -/
def wm_ge (y : wm_Z) : Nat → wm_Z
  | 0 => 0
  | n + 1 => 1 + y * wm_ge y n
theorem wm_ge_eq (y : wm_Z) (n : Nat) : wm_sm (fun k => wm_pw y k) n = wm_ge y n := by
  induction n with
  | zero => rfl
  | succ n ih =>
    rw [wm_sm_left]
    show (1 : wm_Z) + wm_sm (fun j => wm_pw y j * y) n = 1 + y * wm_ge y n
    rw [wm_sm_mulr, ih, Fin.mul_comm]
theorem wm_orT : ∀ e, e < 64 → wm_ge (wm_pw wm_w e) 64 * 7561 = if e = 0 then 1 else 0 := by decide +kernel
theorem wm_or (e : Nat) : wm_sm (fun k => wm_pw wm_w (e * k)) 64 * 7561 = if e % 64 = 0 then 1 else 0 := by
  have h : wm_pw wm_w e = wm_pw wm_w (e % 64) := by
    have h2 : e = 64 * (e / 64) + e % 64 := by omega
    have h3 : wm_pw wm_w (64 * (e / 64) + e % 64) = wm_pw wm_w (e % 64) := by
      rw [wm_pw_add, wm_pw64 wm_w32]
      grind
    rw [← h2] at h3
    exact h3
  rw [← wm_orT (e % 64) (by omega), ← h, ← wm_ge_eq, wm_sm_congr (fun k _ => wm_pw_mul _ _ _)]
/-- the way back -/
def wm_V (S : Nat → wm_Z) (i : Nat) : wm_Z := wm_D (wm_pw wm_w 63) S i * 7561
theorem wm_V_add (S T : Nat → wm_Z) (c : wm_Z) (i : Nat) : wm_V (fun k => S k + T k * c) i = wm_V S i + c * wm_V T i := by
  unfold wm_V wm_D
  rw [show wm_sm (fun j => (S j + T j * c) * wm_pw (wm_pw wm_w 63) (j * i)) 64 = wm_sm (fun j => S j * wm_pw (wm_pw wm_w 63) (j * i) + c * (T j * wm_pw (wm_pw wm_w 63) (j * i))) 64 from wm_sm_congr (fun j _ => by grind), wm_sm_add, wm_sm_mul]
  grind
theorem wm_V_congr {S T : Nat → wm_Z} (h : ∀ k, k < 64 → S k = T k) (i : Nat) : wm_V S i = wm_V T i := by
  unfold wm_V wm_D
  rw [wm_sm_congr (fun j hj => by rw [h j hj])]
theorem wm_V_zero (i : Nat) : wm_V (fun _ => 0) i = 0 := by
  unfold wm_V wm_D
  rw [wm_sm_zero (fun j _ => Fin.zero_mul _)]
  rfl
theorem wm_conv (x y : Nat → wm_Z) {i : Nat} (hi : i < 64) : wm_V (fun k => wm_D wm_w x k * wm_D wm_w y k) i = wm_sm (fun a => x a * y ((i + 64 - a) % 64)) 64 := by
  have h1 : ∀ k, k < 64 → wm_D wm_w x k * wm_D wm_w y k * wm_pw (wm_pw wm_w 63) (k * i) = wm_sm (fun a => wm_sm (fun b => x a * y b * wm_pw wm_w ((a + b + 63 * i) * k)) 64) 64 := by
    intro k _
    unfold wm_D
    rw [wm_sm_prod, ← wm_sm_mulr]
    refine wm_sm_congr (fun a _ => ?_)
    rw [← wm_sm_mulr]
    refine wm_sm_congr (fun b _ => ?_)
    rw [← wm_pw_mul, show (a + b + 63 * i) * k = a * k + b * k + 63 * (k * i) by grind, wm_pw_add, wm_pw_add]
    grind
  unfold wm_V
  rw [show wm_D (wm_pw wm_w 63) (fun k => wm_D wm_w x k * wm_D wm_w y k) i = wm_sm (fun k => wm_sm (fun a => wm_sm (fun b => x a * y b * wm_pw wm_w ((a + b + 63 * i) * k)) 64) 64) 64 from wm_sm_congr h1]
  rw [wm_sm_swap, ← wm_sm_mulr]
  refine wm_sm_congr (fun a ha => ?_)
  rw [wm_sm_swap, ← wm_sm_mulr]
  have h2 : ∀ b, b < 64 → wm_sm (fun k => x a * y b * wm_pw wm_w ((a + b + 63 * i) * k)) 64 * 7561 = x a * y b * (if (a + b + 63 * i) % 64 = 0 then 1 else 0) := by
    intro b _
    rw [wm_sm_mul, ← wm_or]
    grind
  rw [wm_sm_congr h2]
  rw [wm_sm_one (i := (i + 64 - a) % 64) (by omega) (fun b hb hne => by
    rw [if_neg (by omega)]
    grind)]
  rw [if_pos (by omega)]
  grind
/-- what the product of a turned pattern and a text gives, at a shift -/
theorem wm_prod {x y : Nat → wm_Z} {n m i : Nat} (hm : 1 ≤ m) (h64 : n + m ≤ 64) (hi : i < n) (hx : ∀ a, m ≤ a → a < 64 → x a = 0) :
    wm_V (fun k => wm_D wm_w x k * wm_D wm_w y k) (i + m - 1) = wm_sm (fun j => x (m - 1 - j) * y (i + j)) m := by
  rw [wm_conv x y (by omega), wm_sm_cut (m := m) (by omega) (fun a h1 h2 => by rw [hx a h1 h2]; exact Fin.zero_mul _)]
  rw [← wm_sm_rev]
  refine wm_sm_congr (fun j hj => ?_)
  show x (m - 1 - j) * y ((i + m - 1 + 64 - (m - 1 - j)) % 64) = _
  rw [show (i + m - 1 + 64 - (m - 1 - j)) % 64 = i + j by omega]
end
section
/-! letters, their measures, the two sums -/
def wm_z (n : Nat) : wm_Z := Fin.ofNat 7681 n
theorem wm_z_val {n : Nat} (h : n < 7681) : (wm_z n).val = n := Nat.mod_eq_of_lt h
theorem wm_z_add (a b : Nat) : wm_z (a + b) = wm_z a + wm_z b := by
  apply Fin.ext
  show (a + b) % 7681 = (a % 7681 + b % 7681) % 7681
  omega
def wm_ns (f : Nat → Nat) : Nat → Nat
  | 0 => 0
  | n + 1 => wm_ns f n + f n
theorem wm_ns_z (f : Nat → Nat) (n : Nat) : wm_sm (fun j => wm_z (f j)) n = wm_z (wm_ns f n) := by
  induction n with
  | zero => rfl
  | succ n ih =>
    show wm_sm (fun j => wm_z (f j)) n + wm_z (f n) = wm_z (wm_ns f n + f n)
    rw [ih, wm_z_add]
theorem wm_ns_le {f : Nat → Nat} {n c : Nat} (h : ∀ j, j < n → f j ≤ c) : wm_ns f n ≤ n * c := by
  induction n with
  | zero => exact Nat.zero_le _
  | succ n ih =>
    show wm_ns f n + f n ≤ (n + 1) * c
    have h1 := ih (fun j hj => h j (by omega))
    have h2 := h n (by omega)
    rw [Nat.succ_mul]
    omega
theorem wm_ns_0 {f : Nat → Nat} {n : Nat} : wm_ns f n = 0 ↔ ∀ j, j < n → f j = 0 := by
  induction n with
  | zero => exact ⟨fun _ j hj => absurd hj (by omega), fun _ => rfl⟩
  | succ n ih =>
    show wm_ns f n + f n = 0 ↔ _
    constructor
    · intro h j hj
      by_cases e : j = n
      · rw [e]
        omega
      · exact ih.mp (by omega) j (by omega)
    · intro h
      have h1 := ih.mpr (fun j hj => h j (by omega))
      have h2 := h n (by omega)
      omega
theorem wm_ns_mono {f g : Nat → Nat} {n : Nat} (h : ∀ j, j < n → f j ≤ g j) : wm_ns f n ≤ wm_ns g n := by
  induction n with
  | zero => exact Nat.le_refl _
  | succ n ih =>
    show wm_ns f n + f n ≤ wm_ns g n + g n
    have h1 := ih (fun j hj => h j (by omega))
    have h2 := h n (by omega)
    omega
theorem wm_ns_congr {f g : Nat → Nat} {n : Nat} (h : ∀ j, j < n → f j = g j) : wm_ns f n = wm_ns g n := by
  induction n with
  | zero => rfl
  | succ n ih =>
    show wm_ns f n + f n = wm_ns g n + g n
    rw [ih (fun j hj => h j (by omega)), h n (by omega)]
/-- a letter's power; whether a letter is h -/
def wm_fp (h l : Nat) : Nat := if l = 0 then 0 else l ^ h
def wm_fe (h l : Nat) : Nat := if l = h then 1 else 0
def wm_df (p t : Nat) : Nat := p * t * ((p - t) * (p - t) + (t - p) * (t - p))
def wm_mi (p t : Nat) : Nat := if p = 0 ∨ t = 0 ∨ p = t then 0 else 1
theorem wm_df_eq : ∀ p, p < 5 → ∀ t, t < 5 → wm_z (wm_fp 3 p) * wm_z (wm_fp 1 t) + 7679 * (wm_z (wm_fp 2 p) * wm_z (wm_fp 2 t)) + wm_z (wm_fp 1 p) * wm_z (wm_fp 3 t) = wm_z (wm_df p t) := by decide +kernel
theorem wm_mi_eq : ∀ p, p < 5 → ∀ t, t < 5 → wm_z (wm_fp 0 p) * wm_z (wm_fp 0 t) + 7680 * (wm_z (wm_fe 1 p) * wm_z (wm_fe 1 t)) + 7680 * (wm_z (wm_fe 2 p) * wm_z (wm_fe 2 t)) + 7680 * (wm_z (wm_fe 3 p) * wm_z (wm_fe 3 t)) + 7680 * (wm_z (wm_fe 4 p) * wm_z (wm_fe 4 t)) = wm_z (wm_mi p t) := by decide +kernel
theorem wm_df_le : ∀ p, p < 5 → ∀ t, t < 5 → wm_df p t ≤ 36 ∧ wm_mi p t ≤ 1 ∧ (wm_df p t = 0 ↔ wm_mi p t = 0) := by decide +kernel
/-- at the shift i: the weighted squares of differences, the mismatches -/
def wm_DD (n m : Nat) (t p : Nat → Nat) (i : Nat) : Nat := wm_ns (fun j => wm_df (p j) (t ((i + j) % n))) m
def wm_W (n m : Nat) (t p : Nat → Nat) (i : Nat) : Nat := wm_ns (fun j => wm_mi (p j) (t ((i + j) % n))) m
/-- a product's sum at a shift -/
def wm_C (n m : Nat) (t p : Nat → Nat) (f g : Nat → Nat) (i : Nat) : wm_Z := wm_sm (fun j => wm_z (f (p j)) * wm_z (g (t ((i + j) % n)))) m
theorem wm_DD_eq {n m : Nat} {t p : Nat → Nat} (ht : ∀ j, t j < 5) (hp : ∀ j, p j < 5) (i : Nat) :
    wm_C n m t p (wm_fp 3) (wm_fp 1) i + 7679 * wm_C n m t p (wm_fp 2) (wm_fp 2) i + wm_C n m t p (wm_fp 1) (wm_fp 3) i = wm_z (wm_DD n m t p i) := by
  unfold wm_C wm_DD
  rw [← wm_sm_mul, ← wm_sm_add, ← wm_sm_add, ← wm_ns_z]
  exact wm_sm_congr (fun j _ => wm_df_eq _ (hp _) _ (ht _))
theorem wm_W_eq {n m : Nat} {t p : Nat → Nat} (ht : ∀ j, t j < 5) (hp : ∀ j, p j < 5) (i : Nat) :
    wm_C n m t p (wm_fp 0) (wm_fp 0) i + 7680 * wm_C n m t p (wm_fe 1) (wm_fe 1) i + 7680 * wm_C n m t p (wm_fe 2) (wm_fe 2) i + 7680 * wm_C n m t p (wm_fe 3) (wm_fe 3) i + 7680 * wm_C n m t p (wm_fe 4) (wm_fe 4) i = wm_z (wm_W n m t p i) := by
  unfold wm_C wm_W
  rw [← wm_sm_mul, ← wm_sm_mul, ← wm_sm_mul, ← wm_sm_mul, ← wm_sm_add, ← wm_sm_add, ← wm_sm_add, ← wm_sm_add, ← wm_ns_z]
  exact wm_sm_congr (fun j _ => wm_mi_eq _ (hp _) _ (ht _))
theorem wm_DD_lt {n m : Nat} {t p : Nat → Nat} (hm : m ≤ 12) (ht : ∀ j, t j < 5) (hp : ∀ j, p j < 5) (i : Nat) : wm_DD n m t p i < 7681 := by
  have h : wm_DD n m t p i ≤ m * 36 := wm_ns_le (fun j _ => (wm_df_le _ (hp _) _ (ht _)).1)
  omega
theorem wm_W_le {n m : Nat} {t p : Nat → Nat} (hm : m ≤ 12) (ht : ∀ j, t j < 5) (hp : ∀ j, p j < 5) (i : Nat) : wm_W n m t p i ≤ 12 := by
  have h : wm_W n m t p i ≤ m * 1 := wm_ns_le (fun j _ => (wm_df_le _ (hp _) _ (ht _)).2.1)
  omega
theorem wm_DW {n m : Nat} {t p : Nat → Nat} (ht : ∀ j, t j < 5) (hp : ∀ j, p j < 5) (i : Nat) : wm_DD n m t p i = 0 ↔ wm_W n m t p i = 0 := by
  unfold wm_DD wm_W
  rw [wm_ns_0, wm_ns_0]
  exact ⟨fun h j hj => (wm_df_le _ (hp _) _ (ht _)).2.2.mp (h j hj), fun h j hj => (wm_df_le _ (hp _) _ (ht _)).2.2.mpr (h j hj)⟩
/-- how many shifts match -/
def wm_cnt (n m : Nat) (t p : Nat → Nat) (e : Nat) : Nat := wm_ns (fun i => if wm_W n m t p i = 0 then 1 else 0) e
theorem wm_cnt_le (n m : Nat) (t p : Nat → Nat) (e : Nat) : wm_cnt n m t p e ≤ e := by
  have h : wm_cnt n m t p e ≤ e * 1 := wm_ns_le (fun j _ => by
    show (if wm_W n m t p j = 0 then 1 else 0) ≤ 1
    split <;> omega)
  omega
/-- one place changed -/
def wm_up (f : Nat → Nat) (k v : Nat) : Nat → Nat := fun j => if j = k then v else f j
theorem wm_up_lt {f : Nat → Nat} {k v : Nat} (h : ∀ j, f j < 5) (hv : v < 5) (j : Nat) : wm_up f k v j < 5 := by
  unfold wm_up
  split
  · exact hv
  · exact h j
theorem wm_up_up (f : Nat → Nat) (k v : Nat) : wm_up (wm_up f k v) k (f k) = f := by
  funext j
  unfold wm_up
  by_cases e : j = k
  · rw [if_pos e, e]
  · rw [if_neg e, if_neg e]
theorem wm_mi0 (t : Nat) : wm_mi 0 t = 0 := by
  unfold wm_mi
  exact if_pos (Or.inl rfl)
theorem wm_cnt_mono (n m : Nat) (t p : Nat → Nat) (k e : Nat) : wm_cnt n m t p e ≤ wm_cnt n m t (wm_up p k 0) e := by
  refine wm_ns_mono (fun i _ => ?_)
  show (if wm_W n m t p i = 0 then 1 else 0) ≤ (if wm_W n m t (wm_up p k 0) i = 0 then 1 else 0)
  have h : wm_W n m t (wm_up p k 0) i ≤ wm_W n m t p i := by
    refine wm_ns_mono (fun j _ => ?_)
    show wm_mi (wm_up p k 0 j) _ ≤ wm_mi (p j) _
    unfold wm_up
    by_cases e : j = k
    · rw [if_pos e, wm_mi0]
      exact Nat.zero_le _
    · rw [if_neg e]
      exact Nat.le_refl _
  by_cases e : wm_W n m t p i = 0
  · rw [if_pos e, if_pos (by omega)]
    exact Nat.le_refl _
  · rw [if_neg e]
    exact Nat.zero_le _
end
section
/-! Int32 arithmetic modulo 7681; the small methods -/
theorem wm_mulN {a b : Nat} (ha : a < 7681) (hb : b < 7681) : a * b < 2 ^ 31 := by
  have h := Nat.mul_le_mul (show a ≤ 7680 by omega) (show b ≤ 7680 by omega)
  omega
theorem wm_mul (a b : wm_Z) : nI a.val * nI b.val - nI a.val * nI b.val / 7681 * 7681 = nI (a * b).val := by
  rw [pk_mul]
  exact pk_rem (d := 7681) (wm_mulN a.isLt b.isLt) (by decide) (by decide)
theorem wm_add (a b : wm_Z) : nI a.val + nI b.val - (nI a.val + nI b.val) / 7681 * 7681 = nI (a + b).val := by
  rw [nI_add]
  exact pk_rem (d := 7681) (by have := a.isLt; have := b.isLt; omega) (by decide) (by decide)
theorem wm_sub (a b : wm_Z) : nI a.val + 7681 - nI b.val - (nI a.val + 7681 - nI b.val) / 7681 * 7681 = nI (a - b).val := by
  have ha := a.isLt
  have hb := b.isLt
  have e : nI a.val + 7681 - nI b.val = nI (a.val + 7681 - b.val) := by
    rw [show (7681 : Int32) = nI 7681 from rfl, nI_add, pk_sub (by omega)]
  rw [e]
  have e2 : (a - b).val = (a.val + 7681 - b.val) % 7681 := by
    rw [Fin.val_sub]
    congr 1
    omega
  rw [e2]
  exact pk_rem (d := 7681) (by omega) (by decide) (by decide)
/-- 64 places from o on hold x; all others are as in a -/
def wm_seg (o : Nat) (s : Nat → Int32) (x : Nat → wm_Z) : Prop := ∀ q, q < 64 → s (o + q) = nI (x q).val
def wm_fr (o : Nat) (s a : Nat → Int32) : Prop := ∀ j, (j < o ∨ o + 64 ≤ j) → s j = a j
theorem wm_fr_r (o : Nat) (a : Nat → Int32) : wm_fr o a a := fun _ _ => rfl
theorem wm_fr_t {o : Nat} {a b c : Nat → Int32} (h : wm_fr o a b) (g : wm_fr o b c) : wm_fr o a c := fun j hj => (h j hj).trans (g j hj)
theorem wm_seg_c {o : Nat} {s : Nat → Int32} {x y : Nat → wm_Z} (h : wm_seg o s x) (e : ∀ q, q < 64 → x q = y q) : wm_seg o s y := fun q hq => by
  rw [h q hq, e q hq]
theorem wm_seg_fr {o p : Nat} {s a : Nat → Int32} {x : Nat → wm_Z} (h : wm_seg o a x) (g : wm_fr p s a) (d : o + 64 ≤ p ∨ p + 64 ≤ o) : wm_seg o s x := fun q hq => by
  rw [g (o + q) (by omega), h q hq]
theorem wm_seg_put {o i : Nat} {s : Nat → Int32} {x y : Nat → wm_Z} {v : Int32} (h : wm_seg o s x) (hv : v = nI (y i).val) (e : ∀ q, q < 64 → q ≠ i → x q = y q) : wm_seg o (upd s (o + i) v) y := fun q hq => by
  by_cases c : q = i
  · rw [c, pk_us, hv]
  · rw [pk_un (by omega), h q hq, e q hq c]
theorem wm_fr_put {o i : Nat} {s a : Nat → Int32} {v : Int32} (hi : i < 64) (h : wm_fr o s a) : wm_fr o (upd s (o + i) v) a := fun j hj => by
  rw [pk_un (by omega)]
  exact h j hj
theorem wm_butterfly {post : St1 → Prop} {f0 f1 f2 : Int32} {a1 a2 a3 a4 a5 a6 : Nat → Int32} {lo hi pw : Nat} {x y r : wm_Z} (hlo : lo < 192) (hhi : hi < 192) (hp : pw < 64) (hx : a4 lo = nI x.val) (hy : a4 hi = nI y.val) (hr : a3 pw = nI r.val)
    (H : post (f0, f1, f2, a1, a2, a3, upd (upd a4 lo (nI (x + y * r).val)) hi (nI (x - y * r).val), a5, a6)) : wpX_butterfly post (f0, f1, f2, a1, a2, a3, a4, a5, a6) (nI lo) (nI hi) (nI pw) := by
  have c1 : (nI lo).toNatClampNeg = lo := nI_clamp (by omega)
  have c2 : (nI hi).toNatClampNeg = hi := nI_clamp (by omega)
  have c3 : (nI pw).toNatClampNeg = pw := nI_clamp (by omega)
  refine And.intro (pk_in lo 192 hlo) (nm_r (e' := nI x.val) (by rw [c1, hx]) ⟨pk_in hi 192 hhi, pk_in pw 64 hp, by decide, ?_⟩)
  refine nm_r (e' := nI (y * r).val) (by rw [c2, c3, hy, hr, wm_mul]) ⟨by decide, pk_in lo 192 hlo, ?_⟩
  refine nm_r (e' := upd a4 lo (nI (x + y * r).val)) (by rw [c1, wm_add]) ⟨by decide, pk_in hi 192 hhi, ?_⟩
  exact nm_r (e' := upd (upd a4 lo (nI (x + y * r).val)) hi (nI (x - y * r).val)) (by rw [c2, wm_sub]) H
theorem wm_divide {post : St1 → Prop} {f0 f1 f2 : Int32} {a1 a2 a3 a4 a5 a6 : Nat → Int32} {o : Nat} (ho : o + 64 ≤ 192) {x : Nat → wm_Z} (hx : wm_seg o a4 x)
    (H : ∀ b, wm_seg o b (fun q => x q * 7561) → wm_fr o b a4 → post (f0, f1, f2, a1, a2, a3, b, a5, a6)) : wpX_divideBySize post (f0, f1, f2, a1, a2, a3, a4, a5, a6) (nI o) :=
  pk_loop (fun n i s => wX_divideBySize_2 post (nI o) f0 f1 f2 n (nI i) a1 a2 a3 s a5 a6) (fun i s => wm_seg o s (fun q => if q < i then x q * 7561 else x q) ∧ wm_fr o s a4) 64 0 a4 (by omega) ⟨wm_seg_c hx (fun q _ => (if_neg (by omega)).symm), wm_fr_r o a4⟩
    (fun n s h => pk_le 64 64 (fun _ => H s (wm_seg_c h.1 (fun q hq => if_pos hq)) h.2) (fun z => absurd z (by omega)))
    (fun n i s hi h hw => pk_le 64 i (fun z => absurd z (by omega)) (fun _ => by
      have c : (nI o + nI i).toNatClampNeg = o + i := pk_cl (o + i) (nI_add o i)
      have e : s (o + i) = nI (x i).val := (h.1 i hi).trans (congrArg (fun y : wm_Z => nI y.val) (if_neg (by omega)))
      refine ⟨pk_in (o + i) 192 (by omega) (nI_add o i), by decide, pk_in (o + i) 192 (by omega) (nI_add o i), nm_r (e' := upd s (o + i) (nI (x i * 7561).val)) ?_ (nm_r (nI_1 i) (hw _ ⟨wm_seg_put h.1 ?_ ?_, wm_fr_put hi h.2⟩))⟩
      · rw [c, e]
        exact congrArg (upd s (o + i)) (wm_mul (x i) 7561)
      · exact congrArg (fun y : wm_Z => nI y.val) (if_pos (by omega)).symm
      · intro q hq hne
        try dsimp only
        by_cases d : q < i
        · rw [if_pos d, if_pos (by omega)]
        · rw [if_neg d, if_neg (by omega)]))
theorem wm_clear {post : St1 → Prop} {f0 f1 f2 : Int32} {a1 a2 a3 a4 a5 a6 : Nat → Int32}
    (H : ∀ b, wm_seg 128 b (fun _ => 0) → post (f0, f1, f2, a1, a2, a3, b, a5, a6)) : wpX_clearSum post (f0, f1, f2, a1, a2, a3, a4, a5, a6) :=
  pk_loop (fun n i s => wX_clearSum_2 post f0 f1 f2 n (nI i) a1 a2 a3 s a5 a6) (fun i s => ∀ q, q < i → s (128 + q) = 0) 64 0 a4 (by omega) (fun q hq => absurd hq (by omega))
    (fun n s h => pk_le 64 64 (fun _ => H s (fun q hq => h q hq)) (fun z => absurd z (by omega)))
    (fun n i s hi h hw => pk_le 64 i (fun z => absurd z (by omega)) (fun _ => by
      have c : (128 + nI i).toNatClampNeg = 128 + i := pk_cl (128 + i) (nI_add 128 i)
      refine ⟨pk_in (128 + i) 192 (by omega) (nI_add 128 i), nm_r (e' := upd s (128 + i) 0) (by rw [c]) (nm_r (nI_1 i) (hw _ ?_))⟩
      intro q hq
      by_cases d : q = i
      · rw [d, pk_us]
      · rw [pk_un (by omega)]
        exact h q (by omega)))
/-- the loop over six bits, as a function -/
def wm_tb (x : Int32) : Nat → Int32 → Int32 → Int32
  | 0, a, _ => a
  | n + 1, a, b => wm_tb x n (a ||| (((x >>> (b &&& 31)) &&& 1) <<< ((5 - b) &&& 31))) (b + 1)
theorem wm_tbE : ∀ k, k < 64 → wm_tb (nI k) 6 0 0 = nI (wm_rv k) := by decide +kernel
theorem wm_turned {post : Int32 → Prop} {f0 f1 f2 : Int32} {a1 a2 a3 a4 a5 a6 : Nat → Int32} {k : Nat} (hk : k < 64) (H : post (nI (wm_rv k))) : wpX_turnedBits post (f0, f1, f2, a1, a2, a3, a4, a5, a6) (nI k) := by
  rw [← wm_tbE k hk] at H
  exact ⟨7, br_f (by decide) (nm_e (nm_e (br_f (by decide) (nm_e (nm_e (br_f (by decide) (nm_e (nm_e (br_f (by decide) (nm_e (nm_e (br_f (by decide) (nm_e (nm_e (br_f (by decide) (nm_e (nm_e (br_t (by decide) H))))))))))))))))))⟩
/-- how a letter is measured -/
def wm_M (how : Int32) (f : Nat → Nat) : Prop := ∀ l, l < 5 → f l < 7681 ∧ ∀ (post : Int32 → Prop) (u : St1), post (nI (f l)) → wpX_measure post u (nI l) how
theorem wm_M_p {h : Nat} (hh : h ≤ 3) : wm_M (nI h) (wm_fp h) := by
  intro l hl
  have hlt : ∀ h, h < 4 → ∀ l, l < 5 → l ^ h ≤ 64 := by decide +kernel
  refine ⟨?_, ?_⟩
  · unfold wm_fp
    have := hlt h (by omega) l hl
    split <;> omega
  · intro post u H
    obtain ⟨f0, f1, f2, a1, a2, a3, a4, a5, a6⟩ := u
    refine br_t (nI_pos' (by omega)) (pk_eq l 0 (fun z => ?_) (fun z => ?_))
    · rw [wm_fp, if_pos z] at H
      exact H
    · rw [wm_fp, if_neg z] at H
      refine pk_loop (σ := Unit) (fun n i _ => wX_measure_27 post (nI l) (nI h) f0 f1 f2 a1 a2 a3 a4 a5 a6 n (nI (l ^ i)) (nI i)) (fun _ _ => True) h 0 () (by omega) trivial ?_ ?_
      · intro n _ _
        exact pk_le h h (fun _ => H) (fun z => absurd z (by omega))
      · intro n i _ hi _ hw
        exact pk_le h i (fun z => absurd z (by omega)) (fun _ => nm_r (by rw [pk_mul, Nat.pow_succ]) (nm_r (nI_1 i) (hw () trivial)))
theorem wm_neg0 : ∀ h, h < 5 → 0 < h → ¬ (0 : Int32) ≤ -nI h := by decide +kernel
theorem wm_M_e {h : Nat} (h0 : 0 < h) (hh : h < 5) : wm_M (-nI h) (wm_fe h) := by
  intro l hl
  refine ⟨?_, ?_⟩
  · unfold wm_fe
    split <;> omega
  · intro post u H
    obtain ⟨f0, f1, f2, a1, a2, a3, a4, a5, a6⟩ := u
    refine br_f (wm_neg0 h hh h0) ?_
    rw [show - -nI h = nI h from Int32.neg_neg]
    refine pk_eq l h (fun z => ?_) (fun z => ?_)
    · rw [wm_fe, if_pos z] at H
      exact H
    · rw [wm_fe, if_neg z] at H
      exact H
end
section
/-! the transform's walk -/
def wm_R (a3 : Nat → Int32) : Prop := ∀ j, j < 64 → a3 j = nI (wm_pw wm_w j).val
theorem wm_t2 {post : St1 → Prop} {x2 f0 f1 f2 : Int32} {a1 a2 a3 a4 a5 a6 : Nat → Int32} {o : Nat} (ho : o + 64 ≤ 192) {x : Nat → wm_Z} (hx : wm_seg o a4 x)
    (H : ∀ b, wm_seg o b (fun q => x (wm_rv q)) → wm_fr o b a4 → ∃ fu, wX_transform_70 post (nI o) x2 fu 1 f0 f1 f2 a1 a2 a3 b a5 a6) : ∃ fu, wX_transform_2 post (nI o) x2 f0 f1 f2 fu 0 a1 a2 a3 a4 a5 a6 := by
  refine pk_loop (fun n i s => wX_transform_2 post (nI o) x2 f0 f1 f2 n (nI i) a1 a2 a3 s a5 a6) (fun i s => wm_seg o s (fun q => if q < i ∨ wm_rv q < i then x (wm_rv q) else x q) ∧ wm_fr o s a4) 64 0 a4 (by omega) ⟨wm_seg_c hx (fun q _ => (if_neg (by omega)).symm), wm_fr_r o a4⟩ ?_ ?_
  · exact fun n s h => pk_le 64 64 (fun _ => H s (wm_seg_c h.1 (fun q hq => if_pos (Or.inl hq))) h.2) (fun z => absurd z (by omega))
  · intro n i s hi h hw
    have hr := wm_rv_lt i hi
    have hrr := wm_rv_rv i hi
    refine pk_le 64 i (fun z => absurd z (by omega)) (fun _ => wm_turned hi (pk_lt i (wm_rv i) (fun z => ?_) (fun z => ?_)))
    · have c1 : (nI o + nI i).toNatClampNeg = o + i := pk_cl (o + i) (nI_add o i)
      have c2 : (nI o + nI (wm_rv i)).toNatClampNeg = o + wm_rv i := pk_cl (o + wm_rv i) (nI_add o (wm_rv i))
      have e1 : s (o + i) = nI (x i).val := (h.1 i hi).trans (congrArg (fun y : wm_Z => nI y.val) (if_neg (by omega)))
      have e2 : s (o + wm_rv i) = nI (x (wm_rv i)).val := (h.1 _ hr).trans (congrArg (fun y : wm_Z => nI y.val) (if_neg (by omega)))
      refine ⟨pk_in (o + i) 192 (by omega) (nI_add o i), nm_r (e' := nI (x i).val) (by rw [c1, e1]) ⟨pk_in (o + wm_rv i) 192 (by omega) (nI_add o _), pk_in (o + i) 192 (by omega) (nI_add o i), ?_⟩⟩
      refine nm_r (e' := upd s (o + i) (nI (x (wm_rv i)).val)) (by rw [c1, c2, e2]) ⟨pk_in (o + wm_rv i) 192 (by omega) (nI_add o _), ?_⟩
      refine nm_r (e' := upd (upd s (o + i) (nI (x (wm_rv i)).val)) (o + wm_rv i) (nI (x i).val)) (by rw [c2]) (nm_r (nI_1 i) (hw _ ⟨?_, wm_fr_put hr (wm_fr_put hi h.2)⟩))
      intro q hq
      by_cases d1 : q = wm_rv i
      · rw [d1, pk_us]
        refine congrArg (fun y : wm_Z => nI y.val) (Eq.trans ?_ (if_pos (by omega)).symm)
        rw [hrr]
      · rw [pk_un (by omega)]
        by_cases d2 : q = i
        · rw [d2, pk_us]
          exact congrArg (fun y : wm_Z => nI y.val) (if_pos (by omega)).symm
        · rw [pk_un (by omega), h.1 q hq]
          have d3 : wm_rv q ≠ i := fun e => d1 (by rw [← e, wm_rv_rv q hq])
          try dsimp only
          by_cases d : q < i ∨ wm_rv q < i
          · rw [if_pos d, if_pos (by omega)]
          · rw [if_neg d, if_neg (by omega)]
    · refine nm_r (nI_1 i) (hw _ ⟨wm_seg_c h.1 (fun q hq => ?_), h.2⟩)
      try dsimp only
      by_cases d : q < i ∨ wm_rv q < i
      · rw [if_pos d, if_pos (by omega)]
      · by_cases d2 : q = i
        · rw [if_neg d, if_pos (by omega)]
          have : wm_rv i = i := by
            rw [d2] at d
            omega
          rw [d2, this]
        · by_cases d3 : wm_rv q = i
          · have h4 : wm_rv i = q := by rw [← d3, wm_rv_rv q hq]
            omega
          · rw [if_neg d, if_neg (by omega)]
def wm_lo (H k : Nat) : Nat := k / H * 2 * H + k % H
def wm_pi (H q : Nat) : Nat := q / (2 * H) * H + q % H
theorem wm_c3 : ∀ s, s < 6 → ∀ k, k < 32 → wm_lo (2 ^ s) k + 2 ^ s < 64 ∧ wm_lo (2 ^ s) k / 2 ^ s % 2 = 0 ∧ wm_lo (2 ^ s) k % 2 ^ s = k % 2 ^ s ∧ (wm_lo (2 ^ s) k + 2 ^ s) / 2 ^ s % 2 = 1 ∧ (wm_lo (2 ^ s) k + 2 ^ s) % 2 ^ s = k % 2 ^ s ∧ wm_pi (2 ^ s) (wm_lo (2 ^ s) k) = k ∧ wm_pi (2 ^ s) (wm_lo (2 ^ s) k + 2 ^ s) = k ∧ k % 2 ^ s * (32 / 2 ^ s) < 32 := by decide +kernel
theorem wm_c4 : ∀ s, s < 6 → ∀ q, q < 64 → wm_pi (2 ^ s) q < 32 ∧ (q = wm_lo (2 ^ s) (wm_pi (2 ^ s) q) ∨ q = wm_lo (2 ^ s) (wm_pi (2 ^ s) q) + 2 ^ s) := by decide +kernel
theorem wm_c5 : ∀ s, s < 6 → 0 < 2 ^ s ∧ 2 ^ s ≤ 32 := by decide +kernel
theorem wm_c6 : ∀ e, e < 32 → 0 < e → wm_pw (wm_pw wm_w 63) e = wm_pw wm_w (64 - e) := by decide +kernel
/-- the code's way back is chosen by x2 -/
def wm_dir (x2 : Int32) (θ : wm_Z) : Prop := (x2 = 0 ∧ θ = wm_w) ∨ (¬ x2 = 0 ∧ θ = wm_pw wm_w 63)
theorem wm_dir32 {x2 : Int32} {θ : wm_Z} (h : wm_dir x2 θ) : wm_pw θ 32 = -1 := by
  rcases h with h | h
  · rw [h.2, wm_w32]
  · rw [h.2, wm_b32]
theorem wm_t79 {post : St1 → Prop} {J70 : Int32 → Int32 → Int32 → Int32 → (Nat → Int32) → (Nat → Int32) → (Nat → Int32) → (Nat → Int32) → (Nat → Int32) → (Nat → Int32) → Prop} {x2 f0 f1 f2 : Int32} {a1 a2 a3 a4 a5 a6 : Nat → Int32} {o : Nat} (ho : o + 64 ≤ 192) {θ : wm_Z} (hd : wm_dir x2 θ) (hR : wm_R a3) (s : Nat) (hs : s < 6) {A : Nat → wm_Z} (hA : wm_seg o a4 A)
    (G : ∀ b, wm_seg o b (wm_L θ A (2 ^ s)) → wm_fr o b a4 → J70 (nI (2 ^ (s + 1))) f0 f1 f2 a1 a2 a3 b a5 a6) : ∃ fu, wX_transform_79 post J70 (nI o) x2 (nI (2 ^ s)) fu 0 f0 f1 f2 a1 a2 a3 a4 a5 a6 := by
  obtain ⟨hH0, hH⟩ := wm_c5 s hs
  have hc4 := wm_c4 s hs
  have hc3 := wm_c3 s hs
  have hG : ∀ b, wm_seg o b (wm_L θ A (2 ^ s)) → wm_fr o b a4 → J70 (nI (2 ^ s) * 2) f0 f1 f2 a1 a2 a3 b a5 a6 := by
    intro b h1 h2
    have h3 := G b h1 h2
    rw [Nat.pow_succ, ← pk_mul] at h3
    exact h3
  revert hH0 hH hc3 hc4 hG
  generalize 2 ^ s = K
  intro hH0 hH hc4 hc3 G
  refine pk_loop (fun n k b => wX_transform_79 post J70 (nI o) x2 (nI K) n (nI k) f0 f1 f2 a1 a2 a3 b a5 a6) (fun k b => wm_seg o b (fun q => if wm_pi K q < k then wm_L θ A K q else A q) ∧ wm_fr o b a4) 32 0 a4 (by omega) ⟨wm_seg_c hA (fun q _ => (if_neg (by omega)).symm), wm_fr_r o a4⟩ ?_ ?_
  · exact fun n b h => pk_le 32 32 (fun _ => nm_e (G b (wm_seg_c h.1 (fun q hq => if_pos (hc4 q hq).1)) h.2)) (fun z => absurd z (by omega))
  · intro n k b hk h hw
    obtain ⟨k1, k2, k3, k4, k5, k6, k7, k8⟩ := hc3 k hk
    have key : ∀ idx, idx < 64 → a3 idx = nI (wm_pw θ (k % K * (32 / K))).val → wX_transform_142 post J70 (wX_transform_79 post J70 (nI o) x2 (nI K) n) (nI o) x2 (nI K) (nI k) (nI idx) (nI (o + wm_lo K k) + nI K) (nI (o + wm_lo K k)) f0 f1 f2 a1 a2 a3 b a5 a6 := by
      intro idx hidx hr
      rw [nI_add]
      have e1 : b (o + wm_lo K k) = nI (A (wm_lo K k)).val := (h.1 _ (by omega)).trans (congrArg (fun y : wm_Z => nI y.val) (if_neg (by omega)))
      have e2 : b (o + wm_lo K k + K) = nI (A (wm_lo K k + K)).val := by
        rw [Nat.add_assoc]
        exact (h.1 _ (by omega)).trans (congrArg (fun y : wm_Z => nI y.val) (if_neg (by omega)))
      refine wm_butterfly (by omega) (by omega) hidx e1 e2 hr (nm_r (nI_1 k) (hw _ ⟨?_, ?_⟩))
      · intro q hq
        rw [Nat.add_assoc]
        by_cases d1 : q = wm_lo K k + K
        · rw [d1, pk_us]
          refine congrArg (fun y : wm_Z => nI y.val) (Eq.trans ?_ (if_pos (by omega)).symm)
          rw [wm_L, if_neg (by omega), k5, show wm_lo K k + K - K = wm_lo K k by omega]
        · rw [pk_un (by omega)]
          by_cases d2 : q = wm_lo K k
          · rw [d2, pk_us]
            refine congrArg (fun y : wm_Z => nI y.val) (Eq.trans ?_ (if_pos (by omega)).symm)
            rw [wm_L, if_pos k2, k3]
          · rw [pk_un (by omega), h.1 q hq]
            have d3 : wm_pi K q ≠ k := fun e => by
              have := (hc4 q hq).2
              rw [e] at this
              omega
            try dsimp only
            by_cases d : wm_pi K q < k
            · rw [if_pos d, if_pos (by omega)]
            · rw [if_neg d, if_neg (by omega)]
      · rw [Nat.add_assoc]
        exact wm_fr_put (by omega) (wm_fr_put (by omega) h.2)
    have g5 : nI k - nI k / nI K * nI K = nI (k % K) := pk_rem (by omega) hH0 (by omega)
    have g6 : nI o + nI k / nI K * 2 * nI K + nI (k % K) = nI (o + wm_lo K k) := by
      rw [pk_div (by omega) hH0 (by omega), show (2 : Int32) = nI 2 from rfl, pk_mul, pk_mul, nI_add, nI_add, wm_lo, Nat.add_assoc]
    have g7 : nI (k % K) * (32 / nI K) = nI (k % K * (32 / K)) := by
      rw [show (32 : Int32) = nI 32 from rfl, pk_div (by omega) hH0 (by omega), pk_mul]
    refine pk_le 32 k (fun z => absurd z (by omega)) (fun _ => ⟨nI_ne0 hH0 (by omega), nm_r g5 ⟨nI_ne0 hH0 (by omega), nm_r g6 ⟨nI_ne0 hH0 (by omega), nm_r g7 ?_⟩⟩⟩)
    rcases hd with ⟨hx, hθ⟩ | ⟨hx, hθ⟩
    · exact br_t hx (key _ (by omega) (by rw [hθ]; exact hR _ (by omega)))
    · refine br_f hx (pk_le (k % K * (32 / K)) 0 (fun z => key _ (by omega) ?_) (fun z => ?_))
      · rw [hθ, show k % K * (32 / K) = 0 by omega]
        exact hR 0 (by omega)
      · have e : (64 : Int32) - nI (k % K * (32 / K)) = nI (64 - k % K * (32 / K)) := pk_sub (a := 64) (by omega)
        rw [e]
        refine key _ (by omega) ?_
        rw [hθ, wm_c6 _ k8 z]
        exact hR _ (by omega)
theorem wm_t70 {post : St1 → Prop} {x2 f0 f1 f2 : Int32} {a1 a2 a3 a4 a5 a6 : Nat → Int32} {o : Nat} (ho : o + 64 ≤ 192) {θ : wm_Z} (hd : wm_dir x2 θ) (hR : wm_R a3) {x : Nat → wm_Z} (hx : wm_seg o a4 (fun q => x (wm_rv q)))
    (G : ∀ b, wm_seg o b (wm_D θ x) → wm_fr o b a4 → (x2 = 0 → post (f0, f1, f2, a1, a2, a3, b, a5, a6)) ∧ (¬ x2 = 0 → wpX_divideBySize post (f0, f1, f2, a1, a2, a3, b, a5, a6) (nI o))) : ∃ fu, wX_transform_70 post (nI o) x2 fu 1 f0 f1 f2 a1 a2 a3 a4 a5 a6 := by
  refine pk_loop (fun n s b => wX_transform_70 post (nI o) x2 n (nI (2 ^ s)) f0 f1 f2 a1 a2 a3 b a5 a6) (fun s b => wm_seg o b (fun q => wm_F θ x (2 ^ s) (2 ^ (6 - s)) (wm_rv (q / 2 ^ s * 2 ^ s)) (q % 2 ^ s)) ∧ wm_fr o b a4) 6 0 a4 (by omega) ⟨wm_seg_c hx (fun q _ => wm_beg.symm), wm_fr_r o a4⟩ ?_ ?_
  · intro n b h
    have g := G b (wm_seg_c h.1 (fun q hq => wm_fin hq)) h.2
    exact pk_le 64 (2 ^ 6) (fun _ => g) (fun z => absurd z (by omega))
  · intro n s b hs h hw
    have h32 := (wm_c5 s hs).2
    refine pk_le 64 (2 ^ s) (fun z => absurd z (by omega)) (fun _ => ?_)
    refine wm_t79 ho hd hR s hs h.1 (fun b' g1 g2 => hw b' ⟨wm_seg_c g1 (fun q hq => ?_), wm_fr_t g2 h.2⟩)
    exact wm_lev (wm_dir32 hd) x _ s hs (fun q _ => rfl) q hq
theorem wm_trF {post : St1 → Prop} {f0 f1 f2 : Int32} {a1 a2 a3 a4 a5 a6 : Nat → Int32} {o : Nat} (ho : o + 64 ≤ 192) (hR : wm_R a3) {x : Nat → wm_Z} (hx : wm_seg o a4 x)
    (G : ∀ b, wm_seg o b (wm_D wm_w x) → wm_fr o b a4 → post (f0, f1, f2, a1, a2, a3, b, a5, a6)) : wpX_transform post (f0, f1, f2, a1, a2, a3, a4, a5, a6) (nI o) 0 :=
  wm_t2 ho hx (fun _ h1 h2 => wm_t70 ho (Or.inl ⟨rfl, rfl⟩) hR h1 (fun b' g1 g2 => br_t rfl (G b' g1 (wm_fr_t g2 h2))))
theorem wm_trB {post : St1 → Prop} {f0 f1 f2 : Int32} {a1 a2 a3 a4 a5 a6 : Nat → Int32} {o : Nat} (ho : o + 64 ≤ 192) (hR : wm_R a3) {x : Nat → wm_Z} (hx : wm_seg o a4 x)
    (G : ∀ b, wm_seg o b (wm_V x) → wm_fr o b a4 → post (f0, f1, f2, a1, a2, a3, b, a5, a6)) : wpX_transform post (f0, f1, f2, a1, a2, a3, a4, a5, a6) (nI o) 1 :=
  wm_t2 ho hx (fun _ h1 h2 => wm_t70 ho (Or.inr ⟨by decide, rfl⟩) hR h1 (fun b' g1 g2 => br_f (by decide) (wm_divide ho g1 (fun b'' k1 k2 => G b'' k1 (wm_fr_t k2 (wm_fr_t g2 h2))))))
end
section
/-! addProduct's walk -/
/-- the picture: n letters t of text, m letters p of pattern; the roots -/
def wm_P (n m : Nat) (t p : Nat → Nat) (a1 a2 a3 : Nat → Int32) : Prop := n ≤ 40 ∧ m ≤ 12 ∧ (∀ j, t j < 5) ∧ (∀ j, p j < 5) ∧ (∀ j, j < n → a1 j = nI (t j)) ∧ (∀ j, j < m → a2 j = nI (p j)) ∧ wm_R a3
theorem wm_zI {l : Nat} (h : l < 7681) : nI l = nI (wm_z l).val := by rw [wm_z_val h]
theorem wm_a151 {post : St1 → Prop} {x3 f0 f1 f2 : Int32} {a1 a2 a3 a4 a5 a6 : Nat → Int32} {X Y S : Nat → wm_Z} {c : wm_Z} (hc : x3 = nI c.val) (hX : wm_seg 64 a4 X) (hY : wm_seg 0 a4 Y) (hS : wm_seg 128 a4 S)
    (G : ∀ b, wm_seg 128 b (fun k => S k + X k * Y k * c) → post (f0, f1, f2, a1, a2, a3, b, a5, a6)) : ∃ fu, wX_addProduct_151 post x3 f0 f1 f2 fu 0 a1 a2 a3 a4 a5 a6 := by
  refine pk_loop (fun n i s => wX_addProduct_151 post x3 f0 f1 f2 n (nI i) a1 a2 a3 s a5 a6) (fun i s => wm_seg 128 s (fun q => if q < i then S q + X q * Y q * c else S q) ∧ wm_fr 128 s a4) 64 0 a4 (by omega) ⟨wm_seg_c hS (fun q _ => (if_neg (by omega)).symm), wm_fr_r 128 a4⟩ ?_ ?_
  · exact fun n s h => pk_le 64 64 (fun _ => G s (wm_seg_c h.1 (fun q hq => if_pos hq))) (fun z => absurd z (by omega))
  · intro n i s hi h hw
    have c1 : (64 + nI i).toNatClampNeg = 64 + i := pk_cl (64 + i) (nI_add 64 i)
    have c2 : (0 + nI i).toNatClampNeg = 0 + i := pk_cl (0 + i) (nI_add 0 i)
    have c3 : (128 + nI i).toNatClampNeg = 128 + i := pk_cl (128 + i) (nI_add 128 i)
    have e1 : s (64 + i) = nI (X i).val := wm_seg_fr hX h.2 (by omega) i hi
    have e2 : s (0 + i) = nI (Y i).val := wm_seg_fr hY h.2 (by omega) i hi
    have e3 : s (128 + i) = nI (S i).val := (h.1 i hi).trans (congrArg (fun y : wm_Z => nI y.val) (if_neg (by omega)))
    refine pk_le 64 i (fun z => absurd z (by omega)) (fun _ => ⟨pk_in (64 + i) 192 (by omega) (nI_add 64 i), pk_in (0 + i) 192 (by omega) (nI_add 0 i), by decide, by decide, ?_⟩)
    refine nm_r (e' := nI (X i * Y i * c).val) (by rw [c1, c2, e1, e2, hc, wm_mul (X i) (Y i), wm_mul (X i * Y i) c]) ⟨pk_in (128 + i) 192 (by omega) (nI_add 128 i), by decide, pk_in (128 + i) 192 (by omega) (nI_add 128 i), ?_⟩
    refine nm_r (e' := upd s (128 + i) (nI (S i + X i * Y i * c).val)) (by rw [c3, e3, wm_add]) (nm_r (nI_1 i) (hw _ ⟨wm_seg_put h.1 ?_ ?_, wm_fr_put hi h.2⟩))
    · exact congrArg (fun y : wm_Z => nI y.val) (if_pos (by omega)).symm
    · intro q hq hne
      try dsimp only
      by_cases d : q < i
      · rw [if_pos d, if_pos (by omega)]
      · rw [if_neg d, if_neg (by omega)]
/-- the measured text, continued with its beginning; the measured pattern, turned -/
def wm_Y (n m : Nat) (t : Nat → Nat) (f : Nat → Nat) (q : Nat) : wm_Z := if q < n + m - 1 then wm_z (f (t (q % n))) else 0
def wm_X (m : Nat) (p : Nat → Nat) (f : Nat → Nat) (q : Nat) : wm_Z := if q < m then wm_z (f (p (m - 1 - q))) else 0
theorem wm_a87 {post : St1 → Prop} {x2 x3 f2 : Int32} {a1 a2 a3 a4 a5 a6 : Nat → Int32} {n m : Nat} {t p : Nat → Nat} (hP : wm_P n m t p a1 a2 a3) (hm : 1 ≤ m) (hmn : m ≤ n) {ft : Nat → Nat} (hft : wm_M x2 ft) {X S : Nat → wm_Z} {c : wm_Z} (hc : x3 = nI c.val) (hX : wm_seg 64 a4 X) (hY : wm_seg 0 a4 (fun _ => 0)) (hS : wm_seg 128 a4 S)
    (G : ∀ b, wm_seg 128 b (fun k => S k + wm_D wm_w X k * wm_D wm_w (wm_Y n m t ft) k * c) → post (nI n, nI m, f2, a1, a2, a3, b, a5, a6)) : ∃ fu, wX_addProduct_87 post x2 x3 (nI n) (nI m) f2 fu 0 a1 a2 a3 a4 a5 a6 := by
  obtain ⟨hn40, hm12, ht, hp, h1, h2, hR⟩ := hP
  have hx : nI n + nI m - 1 = nI (n + m - 1) := by
    rw [nI_add]
    exact pk_sub (b := 1) (by omega)
  refine pk_loop (fun k i s => wX_addProduct_87 post x2 x3 (nI n) (nI m) f2 k (nI i) a1 a2 a3 s a5 a6) (fun i s => wm_seg 0 s (fun q => if q < i then wm_z (ft (t (q % n))) else 0) ∧ wm_fr 0 s a4) (n + m - 1) 0 a4 (by omega) ⟨wm_seg_c hY (fun q _ => (if_neg (by omega)).symm), wm_fr_r 0 a4⟩ ?_ ?_
  · intro k s h
    refine pk_le (n + m - 1) (n + m - 1) (fun _ => ?_) (fun z => absurd z (by omega)) hx
    refine wm_trF (o := 64) (by omega) hR (wm_seg_fr hX h.2 (by omega)) (fun b1 g1 g2 => ?_)
    refine wm_trF (o := 0) (by omega) hR (wm_seg_fr h.1 g2 (by omega)) (fun b2 g3 g4 => ?_)
    exact wm_a151 hc (wm_seg_fr g1 g4 (by omega)) g3 (wm_seg_fr (wm_seg_fr (wm_seg_fr hS h.2 (by omega)) g2 (by omega)) g4 (by omega)) G
  · intro k i s hi h hw
    refine pk_le (n + m - 1) i (fun z => absurd z (by omega)) (fun _ => ?_) hx
    have hmod : i % n < n := Nat.mod_lt _ (by omega)
    have g : nI i - nI i / nI n * nI n = nI (i % n) := pk_rem (by omega) (by omega) (by omega)
    have c : (0 + nI i).toNatClampNeg = 0 + i := pk_cl (0 + i) (nI_add 0 i)
    refine ⟨nI_ne0 (by omega) (by omega), pk_in (i % n) 40 (by omega) g, ?_⟩
    rw [g, nI_clamp (by omega), h1 _ hmod]
    obtain ⟨k1, k2⟩ := hft _ (ht (i % n))
    refine k2 _ _ ⟨pk_in (0 + i) 192 (by omega) (nI_add 0 i), nm_r (e' := upd s (0 + i) (nI (ft (t (i % n))))) (by rw [c]) (nm_r (nI_1 i) (hw _ ⟨wm_seg_put h.1 ?_ ?_, wm_fr_put (by omega) h.2⟩))⟩
    · rw [wm_zI k1]
      exact congrArg (fun y : wm_Z => nI y.val) (if_pos (by omega)).symm
    · intro q hq hne
      try dsimp only
      by_cases d : q < i
      · rw [if_pos d, if_pos (by omega)]
      · rw [if_neg d, if_neg (by omega)]
theorem wm_a40 {post : St1 → Prop} {x1 x2 x3 f2 : Int32} {a1 a2 a3 a4 a5 a6 : Nat → Int32} {n m : Nat} {t p : Nat → Nat} (hP : wm_P n m t p a1 a2 a3) (hm : 1 ≤ m) (hmn : m ≤ n) {fp ft : Nat → Nat} (hfp : wm_M x1 fp) (hft : wm_M x2 ft) {S : Nat → wm_Z} {c : wm_Z} (hc : x3 = nI c.val) (hX : wm_seg 64 a4 (fun _ => 0)) (hY : wm_seg 0 a4 (fun _ => 0)) (hS : wm_seg 128 a4 S)
    (G : ∀ b, wm_seg 128 b (fun k => S k + wm_D wm_w (wm_X m p fp) k * wm_D wm_w (wm_Y n m t ft) k * c) → post (nI n, nI m, f2, a1, a2, a3, b, a5, a6)) : ∃ fu, wX_addProduct_40 post x1 x2 x3 (nI n) (nI m) f2 fu 0 a1 a2 a3 a4 a5 a6 := by
  have hP' := hP
  obtain ⟨hn40, hm12, ht, hp, h1, h2, hR⟩ := hP
  refine pk_loop (fun k i s => wX_addProduct_40 post x1 x2 x3 (nI n) (nI m) f2 k (nI i) a1 a2 a3 s a5 a6) (fun i s => wm_seg 64 s (fun q => if m - i ≤ q ∧ q < m then wm_z (fp (p (m - 1 - q))) else 0) ∧ wm_fr 64 s a4) m 0 a4 (by omega) ⟨wm_seg_c hX (fun q _ => (if_neg (by omega)).symm), wm_fr_r 64 a4⟩ ?_ ?_
  · intro k s h
    refine pk_le m m (fun _ => ?_) (fun z => absurd z (by omega))
    refine wm_a87 hP' hm hmn hft hc (wm_seg_c h.1 (fun q _ => ?_)) (wm_seg_fr hY h.2 (by omega)) (wm_seg_fr hS h.2 (by omega)) G
    try dsimp only
    unfold wm_X
    by_cases d : q < m
    · rw [if_pos d, if_pos (by omega)]
    · rw [if_neg d, if_neg (by omega)]
  · intro k i s hi h hw
    refine pk_le m i (fun z => absurd z (by omega)) (fun _ => ?_)
    have g : 64 + nI m - 1 - nI i = nI (64 + (m - 1 - i)) := by
      rw [show (64 : Int32) + nI m = nI (64 + m) from nI_add 64 m, show nI (64 + m) - 1 = nI (64 + m - 1) from pk_sub (b := 1) (by omega), pk_sub (by omega)]
      exact congrArg nI (by omega)
    have c : (64 + nI m - 1 - nI i).toNatClampNeg = 64 + (m - 1 - i) := pk_cl _ g
    refine ⟨pk_in i 12 (by omega), ?_⟩
    rw [nI_clamp (show i < 2 ^ 31 by omega), h2 _ hi]
    obtain ⟨k1, k2⟩ := hfp _ (hp i)
    refine k2 _ _ ⟨pk_in (64 + (m - 1 - i)) 192 (by omega) g, nm_r (e' := upd s (64 + (m - 1 - i)) (nI (fp (p i)))) (by rw [c]) (nm_r (nI_1 i) (hw _ ⟨wm_seg_put h.1 ?_ ?_, wm_fr_put (by omega) h.2⟩))⟩
    · rw [wm_zI k1]
      refine congrArg (fun y : wm_Z => nI y.val) (Eq.trans ?_ (if_pos (by omega)).symm)
      rw [show m - 1 - (m - 1 - i) = i by omega]
    · intro q hq hne
      try dsimp only
      by_cases d : m - i ≤ q ∧ q < m
      · rw [if_pos d, if_pos (by omega)]
      · rw [if_neg d, if_neg (by omega)]
theorem wm_addP {post : St1 → Prop} {x1 x2 x3 f2 : Int32} {a1 a2 a3 a4 a5 a6 : Nat → Int32} {n m : Nat} {t p : Nat → Nat} (hP : wm_P n m t p a1 a2 a3) (hm : 1 ≤ m) (hmn : m ≤ n) {fp ft : Nat → Nat} (hfp : wm_M x1 fp) (hft : wm_M x2 ft) {S : Nat → wm_Z} {c : wm_Z} (hc : x3 = nI c.val) (hS : wm_seg 128 a4 S)
    (G : ∀ b S', wm_seg 128 b S' → (∀ i, i < n → wm_V S' (i + m - 1) = wm_V S (i + m - 1) + c * wm_C n m t p fp ft i) → post (nI n, nI m, f2, a1, a2, a3, b, a5, a6)) : wpX_addProduct post (nI n, nI m, f2, a1, a2, a3, a4, a5, a6) x1 x2 x3 := by
  have hn40 := hP.1
  have hm12 := hP.2.1
  have G' : ∀ b, wm_seg 128 b (fun k => S k + wm_D wm_w (wm_X m p fp) k * wm_D wm_w (wm_Y n m t ft) k * c) → post (nI n, nI m, f2, a1, a2, a3, b, a5, a6) := by
    intro b hb
    refine G b _ hb (fun i hi => ?_)
    rw [wm_V_add S (fun k => wm_D wm_w (wm_X m p fp) k * wm_D wm_w (wm_Y n m t ft) k) c]
    rw [wm_prod (n := n) hm (by omega) hi (fun a h1 h2 => by
      unfold wm_X
      rw [if_neg (by omega)])]
    refine congrArg (fun y => wm_V S (i + m - 1) + c * y) (wm_sm_congr (fun j hj => ?_))
    unfold wm_X wm_Y
    rw [if_pos (by omega), if_pos (by omega), show m - 1 - (m - 1 - j) = j by omega]
  refine pk_loop (fun k i s => wX_addProduct_3 post x1 x2 x3 (nI n) (nI m) f2 k (nI i) a1 a2 a3 s a5 a6) (fun i s => (∀ q, q < i → s (64 + q) = 0 ∧ s (0 + q) = 0) ∧ wm_seg 128 s S) 64 0 a4 (by omega) ⟨fun q hq => absurd hq (by omega), hS⟩ ?_ ?_
  · exact fun k s h => pk_le 64 64 (fun _ => wm_a40 hP hm hmn hfp hft hc (fun q hq => (h.1 q hq).1) (fun q hq => (h.1 q hq).2) h.2 G') (fun z => absurd z (by omega))
  · intro k i s hi h hw
    have c1 : (64 + nI i).toNatClampNeg = 64 + i := pk_cl (64 + i) (nI_add 64 i)
    have c2 : (0 + nI i).toNatClampNeg = 0 + i := pk_cl (0 + i) (nI_add 0 i)
    refine pk_le 64 i (fun z => absurd z (by omega)) (fun _ => ⟨pk_in (64 + i) 192 (by omega) (nI_add 64 i), nm_r (e' := upd s (64 + i) 0) (by rw [c1]) ⟨pk_in (0 + i) 192 (by omega) (nI_add 0 i), nm_r (e' := upd (upd s (64 + i) 0) (0 + i) 0) (by rw [c2]) (nm_r (nI_1 i) (hw _ ⟨fun q hq => ⟨?_, ?_⟩, fun q hq => ?_⟩))⟩⟩)
    · rw [pk_un (by omega)]
      by_cases d : q = i
      · rw [d, pk_us]
      · rw [pk_un (by omega)]
        exact (h.1 q (by omega)).1
    · by_cases d : q = i
      · rw [d, pk_us]
      · rw [pk_un (by omega), pk_un (by omega)]
        exact (h.1 q (by omega)).2
    · rw [pk_un (by omega), pk_un (by omega)]
      exact h.2 q hq
end
section
/-! prepare's walk -/
theorem wm_ixS {i m : Nat} (hm : 1 ≤ m) (hi : i < 64) (hm2 : m < 64) : 128 + nI i + nI m - 1 = nI (128 + (i + m - 1)) := by
  rw [show (128 : Int32) + nI i = nI (128 + i) from nI_add 128 i, nI_add, show nI (128 + i + m) - 1 = nI (128 + i + m - 1) from pk_sub (b := 1) (by omega)]
  exact congrArg nI (by omega)
theorem wm_p151 {post : St1 → Prop} {f2 : Int32} {a1 a2 a3 a4 a5 a6 : Nat → Int32} {n m : Nat} (hn : n ≤ 40) (hm12 : m ≤ 12) (hm : 1 ≤ m) {V : Nat → wm_Z} (hV : wm_seg 128 a4 V)
    (G : ∀ b, (∀ i, i < n → b i = nI (V (i + m - 1)).val) → post (nI n, nI m, f2, a1, a2, a3, a4, a5, b)) : ∃ fu, wX_prepare_151 post (nI n) (nI m) f2 fu 0 a1 a2 a3 a4 a5 a6 := by
  refine pk_loop (fun k i s => wX_prepare_151 post (nI n) (nI m) f2 k (nI i) a1 a2 a3 a4 a5 s) (fun i s => ∀ j, j < i → s j = nI (V (j + m - 1)).val) n 0 a6 (by omega) (fun j hj => absurd hj (by omega)) ?_ ?_
  · exact fun k s h => pk_le n n (fun _ => G s h) (fun z => absurd z (by omega))
  · intro k i s hi h hw
    have g := wm_ixS (i := i) hm (by omega) (by omega)
    have c : (128 + nI i + nI m - 1).toNatClampNeg = 128 + (i + m - 1) := pk_cl _ g
    refine pk_le n i (fun z => absurd z (by omega)) (fun _ => ⟨pk_in (128 + (i + m - 1)) 192 (by omega) g, pk_in i 40 (by omega), nm_r (e' := upd s i (nI (V (i + m - 1)).val)) (by rw [c, nI_clamp (by omega), hV _ (by omega)]) (nm_r (nI_1 i) (hw _ ?_))⟩)
    intro j hj
    by_cases d : j = i
    · rw [d, pk_us]
    · rw [pk_un (by omega)]
      exact h j (by omega)
theorem wm_p119s {post : St1 → Prop} {f2 : Int32} {a1 a2 a3 a4 a5 a6 : Nat → Int32} {n m : Nat} {t p : Nat → Nat} (hP : wm_P n m t p a1 a2 a3) (hm : 1 ≤ m) (hmn : m ≤ n) {S : Nat → wm_Z} (hS : wm_seg 128 a4 S) {k l : Nat} (h0 : 0 < l) (h5 : l < 5)
    (G : ∀ b S', wm_seg 128 b S' → (∀ i, i < n → wm_V S' (i + m - 1) = wm_V S (i + m - 1) + 7680 * wm_C n m t p (wm_fe l) (wm_fe l) i) → wX_prepare_119 post k (nI (l + 1)) (nI n) (nI m) f2 a1 a2 a3 b a5 a6) : wX_prepare_119 post (k + 1) (nI l) (nI n) (nI m) f2 a1 a2 a3 a4 a5 a6 :=
  pk_lt 4 l (fun z => absurd z (by omega)) (fun _ => wm_addP hP hm hmn (wm_M_e h0 h5) (wm_M_e h0 h5) (c := 7680) (by decide) hS (fun b S' g1 g2 => nm_r (nI_1 l) (G b S' g1 g2)))
theorem wm_p119 {post : St1 → Prop} {f2 : Int32} {a1 a2 a3 a4 a5 a6 : Nat → Int32} {n m : Nat} {t p : Nat → Nat} (hP : wm_P n m t p a1 a2 a3) (hm : 1 ≤ m) (hmn : m ≤ n) {S : Nat → wm_Z} (hS : wm_seg 128 a4 S) (hV : ∀ i, i < n → wm_V S (i + m - 1) = wm_C n m t p (wm_fp 0) (wm_fp 0) i)
    (G : ∀ b a, (∀ i, i < n → a i = nI (wm_W n m t p i)) → post (nI n, nI m, f2, a1, a2, a3, b, a5, a)) : ∃ fu, wX_prepare_119 post fu 1 (nI n) (nI m) f2 a1 a2 a3 a4 a5 a6 := by
  refine ⟨5, wm_p119s (l := 1) hP hm hmn hS (by omega) (by omega) (fun b1 S1 g1 v1 => ?_)⟩
  refine wm_p119s (l := 2) hP hm hmn g1 (by omega) (by omega) (fun b2 S2 g2 v2 => ?_)
  refine wm_p119s (l := 3) hP hm hmn g2 (by omega) (by omega) (fun b3 S3 g3 v3 => ?_)
  refine wm_p119s (l := 4) hP hm hmn g3 (by omega) (by omega) (fun b4 S4 g4 v4 => ?_)
  refine pk_lt 4 5 (fun _ => ?_) (fun z => absurd z (by omega))
  refine wm_trB (o := 128) (by omega) hP.2.2.2.2.2.2 g4 (fun b5 g5 _ => ?_)
  refine wm_p151 hP.1 hP.2.1 hm g5 (fun a ha => G b5 a (fun i hi => ?_))
  rw [ha i hi, v4 i hi, v3 i hi, v2 i hi, v1 i hi, hV i hi, wm_W_eq hP.2.2.1 hP.2.2.2.1, wm_z_val]
  have := wm_W_le (n := n) hP.2.1 hP.2.2.1 hP.2.2.2.1 i
  omega
theorem wm_p69 {post : St1 → Prop} {f2 : Int32} {a1 a2 a3 a4 a5 a6 : Nat → Int32} {n m : Nat} {t p : Nat → Nat} (hP : wm_P n m t p a1 a2 a3) (hm : 1 ≤ m) (hmn : m ≤ n) {V : Nat → wm_Z} (hV : wm_seg 128 a4 V) (hD : ∀ i, i < n → V (i + m - 1) = wm_z (wm_DD n m t p i))
    (G : ∀ b c a, (∀ i, i < n → c i = nI (wm_DD n m t p i)) → (∀ i, i < n → a i = nI (wm_W n m t p i)) → post (nI n, nI m, f2, a1, a2, a3, b, c, a)) : ∃ fu, wX_prepare_69 post (nI n) (nI m) f2 fu 0 a1 a2 a3 a4 a5 a6 := by
  have hn := hP.1
  have hm12 := hP.2.1
  refine pk_loop (fun k i s => wX_prepare_69 post (nI n) (nI m) f2 k (nI i) a1 a2 a3 a4 s a6) (fun i s => ∀ j, j < i → s j = nI (wm_DD n m t p j)) n 0 a5 (by omega) (fun j hj => absurd hj (by omega)) ?_ ?_
  · intro k s h
    refine pk_le n n (fun _ => ?_) (fun z => absurd z (by omega))
    refine wm_clear (fun b1 g1 => ?_)
    refine wm_addP hP hm hmn (show wm_M 0 (wm_fp 0) from wm_M_p (h := 0) (by omega)) (show wm_M 0 (wm_fp 0) from wm_M_p (h := 0) (by omega)) (c := 1) (by decide) g1 (fun b2 S2 g2 v2 => ?_)
    refine wm_p119 hP hm hmn g2 (fun i hi => ?_) (fun b a ha => G b s a h ha)
    rw [v2 i hi, wm_V_zero]
    grind
  · intro k i s hi h hw
    have g := wm_ixS (i := i) hm (by omega) (by omega)
    have c : (128 + nI i + nI m - 1).toNatClampNeg = 128 + (i + m - 1) := pk_cl _ g
    refine pk_le n i (fun z => absurd z (by omega)) (fun _ => ⟨pk_in (128 + (i + m - 1)) 192 (by omega) g, pk_in i 40 (by omega), nm_r (e' := upd s i (nI (wm_DD n m t p i))) (by rw [c, nI_clamp (by omega), hV _ (by omega), hD i hi, wm_z_val (wm_DD_lt hm12 hP.2.2.1 hP.2.2.2.1 i)]) (nm_r (nI_1 i) (hw _ ?_))⟩)
    intro j hj
    by_cases d : j = i
    · rw [d, pk_us]
    · rw [pk_un (by omega)]
      exact h j (by omega)
/-- the two kept sums are those of the picture -/
def wm_K (n m : Nat) (t p : Nat → Nat) (a5 a6 : Nat → Int32) : Prop := 1 ≤ m → m ≤ n → ∀ i, i < n → a5 i = nI (wm_DD n m t p i) ∧ a6 i = nI (wm_W n m t p i)
def wm_Rd (r : Int32) (n m : Nat) (t p : Nat → Nat) (a5 a6 : Nat → Int32) : Prop := r = 0 ∨ (r = 1 ∧ wm_K n m t p a5 a6)
theorem wm_prepare {post : St1 → Prop} {r : Int32} {a1 a2 a3 a4 a5 a6 : Nat → Int32} {n m : Nat} {t p : Nat → Nat} (hP : wm_P n m t p a1 a2 a3) (hr : wm_Rd r n m t p a5 a6)
    (G : ∀ b c a, wm_K n m t p c a → post (nI n, nI m, 1, a1, a2, a3, b, c, a)) : wpX_prepare post (nI n, nI m, r, a1, a2, a3, a4, a5, a6) := by
  have hn := hP.1
  have hm12 := hP.2.1
  rcases hr with h | ⟨h, hk⟩
  · refine br_t h (pk_eq m 0 (fun z => G _ _ _ (fun h => absurd h (by omega))) (fun z => pk_le m n (fun z2 => ?_) (fun z2 => G _ _ _ (fun _ h => absurd h (by omega)))))
    have hm : 1 ≤ m := by omega
    refine wm_clear (fun b1 g1 => ?_)
    refine wm_addP hP hm z2 (show wm_M 3 (wm_fp 3) from wm_M_p (h := 3) (by omega)) (show wm_M 1 (wm_fp 1) from wm_M_p (h := 1) (by omega)) (c := 1) (by decide) g1 (fun b2 S2 g2 v2 => ?_)
    refine wm_addP hP hm z2 (show wm_M 2 (wm_fp 2) from wm_M_p (h := 2) (by omega)) (show wm_M 2 (wm_fp 2) from wm_M_p (h := 2) (by omega)) (c := 7679) (by decide) g2 (fun b3 S3 g3 v3 => ?_)
    refine wm_addP hP hm z2 (show wm_M 1 (wm_fp 1) from wm_M_p (h := 1) (by omega)) (show wm_M 3 (wm_fp 3) from wm_M_p (h := 3) (by omega)) (c := 1) (by decide) g3 (fun b4 S4 g4 v4 => ?_)
    refine wm_trB (o := 128) (by omega) hP.2.2.2.2.2.2 g4 (fun b5 g5 _ => ?_)
    refine wm_p69 hP hm z2 g5 (fun i hi => ?_) (fun b c a hc ha => G b c a (fun _ _ i hi => ⟨hc i hi, ha i hi⟩))
    rw [v4 i hi, v3 i hi, v2 i hi, wm_V_zero, ← wm_DD_eq hP.2.2.1 hP.2.2.2.1]
    grind
  · subst h
    exact br_f (by decide) (G _ _ _ hk)
end
section
/-! the answers -/
theorem wm_slt {n m i : Nat} (hn : n < 1000) (hm : m < 1000) (hi : i < 1000) : nI n - nI m < nI i ↔ n < m + i := by
  rw [Int32.lt_iff_toInt_lt, pk_sub_toInt (by omega) (by omega), nI_toInt (by omega)]
  omega
theorem wm_isShift {post : Int32 → Prop} {r : Int32} {a1 a2 a3 a4 a5 a6 : Nat → Int32} {n m i : Nat} (hn : n ≤ 40) (hm : m ≤ 12) (hi : i + m ≤ n) (H : post 1) : wpX_isShift post (nI n, nI m, r, a1, a2, a3, a4, a5, a6) (nI i) :=
  br_f (nI_pos (by omega)) (br_f (fun z => absurd ((wm_slt (by omega) (by omega) (by omega)).mp z) (by omega)) H)
theorem wm_matches {post : Int32 → St1 → Prop} {r : Int32} {a1 a2 a3 a4 a5 a6 : Nat → Int32} {n m i : Nat} {t p : Nat → Nat} (hP : wm_P n m t p a1 a2 a3) (hr : wm_Rd r n m t p a5 a6) (hi : i + m ≤ n)
    (G : ∀ b c a, wm_K n m t p c a → post (if wm_W n m t p i = 0 then 1 else 0) (nI n, nI m, 1, a1, a2, a3, b, c, a)) : wpX_matches post (nI n, nI m, r, a1, a2, a3, a4, a5, a6) (nI i) := by
  have hn := hP.1
  have hm := hP.2.1
  unfold wpX_matches
  refine wm_isShift hn hm hi (br_f (by decide) (wm_prepare hP hr (fun b c a hk => pk_eq m 0 (fun z => ?_) (fun z => ⟨pk_in i 40 (by omega), ?_⟩))))
  · have g := G b c a hk
    have e : wm_W n m t p i = 0 := by
      rw [z]
      rfl
    rw [if_pos e] at g
    exact g
  · have g := G b c a hk
    rw [nI_clamp (by omega), (hk (by omega) (by omega) i (by omega)).1]
    have hlt := wm_DD_lt (n := n) hm hP.2.2.1 hP.2.2.2.1 i
    refine pk_eq (wm_DD n m t p i) 0 (fun z2 => ?_) (fun z2 => ?_)
    · rw [if_pos ((wm_DW hP.2.2.1 hP.2.2.2.1 i).mp z2)] at g
      exact g
    · rw [if_neg (fun z3 => z2 ((wm_DW hP.2.2.1 hP.2.2.2.1 i).mpr z3))] at g
      exact g
theorem wm_wrongAt {post : Int32 → St1 → Prop} {r : Int32} {a1 a2 a3 a4 a5 a6 : Nat → Int32} {n m i : Nat} {t p : Nat → Nat} (hP : wm_P n m t p a1 a2 a3) (hr : wm_Rd r n m t p a5 a6) (hmn : m ≤ n) (hi : 1 ≤ m → i < n)
    (G : ∀ b c a, wm_K n m t p c a → post (nI (wm_W n m t p i)) (nI n, nI m, 1, a1, a2, a3, b, c, a)) : wpX_wrongAt post (nI n, nI m, r, a1, a2, a3, a4, a5, a6) (nI i) := by
  have hn := hP.1
  have hm := hP.2.1
  unfold wpX_wrongAt
  refine wm_prepare hP hr (fun b c a hk => pk_eq m 0 (fun z => ?_) (fun z => ?_))
  · have g := G b c a hk
    have e : wm_W n m t p i = 0 := by
      rw [z]
      rfl
    rw [e] at g
    exact g
  · have hi' := hi (by omega)
    refine ⟨pk_in i 40 (by omega), ?_⟩
    rw [nI_clamp (by omega), (hk (by omega) hmn i hi').2]
    exact G b c a hk
theorem wm_mismatches {post : Int32 → St1 → Prop} {r : Int32} {a1 a2 a3 a4 a5 a6 : Nat → Int32} {n m i : Nat} {t p : Nat → Nat} (hP : wm_P n m t p a1 a2 a3) (hr : wm_Rd r n m t p a5 a6) (hi : i + m ≤ n)
    (G : ∀ b c a, wm_K n m t p c a → post (nI (wm_W n m t p i)) (nI n, nI m, 1, a1, a2, a3, b, c, a)) : wpX_mismatches post (nI n, nI m, r, a1, a2, a3, a4, a5, a6) (nI i) := by
  unfold wpX_mismatches
  exact wm_isShift hP.1 hP.2.1 hi (br_f (by decide) (wm_wrongAt hP hr (by omega) (fun h => by omega) (fun b c a hk => G b c a hk)))
theorem wm_turnedM {post : Int32 → St1 → Prop} {r : Int32} {a1 a2 a3 a4 a5 a6 : Nat → Int32} {n m i : Nat} {t p : Nat → Nat} (hP : wm_P n m t p a1 a2 a3) (hr : wm_Rd r n m t p a5 a6) (hmn : m ≤ n) (hi : i < n)
    (G : ∀ b c a, wm_K n m t p c a → post (nI (wm_W n m t p i)) (nI n, nI m, 1, a1, a2, a3, b, c, a)) : wpX_turnedMismatches post (nI n, nI m, r, a1, a2, a3, a4, a5, a6) (nI i) := by
  have hn := hP.1
  have hm := hP.2.1
  exact br_f (nI_pos (by omega)) (pk_le n i (fun z => absurd z (by omega)) (fun _ => pk_le m n (fun _ => wm_wrongAt hP hr hmn (fun _ => hi) (fun b c a hk => G b c a hk)) (fun z => absurd z (by omega))))
theorem wm_matchCount {post : Int32 → St1 → Prop} {r : Int32} {a1 a2 a3 a4 a5 a6 : Nat → Int32} {n m : Nat} {t p : Nat → Nat} (hP : wm_P n m t p a1 a2 a3) (hr : wm_Rd r n m t p a5 a6)
    (G : ∀ r' b c a, wm_Rd r' n m t p c a → post (nI (wm_cnt n m t p (n + 1 - m))) (nI n, nI m, r', a1, a2, a3, b, c, a)) : wpX_matchCount post (nI n, nI m, r, a1, a2, a3, a4, a5, a6) := by
  have hn := hP.1
  have hm := hP.2.1
  refine pk_loop (σ := Int32 × (Nat → Int32) × (Nat → Int32) × (Nat → Int32)) (fun k i s => wX_matchCount_4 post k (nI (wm_cnt n m t p i)) (nI i) (nI n) (nI m) s.1 a1 a2 a3 s.2.1 s.2.2.1 s.2.2.2) (fun _ s => wm_Rd s.1 n m t p s.2.2.1 s.2.2.2) (n + 1 - m) 0 (r, a4, a5, a6) (by omega) hr ?_ ?_
  · rintro k ⟨r', b, c, a⟩ h
    exact br_t ((wm_slt (by omega) (by omega) (by omega)).mpr (by omega)) (G r' b c a h)
  · rintro k i ⟨r', b, c, a⟩ hi h hw
    refine br_f (fun z => absurd ((wm_slt (by omega) (by omega) (by omega)).mp z) (by omega)) (wm_matches hP h (by omega) (fun b' c' a' hk => ?_))
    have g := hw (1, b', c', a') (Or.inr ⟨rfl, hk⟩)
    by_cases e : wm_W n m t p i = 0
    · rw [if_pos e]
      refine br_f (by decide) (nm_r ?_ (nm_r (nI_1 i) g))
      rw [nI_1]
      refine congrArg nI ?_
      show wm_cnt n m t p i + 1 = wm_cnt n m t p i + (if wm_W n m t p i = 0 then 1 else 0)
      rw [if_pos e]
    · rw [if_neg e]
      have e2 : wm_cnt n m t p (i + 1) = wm_cnt n m t p i := by
        show wm_cnt n m t p i + (if wm_W n m t p i = 0 then 1 else 0) = wm_cnt n m t p i
        rw [if_neg e]
        exact Nat.add_zero _
      dsimp only at g
      rw [e2] at g
      exact br_t rfl (nm_r (nI_1 i) g)
end
section
/-! editing -/
def wm_I (f0 f1 f2 : Int32) (a1 a2 a3 a5 a6 : Nat → Int32) : Prop := ∃ (n m : Nat) (t p : Nat → Nat), f0 = nI n ∧ f1 = nI m ∧ wm_P n m t p a1 a2 a3 ∧ wm_Rd f2 n m t p a5 a6
theorem wm_b8 : ∀ l, l < 5 → (nI l).toInt8.toInt32 = nI l := by decide +kernel
theorem wm_nar {l : Nat} (hl : l < 5) : vp_nar .byte (nI l) = nI l := by
  rw [vp_nar_byte]
  exact wm_b8 l hl
theorem wm_P_t {n m k l : Nat} {t p : Nat → Nat} {a1 a2 a3 : Nat → Int32} (hP : wm_P n m t p a1 a2 a3) (hl : l < 5) (n' : Nat) (hn : n' ≤ 40) (hk : n' ≤ n ∨ (n' = n + 1 ∧ k = n)) : wm_P n' m (wm_up t k l) p (upd a1 k (nI l)) a2 a3 := by
  obtain ⟨h1, h2, h3, h4, h5, h6, h7⟩ := hP
  refine ⟨hn, h2, wm_up_lt h3 hl, h4, fun j hj => ?_, h6, h7⟩
  unfold wm_up
  by_cases e : j = k
  · rw [e, pk_us, if_pos rfl]
  · rw [pk_un e, if_neg e]
    exact h5 j (by omega)
theorem wm_P_p {n m k l : Nat} {t p : Nat → Nat} {a1 a2 a3 : Nat → Int32} (hP : wm_P n m t p a1 a2 a3) (hl : l < 5) (m' : Nat) (hm : m' ≤ 12) (hk : m' ≤ m ∨ (m' = m + 1 ∧ k = m)) : wm_P n m' t (wm_up p k l) a1 (upd a2 k (nI l)) a3 := by
  obtain ⟨h1, h2, h3, h4, h5, h6, h7⟩ := hP
  refine ⟨h1, hm, h3, wm_up_lt h4 hl, h5, fun j hj => ?_, h7⟩
  unfold wm_up
  by_cases e : j = k
  · rw [e, pk_us, if_pos rfl]
  · rw [pk_un e, if_neg e]
    exact h6 j (by omega)
theorem wm_type {post : Int32 → St1 → Prop} {p0 f0 f1 f2 : Int32} {a1 a2 a3 a4 a5 a6 : Nat → Int32} {l : Nat} (hI : wm_I f0 f1 f2 a1 a2 a3 a5 a6) (hl : l < 5)
    (G : ∀ r g0 g1 g2 b1 b2 b3 b4 b5 b6, wm_I g0 g1 g2 b1 b2 b3 b5 b6 → post r (g0, g1, g2, b1, b2, b3, b4, b5, b6)) : wpX_type post (f0, f1, f2, a1, a2, a3, a4, a5, a6) p0 (nI l) := by
  obtain ⟨n, m, t, p, rfl, rfl, hP, hr⟩ := hI
  have hn := hP.1
  have hm := hP.2.1
  have same : ∀ r, post r (nI n, nI m, f2, a1, a2, a3, a4, a5, a6) := fun r => G r _ _ _ _ _ _ _ _ _ ⟨n, m, t, p, rfl, rfl, hP, hr⟩
  have key : (p0 = 0 → n < 40) → (¬ p0 = 0 → m < 12) → wX_type_27 post p0 (nI l) (nI n) (nI m) f2 a1 a2 a3 a4 a5 a6 := by
    intro k1 k2
    refine br_f (nI_pos (by omega)) (pk_le l 4 (fun _ => br_c (fun z => ⟨pk_in n 40 (k1 z), ?_⟩) (fun z => ⟨pk_in m 12 (k2 z), ?_⟩)) (fun z => absurd z (by omega)))
    · refine nm_r (e' := upd a1 n (nI l)) (by rw [nI_clamp (by omega), wm_b8 l hl]) (nm_r (nI_1 n) (G _ _ _ _ _ _ _ _ _ _ ⟨n + 1, m, wm_up t n l, p, rfl, rfl, wm_P_t hP hl (n + 1) (by have := k1 z; omega) (Or.inr ⟨rfl, rfl⟩), Or.inl rfl⟩))
    · refine nm_r (e' := upd a2 m (nI l)) (by rw [nI_clamp (by omega), wm_b8 l hl]) (nm_r (nI_1 m) (G _ _ _ _ _ _ _ _ _ _ ⟨n, m + 1, t, wm_up p m l, rfl, rfl, wm_P_p hP hl (m + 1) (by have := k2 z; omega) (Or.inr ⟨rfl, rfl⟩), Or.inl rfl⟩))
  exact br_c (fun z => pk_lt n 40 (fun h => key (fun _ => h) (fun h2 => absurd z h2)) (fun _ => same _)) (fun z => pk_lt m 12 (fun h => key (fun h2 => absurd h2 z) (fun _ => h)) (fun _ => same _))
theorem wm_replace {post : Int32 → St1 → Prop} {p0 f0 f1 f2 : Int32} {a1 a2 a3 a4 a5 a6 : Nat → Int32} {i l : Nat} (hI : wm_I f0 f1 f2 a1 a2 a3 a5 a6) (hi : i < 1000) (hl : l < 5)
    (G : ∀ r g0 g1 g2 b1 b2 b3 b4 b5 b6, wm_I g0 g1 g2 b1 b2 b3 b5 b6 → post r (g0, g1, g2, b1, b2, b3, b4, b5, b6)) : wpX_replace post (f0, f1, f2, a1, a2, a3, a4, a5, a6) p0 (nI i) (nI l) := by
  obtain ⟨n, m, t, p, rfl, rfl, hP, hr⟩ := hI
  have hn := hP.1
  have hm := hP.2.1
  have same : ∀ r, post r (nI n, nI m, f2, a1, a2, a3, a4, a5, a6) := fun r => G r _ _ _ _ _ _ _ _ _ ⟨n, m, t, p, rfl, rfl, hP, hr⟩
  refine br_f (nI_pos (by omega)) (br_c (fun z0 => pk_le n i (fun _ => same _) (fun h => br_f (nI_pos (by omega)) (pk_le l 4 (fun _ => br_t z0 ⟨pk_in i 40 (by omega), ?_⟩) (fun z => absurd z (by omega))))) (fun z0 => pk_le m i (fun _ => same _) (fun h => br_f (nI_pos (by omega)) (pk_le l 4 (fun _ => br_f z0 ⟨pk_in i 12 (by omega), ?_⟩) (fun z => absurd z (by omega))))))
  · exact nm_r (e' := upd a1 i (nI l)) (by rw [nI_clamp (by omega), wm_b8 l hl]) (G _ _ _ _ _ _ _ _ _ _ ⟨n, m, wm_up t i l, p, rfl, rfl, wm_P_t hP hl n hn (Or.inl (by omega)), Or.inl rfl⟩)
  · exact nm_r (e' := upd a2 i (nI l)) (by rw [nI_clamp (by omega), wm_b8 l hl]) (G _ _ _ _ _ _ _ _ _ _ ⟨n, m, t, wm_up p i l, rfl, rfl, wm_P_p hP hl m hm (Or.inl (by omega)), Or.inl rfl⟩)
theorem wm_repP {post : Int32 → St1 → Prop} {f2 : Int32} {a1 a2 a3 a4 a5 a6 : Nat → Int32} {n m j l : Nat} (hm : m ≤ 12) (hj : j < m) (hl : l < 5)
    (G : post 1 (nI n, nI m, 0, a1, upd a2 j (nI l), a3, a4, a5, a6)) : wpX_replace post (nI n, nI m, f2, a1, a2, a3, a4, a5, a6) 1 (nI j) (nI l) :=
  br_f (nI_pos (by omega)) (br_f (by decide) (pk_le m j (fun z => absurd z (by omega)) (fun _ => br_f (nI_pos (by omega)) (pk_le l 4 (fun _ => br_f (by decide) ⟨pk_in j 12 (by omega), nm_r (by rw [nI_clamp (by omega), wm_b8 l hl]) G⟩) (fun z => absurd z (by omega))))))
theorem wm_letter {post : Int32 → Prop} {f2 : Int32} {a1 a2 a3 a4 a5 a6 : Nat → Int32} {n m j l : Nat} (hm : m ≤ 12) (hj : j < m) (e : a2 j = nI l) (G : post (nI l)) : wpX_letter post (nI n, nI m, f2, a1, a2, a3, a4, a5, a6) 1 (nI j) :=
  br_f (nI_pos (by omega)) (br_f (by decide) (pk_lt j m (fun _ => br_f (by decide) ⟨pk_in j 12 (by omega), by rw [nI_clamp (by omega), e]; exact G⟩) (fun z => absurd z (by omega))))
theorem wm_sh {f : Nat → Nat} {a s : Nat → Int32} {i N : Nat} (hf : ∀ j, f j < 5) (ha : ∀ j, j < N → a j = nI (f j)) (hi : i + 1 < N) (h1 : ∀ j, j < i → s j = nI (f (j + 1))) (h2 : ∀ j, i ≤ j → s j = a j) :
    (∀ j, j < i + 1 → upd s (nI i).toNatClampNeg (vp_nar .byte (s (nI i + 1).toNatClampNeg)) j = nI (f (j + 1))) ∧ (∀ j, i + 1 ≤ j → upd s (nI i).toNatClampNeg (vp_nar .byte (s (nI i + 1).toNatClampNeg)) j = a j) ∨ 2 ^ 31 ≤ i + 1 := by
  by_cases hb : 2 ^ 31 ≤ i + 1
  · exact Or.inr hb
  · refine Or.inl ?_
    rw [nI_1, nI_clamp (by omega), nI_clamp (by omega), h2 (i + 1) (by omega), ha (i + 1) hi, wm_nar (hf _)]
    refine ⟨fun j hj => ?_, fun j hj => ?_⟩
    · by_cases e : j = i
      · rw [e, pk_us]
      · rw [pk_un e]
        exact h1 j (by omega)
    · rw [pk_un (by omega)]
      exact h2 j (by omega)
theorem wm_shorten {post : Int32 → St1 → Prop} {p0 f0 f1 f2 : Int32} {a1 a2 a3 a4 a5 a6 : Nat → Int32} (hI : wm_I f0 f1 f2 a1 a2 a3 a5 a6)
    (G : ∀ r g0 g1 g2 b1 b2 b3 b4 b5 b6, wm_I g0 g1 g2 b1 b2 b3 b5 b6 → post r (g0, g1, g2, b1, b2, b3, b4, b5, b6)) : wpX_shorten post (f0, f1, f2, a1, a2, a3, a4, a5, a6) p0 := by
  obtain ⟨n, m, t, p, rfl, rfl, hP, hr⟩ := hI
  have hP' := hP
  obtain ⟨hn, hm, ht, hp, h1, h2, hR⟩ := hP'
  have same : ∀ r, post r (nI n, nI m, f2, a1, a2, a3, a4, a5, a6) := fun r => G r _ _ _ _ _ _ _ _ _ ⟨n, m, t, p, rfl, rfl, hP, hr⟩
  refine br_c (fun z0 => ?_) (fun z0 => ?_)
  · by_cases e : n = 0
    · refine nm_e (br_f ?_ (same _))
      rw [e]
      decide
    · have e1 : nI n - 1 = nI (n - 1) := pk_sub (b := 1) (by omega)
      refine nm_r e1 (br_t (nI_pos' (by omega)) ?_)
      refine pk_loop (fun k i s => wX_shorten_22 post p0 (nI (n - 1)) (nI n) (nI m) 0 k (nI i) s a2 a3 a4 a5 a6) (fun i s => (∀ j, j < i → s j = nI (t (j + 1))) ∧ ∀ j, i ≤ j → s j = a1 j) (n - 1) 0 a1 (by omega) ⟨fun j hj => absurd hj (by omega), fun _ _ => rfl⟩ ?_ ?_
      · intro k s h
        exact pk_le (n - 1) (n - 1) (fun _ => br_t z0 (G _ _ _ _ _ _ _ _ _ _ ⟨n - 1, m, fun j => t (j + 1), p, rfl, rfl, ⟨by omega, hm, fun j => ht (j + 1), hp, h.1, h2, hR⟩, Or.inl rfl⟩)) (fun z => absurd z (by omega))
      · intro k i s hi h hw
        refine pk_le (n - 1) i (fun z => absurd z (by omega)) (fun _ => br_t z0 ⟨pk_in (i + 1) 40 (by omega) (nI_1 i), pk_in i 40 (by omega), nm_e (nm_r (nI_1 i) (hw _ ?_))⟩)
        rcases wm_sh ht h1 (by omega) h.1 h.2 with g | g
        · exact g
        · omega
  · by_cases e : m = 0
    · refine nm_e (br_f ?_ (same _))
      rw [e]
      decide
    · have e1 : nI m - 1 = nI (m - 1) := pk_sub (b := 1) (by omega)
      refine nm_r e1 (br_t (nI_pos' (by omega)) ?_)
      refine pk_loop (fun k i s => wX_shorten_22 post p0 (nI (m - 1)) (nI n) (nI m) 0 k (nI i) a1 s a3 a4 a5 a6) (fun i s => (∀ j, j < i → s j = nI (p (j + 1))) ∧ ∀ j, i ≤ j → s j = a2 j) (m - 1) 0 a2 (by omega) ⟨fun j hj => absurd hj (by omega), fun _ _ => rfl⟩ ?_ ?_
      · intro k s h
        exact pk_le (m - 1) (m - 1) (fun _ => br_f z0 (G _ _ _ _ _ _ _ _ _ _ ⟨n, m - 1, t, fun j => p (j + 1), rfl, rfl, ⟨hn, by omega, ht, fun j => hp (j + 1), h1, h.1, hR⟩, Or.inl rfl⟩)) (fun z => absurd z (by omega))
      · intro k i s hi h hw
        refine pk_le (m - 1) i (fun z => absurd z (by omega)) (fun _ => br_f z0 ⟨pk_in (i + 1) 12 (by omega) (nI_1 i), pk_in i 12 (by omega), nm_e (nm_r (nI_1 i) (hw _ ?_))⟩)
        rcases wm_sh hp h2 (by omega) h.1 h.2 with g | g
        · exact g
        · omega
end
section
/-! the law's check of one state -/
theorem wm_holds {post : Int32 → St1 → Prop} {f0 f1 f2 : Int32} {a1 a2 a3 a4 a5 a6 : Nat → Int32} {j : Nat} (hI : wm_I f0 f1 f2 a1 a2 a3 a5 a6) (hj : j < 1000)
    (G : ∀ g0 g1 g2 b1 b2 b3 b4 b5 b6, wm_I g0 g1 g2 b1 b2 b3 b5 b6 → post 1 (g0, g1, g2, b1, b2, b3, b4, b5, b6)) : wpL_holds post (f0, f1, f2, a1, a2, a3, a4, a5, a6) (nI j) := by
  obtain ⟨n, m, t, p, rfl, rfl, hP, hr⟩ := hI
  have hn := hP.1
  have hm := hP.2.1
  refine br_t rfl (br_f (by decide) ?_)
  refine pk_loop (σ := Int32 × (Nat → Int32) × (Nat → Int32) × (Nat → Int32)) (fun k i s => wL_holds_15 post (nI j) (nI n) (nI m) k (nI i) (nI n) (nI m) s.1 a1 a2 a3 s.2.1 s.2.2.1 s.2.2.2) (fun _ s => wm_Rd s.1 n m t p s.2.2.1 s.2.2.2) 41 0 (f2, a4, a5, a6) (by omega) hr ?_ ?_
  · rintro k ⟨r', b, c, a⟩ h
    refine pk_le 41 41 (fun _ => pk_lt j m (fun hjm => ?_) (fun _ => G _ _ _ _ _ _ _ _ _ ⟨n, m, t, p, rfl, rfl, hP, h⟩)) (fun z => absurd z (by omega))
    have q1 := wm_cnt_le n m t p (n + 1 - m)
    have q2 := wm_cnt_le n m t (wm_up p j 0) (n + 1 - m)
    have q3 := wm_cnt_mono n m t p j (n + 1 - m)
    have hP1 : wm_P n m t (wm_up p j 0) a1 (upd a2 j (nI 0)) a3 := wm_P_p hP (by omega) m hm (Or.inl (by omega))
    have hP2 : wm_P n m t (wm_up (wm_up p j 0) j (p j)) a1 (upd (upd a2 j (nI 0)) j (nI (p j))) a3 := wm_P_p hP1 (hP.2.2.2.1 j) m hm (Or.inl (by omega))
    rw [wm_up_up] at hP2
    refine wm_matchCount hP h (fun r1 b1 c1 d1 hr1 => wm_letter hm hjm (hP.2.2.2.2.2.1 j hjm) ?_)
    refine wm_repP (l := 0) hm hjm (by omega) (br_f (by decide) ?_)
    refine wm_matchCount hP1 (Or.inl rfl) (fun r2 b2 c2 d2 hr2 => ?_)
    refine pk_le (wm_cnt n m t p (n + 1 - m)) (wm_cnt n m t (wm_up p j 0) (n + 1 - m)) (fun _ => ?_) (fun z => absurd z (by omega))
    refine wm_repP (l := p j) hm hjm (hP.2.2.2.1 j) (br_f (by decide) ?_)
    exact wm_matchCount hP2 (Or.inl rfl) (fun r3 b3 c3 d3 hr3 => br_t rfl (G _ _ _ _ _ _ _ _ _ ⟨n, m, t, p, rfl, rfl, hP2, hr3⟩))
  · rintro k i ⟨r', b, c, a⟩ hi h hw
    refine pk_le 41 i (fun z => absurd z (by omega)) (fun _ => ?_)
    by_cases e : i + m ≤ n
    · refine br_f (fun z => absurd ((wm_slt (by omega) (by omega) (by omega)).mp z) (by omega)) (wm_mismatches hP h e (fun b1 c1 d1 hk1 => wm_matches hP (Or.inr ⟨rfl, hk1⟩) e (fun b2 c2 d2 hk2 => ?_)))
      have key : ∀ z, wL_holds_54 post (wL_holds_15 post (nI j) (nI n) (nI m) k) (nI j) (nI n) (nI m) (nI i) (nI (wm_W n m t p i)) z z (nI n) (nI m) 1 a1 a2 a3 b2 c2 d2 := fun z =>
        br_t rfl (pk_le n i (fun _ => nm_r (nI_1 i) (hw (1, b2, c2, d2) (Or.inr ⟨rfl, hk2⟩))) (fun hlt => wm_turnedM hP (Or.inr ⟨rfl, hk2⟩) (by omega) hlt (fun b3 c3 d3 hk3 => br_t rfl (nm_r (nI_1 i) (hw (1, b3, c3, d3) (Or.inr ⟨rfl, hk3⟩))))))
      have hW := wm_W_le (n := n) hm hP.2.2.1 hP.2.2.2.1 i
      by_cases eW : wm_W n m t p i = 0
      · rw [if_pos eW]
        exact pk_eq (wm_W n m t p i) 0 (fun _ => key 1) (fun z => absurd eW z)
      · rw [if_neg eW]
        exact pk_eq (wm_W n m t p i) 0 (fun z => absurd z eW) (fun _ => key 0)
    · exact br_t ((wm_slt (by omega) (by omega) (by omega)).mpr (by omega)) (nm_r (nI_1 i) (hw (r', b, c, a) h))
theorem wm_init {post : St1 → Prop} (G : ∀ a3, wm_R a3 → post (0, 0, 0, fun _ => 0, fun _ => 0, a3, fun _ => 0, fun _ => 0, fun _ => 0)) : wpX_init post 6 388 (0, 0, 0) := by
  refine ⟨by omega, by omega, by omega, by omega, by omega, by omega, by omega, by omega, by omega, by omega, by omega, by omega, ?_⟩
  refine pk_loop (σ := Unit) (fun k i _ => wX_init_57 post 6 388 6 388 0 0 0 (fun _ => 0) (fun _ => 0) (fun _ => 0) (fun _ => 0) (fun _ => 0) (fun _ => 0) k (nI (wm_pw 17 i).val) (nI i)) (fun _ _ => True) 120 0 () (by omega) trivial ?_ ?_
  · intro k _ _
    refine pk_le 120 120 (fun _ => nm_e ?_) (fun z => absurd z (by omega))
    show ∃ fu, wX_init_87 post 6 388 (nI wm_w.val) 6 388 0 0 0 fu 1 (fun _ => 0) (fun _ => 0) (upd (fun _ => 0) 0 1) (fun _ => 0) (fun _ => 0) (fun _ => 0)
    refine pk_loop (fun k i s => wX_init_87 post 6 388 (nI wm_w.val) 6 388 0 0 0 k (nI i) (fun _ => 0) (fun _ => 0) s (fun _ => 0) (fun _ => 0) (fun _ => 0)) (fun i s => 1 ≤ i ∧ ∀ j, j < i → s j = nI (wm_pw wm_w j).val) 64 1 (upd (fun _ => 0) 0 1) (by omega) ⟨by omega, fun j hj => ?_⟩ ?_ ?_
    · rw [show j = 0 by omega, pk_us]
      rfl
    · exact fun k s h => pk_le 64 64 (fun _ => G s h.2) (fun z => absurd z (by omega))
    · intro k i s hi h hw
      obtain ⟨h1, h2⟩ := h
      have g : nI i - 1 = nI (i - 1) := pk_sub (b := 1) h1
      have c : (nI i - 1).toNatClampNeg = i - 1 := pk_cl _ g
      refine pk_le 64 i (fun z => absurd z (by omega)) (fun _ => ⟨pk_in (i - 1) 64 (by omega) g, by decide, pk_in i 64 hi, nm_r (e' := upd s i (nI (wm_pw wm_w i).val)) ?_ (nm_r (nI_1 i) (hw _ ⟨by omega, fun j hj => ?_⟩))⟩)
      · rw [c, nI_clamp (by omega), h2 (i - 1) (by omega), wm_mul]
        have e : wm_pw wm_w i = wm_pw wm_w (i - 1) * wm_w := by
          have e2 : wm_pw wm_w (i - 1 + 1) = wm_pw wm_w (i - 1) * wm_w := rfl
          rw [Nat.sub_add_cancel h1] at e2
          exact e2
        rw [e]
      · by_cases d : j = i
        · rw [d, pk_us]
        · rw [pk_un d]
          exact h2 j (by omega)
  · intro k i _ hi _ hw
    exact pk_le 120 i (fun z => absurd z (by omega)) (fun _ => ⟨by decide, nm_r (wm_mul (wm_pw 17 i) 17) (nm_r (nI_1 i) (hw () trivial))⟩)
end
section
/-! the law -/
theorem wm_step {xs : Nat → Int32} {L i k : Nat} (hL : L ≤ 260) (hi : i < L / 3) {f0 f1 f2 : Int32} {a1 a2 a3 a4 a5 a6 : Nat → Int32} (hI : wm_I f0 f1 f2 a1 a2 a3 a5 a6)
    (hw : ∀ g0 g1 g2 b1 b2 b3 b4 b5 b6, wm_I g0 g1 g2 b1 b2 b3 b5 b6 → wL_law_10 (fun r => r = 1) L xs (1 + 6) (9 + 388) k (nI (3 * (i + 1))) g0 g1 g2 b1 b2 b3 b4 b5 b6) :
    wL_law_10 (fun r => r = 1) L xs (1 + 6) (9 + 388) (k + 1) (nI (3 * i)) f0 f1 f2 a1 a2 a3 a4 a5 a6 := by
  obtain ⟨A, hA, eA⟩ := pk_andE (xs (nI (3 * i) + 1).toNatClampNeg) (m := 255) 8 (by decide)
  obtain ⟨B, hB, eB⟩ := pk_andE (xs (nI (3 * i) + 2).toNatClampNeg) (m := 63) 6 (by decide)
  obtain ⟨C, hC, eC⟩ := pk_andE (xs (nI (3 * i)).toNatClampNeg) (m := 7) 3 (by decide)
  have next : ∀ g0 g1 g2 b1 b2 b3 b4 b5 b6, wm_I g0 g1 g2 b1 b2 b3 b5 b6 → wL_law_158 (fun r => r = 1) L xs (wL_law_10 (fun r => r = 1) L xs (1 + 6) (9 + 388) k) (nI (3 * i)) (nI B) (1 + 6) (9 + 388) g0 g1 g2 b1 b2 b3 b4 b5 b6 := by
    intro g0 g1 g2 b1 b2 b3 b4 b5 b6 h
    unfold wL_law_158
    rw [show nI B &&& 15 = nI (B % 2 ^ 4) from pk_andN (by omega) 4 (by decide)]
    exact wm_holds h (by omega) (fun _ _ _ _ _ _ _ _ _ h' => br_f (by decide) (nm_r (show nI (3 * i) + 3 = nI (3 * (i + 1)) from nI_add (3 * i) 3) (hw _ _ _ _ _ _ _ _ _ h')))
  have text : ∀ l, l < 5 → wL_law_154 (fun r => r = 1) L xs (wL_law_10 (fun r => r = 1) L xs (1 + 6) (9 + 388) k) (nI (3 * i)) (nI B) (nI l) 0 (1 + 6) (9 + 388) f0 f1 f2 a1 a2 a3 a4 a5 a6 :=
    fun l hl => wm_type hI hl (fun _ g0 g1 g2 b1 b2 b3 b4 b5 b6 h => next g0 g1 g2 b1 b2 b3 b4 b5 b6 h)
  have repl : ∀ z0, wL_law_96 (fun r => r = 1) L xs (wL_law_10 (fun r => r = 1) L xs (1 + 6) (9 + 388) k) (nI (3 * i)) (nI (A % 5)) (nI B) z0 (1 + 6) (9 + 388) f0 f1 f2 a1 a2 a3 a4 a5 a6 := by
    intro z0
    unfold wL_law_96
    rw [show nI B >>> ((1 : Int32) &&& 31) = nI (B / 2 ^ 1) from pk_shrN (by omega) _ 1 (by decide)]
    exact wm_replace hI (by omega) (by omega) (fun _ g0 g1 g2 b1 b2 b3 b4 b5 b6 h => next g0 g1 g2 b1 b2 b3 b4 b5 b6 h)
  have shor : ∀ z0, wL_law_129 (fun r => r = 1) L xs (wL_law_10 (fun r => r = 1) L xs (1 + 6) (9 + 388) k) (nI (3 * i)) (nI B) z0 (1 + 6) (9 + 388) f0 f1 f2 a1 a2 a3 a4 a5 a6 :=
    fun z0 => wm_shorten hI (fun _ g0 g1 g2 b1 b2 b3 b4 b5 b6 h => next g0 g1 g2 b1 b2 b3 b4 b5 b6 h)
  have one : (1 : Int32) + (nI (A % 5) &&& 1) = nI (1 + A % 5 % 2 ^ 1) := by
    rw [show nI (A % 5) &&& 1 = nI (A % 5 % 2 ^ 1) from pk_andN (by omega) 1 (by decide)]
    exact nI_add 1 _
  have txt : (((nI B &&& 3) = 0 → wL_law_154 (fun r => r = 1) L xs (wL_law_10 (fun r => r = 1) L xs (1 + 6) (9 + 388) k) (nI (3 * i)) (nI B) (nI (A % 5)) 0 (1 + 6) (9 + 388) f0 f1 f2 a1 a2 a3 a4 a5 a6) ∧ (¬ (nI B &&& 3) = 0 → wL_law_154 (fun r => r = 1) L xs (wL_law_10 (fun r => r = 1) L xs (1 + 6) (9 + 388) k) (nI (3 * i)) (nI B) (1 + (nI (A % 5) &&& 1)) 0 (1 + 6) (9 + 388) f0 f1 f2 a1 a2 a3 a4 a5 a6)) := by
    refine ⟨fun _ => text _ (by omega), fun _ => ?_⟩
    rw [one]
    exact text _ (by omega)
  refine br_f (fun z => absurd ((wm_slt (n := L) (m := 3) (by omega) (by omega) (by omega)).mp z) (by omega)) ⟨pk_in (3 * i + 1) L (by omega) (nI_1 _), by decide, nm_r (e' := nI (A % 5)) ?_ ⟨pk_in (3 * i + 2) L (by omega) (nI_add (3 * i) 2), nm_r eB ⟨pk_in (3 * i) L (by omega), nm_r eC ?_⟩⟩⟩
  · rw [eA]
    exact pk_rem (d := 5) (by omega) (by decide) (by decide)
  · refine br_f (nI_pos (by omega)) (pk_lt 2 C (fun _ => txt) (fun _ => pk_eq C 0 (fun _ => ?_) (fun _ => pk_eq C 1 (fun _ => ?_) (fun _ => pk_eq C 2 (fun _ => ?_) (fun _ => trivial)))))
    · exact wm_type hI (show A % 5 < 5 by omega) (fun _ g0 g1 g2 b1 b2 b3 b4 b5 b6 h => next g0 g1 g2 b1 b2 b3 b4 b5 b6 h)
    · exact ⟨fun _ => repl 1, fun _ => repl 0⟩
    · exact ⟨fun _ => ⟨fun _ => shor 1, fun _ => shor 0⟩, fun _ => next _ _ _ _ _ _ _ _ _ hI⟩
theorem wm_law {xs : Nat → Int32} {L : Nat} (hL : L ≤ 260) {f0 f1 f2 : Int32} {a1 a2 a3 a4 a5 a6 : Nat → Int32} (hI : wm_I f0 f1 f2 a1 a2 a3 a5 a6) : ∃ fu, wL_law_10 (fun r => r = 1) L xs (1 + 6) (9 + 388) fu 0 f0 f1 f2 a1 a2 a3 a4 a5 a6 := by
  refine pk_loop (σ := St1) (fun k i s => wL_law_10 (fun r => r = 1) L xs (1 + 6) (9 + 388) k (nI (3 * i)) s.1 s.2.1 s.2.2.1 s.2.2.2.1 s.2.2.2.2.1 s.2.2.2.2.2.1 s.2.2.2.2.2.2.1 s.2.2.2.2.2.2.2.1 s.2.2.2.2.2.2.2.2) (fun _ s => wm_I s.1 s.2.1 s.2.2.1 s.2.2.2.1 s.2.2.2.2.1 s.2.2.2.2.2.1 s.2.2.2.2.2.2.2.1 s.2.2.2.2.2.2.2.2) (L / 3) 0 (f0, f1, f2, a1, a2, a3, a4, a5, a6) (by omega) hI ?_ ?_
  · rintro k ⟨f0, f1, f2, a1, a2, a3, a4, a5, a6⟩ h
    exact br_t ((wm_slt (n := L) (m := 3) (by omega) (by omega) (by omega)).mpr (by omega)) (wm_holds (j := 0) h (by omega) (fun _ _ _ _ _ _ _ _ _ _ => rfl))
  · rintro k i ⟨f0, f1, f2, a1, a2, a3, a4, a5, a6⟩ hi h hw
    exact wm_step hL hi h (fun g0 g1 g2 b1 b2 b3 b4 b5 b6 h' => hw (g0, g1, g2, b1, b2, b3, b4, b5, b6) h')
theorem i_vc (xs : Nat → Int32) (L : Nat) (hL : L ≤ 260) : wpL_law (fun r => r = 1) L xs :=
  ⟨6, 388, by omega, by omega, wm_init (fun a3 hR => wm_law hL ⟨0, 0, fun _ => 0, fun _ => 0, rfl, rfl, ⟨by omega, by omega, fun _ => Nat.zero_lt_succ 4, fun _ => Nat.zero_lt_succ 4, fun j hj => absurd hj (by omega), fun j hj => absurd hj (by omega), hR⟩, Or.inl rfl⟩)⟩
end
