section
/-! sums over naturals, congruence mod 7681 -/
def ck_S (f : Nat → Nat) : Nat → Nat
  | 0 => 0
  | n + 1 => ck_S f n + f n
def ck_cg (a b : Nat) : Prop := a % 7681 = b % 7681
theorem ck_cg_r (a : Nat) : ck_cg a a := rfl
theorem ck_cg_s {a b : Nat} (h : ck_cg a b) : ck_cg b a := Eq.symm h
theorem ck_cg_t {a b c : Nat} (h : ck_cg a b) (h2 : ck_cg b c) : ck_cg a c := Eq.trans h h2
theorem ck_cg_add {a b c d : Nat} (h : ck_cg a b) (h2 : ck_cg c d) : ck_cg (a + c) (b + d) := by
  unfold ck_cg at *
  rw [Nat.add_mod, h, h2, ← Nat.add_mod]
theorem ck_cg_mul {a b c d : Nat} (h : ck_cg a b) (h2 : ck_cg c d) : ck_cg (a * c) (b * d) := by
  unfold ck_cg at *
  rw [Nat.mul_mod, h, h2, ← Nat.mul_mod]
theorem ck_cg_mod (a : Nat) : ck_cg (a % 7681) a := Nat.mod_mod a 7681
theorem ck_cg_pow {a b : Nat} (h : ck_cg a b) (n : Nat) : ck_cg (a ^ n) (b ^ n) := by
  induction n with
  | zero => exact ck_cg_r _
  | succ n ih => rw [Nat.pow_succ, Nat.pow_succ]; exact ck_cg_mul ih h
theorem ck_S_congr {f g : Nat → Nat} {n : Nat} (h : ∀ i, i < n → f i = g i) : ck_S f n = ck_S g n := by
  induction n with
  | zero => rfl
  | succ n ih =>
    show ck_S f n + f n = ck_S g n + g n
    rw [ih (fun i hi => h i (by omega)), h n (by omega)]
theorem ck_S_cg {f g : Nat → Nat} {n : Nat} (h : ∀ i, i < n → ck_cg (f i) (g i)) : ck_cg (ck_S f n) (ck_S g n) := by
  induction n with
  | zero => exact ck_cg_r _
  | succ n ih => exact ck_cg_add (ih (fun i hi => h i (by omega))) (h n (by omega))
theorem ck_S_add (f g : Nat → Nat) (n : Nat) : ck_S (fun i => f i + g i) n = ck_S f n + ck_S g n := by
  induction n with
  | zero => rfl
  | succ n ih =>
    show ck_S (fun i => f i + g i) n + (f n + g n) = (ck_S f n + f n) + (ck_S g n + g n)
    rw [ih]; omega
theorem ck_S_mul (c : Nat) (f : Nat → Nat) (n : Nat) : c * ck_S f n = ck_S (fun i => c * f i) n := by
  induction n with
  | zero => rfl
  | succ n ih =>
    show c * (ck_S f n + f n) = ck_S (fun i => c * f i) n + c * f n
    rw [Nat.mul_add, ih]
theorem ck_S_mulr (c : Nat) (f : Nat → Nat) (n : Nat) : ck_S f n * c = ck_S (fun i => f i * c) n := by
  rw [Nat.mul_comm, ck_S_mul]
  exact ck_S_congr (fun i _ => Nat.mul_comm _ _)
theorem ck_S_0 (n : Nat) : ck_S (fun _ => 0) n = 0 := by
  induction n with
  | zero => rfl
  | succ n ih => show ck_S (fun _ => 0) n + 0 = 0; rw [ih]
theorem ck_S_swap (f : Nat → Nat → Nat) (n m : Nat) : ck_S (fun i => ck_S (fun j => f i j) m) n = ck_S (fun j => ck_S (fun i => f i j) n) m := by
  induction n with
  | zero => exact (ck_S_0 m).symm
  | succ n ih =>
    show ck_S (fun i => ck_S (fun j => f i j) m) n + ck_S (fun j => f n j) m = ck_S (fun j => ck_S (fun i => f i j) n + f n j) m
    rw [ih, ck_S_add]
theorem ck_S_one {g : Nat → Nat} {n d : Nat} (hd : d < n) : ck_S (fun i => if i = d then g i else 0) n = g d := by
  induction n with
  | zero => omega
  | succ n ih =>
    show ck_S (fun i => if i = d then g i else 0) n + (if n = d then g n else 0) = g d
    by_cases e : n = d
    · subst e
      rw [if_pos rfl, ck_S_congr (g := fun _ => 0) (fun i hi => if_neg (by omega)), ck_S_0, Nat.zero_add]
    · rw [if_neg e, ih (by omega)]; rfl
theorem ck_S_le {f : Nat → Nat} {c n : Nat} (h : ∀ i, i < n → f i ≤ c) : ck_S f n ≤ n * c := by
  induction n with
  | zero => exact Nat.zero_le _
  | succ n ih =>
    have h1 := ih (fun i hi => h i (by omega))
    have h2 := h n (by omega)
    show ck_S f n + f n ≤ (n + 1) * c
    rw [Nat.succ_mul]; omega
/-- the product of two sums -/
theorem ck_S_prod (f g : Nat → Nat) (n m : Nat) : ck_S f n * ck_S g m = ck_S (fun i => ck_S (fun j => f i * g j) m) n := by
  rw [ck_S_mulr]
  exact ck_S_congr (fun i _ => ck_S_mul _ _ _)
/-! the root -/
theorem ck_w16 : ck_cg (7098 ^ 16) 1 := by unfold ck_cg; decide +kernel
theorem ck_wmod {q : Nat} (hq : ck_cg (q ^ 16) 1) (n : Nat) : ck_cg (q ^ n) (q ^ (n % 16)) := by
  have e : q ^ n = (q ^ 16) ^ (n / 16) * q ^ (n % 16) := by
    rw [← Nat.pow_mul, ← Nat.pow_add, Nat.div_add_mod]
  rw [e]
  have h := ck_cg_mul (ck_cg_pow hq (n / 16)) (ck_cg_r (q ^ (n % 16)))
  rw [Nat.one_pow, Nat.one_mul] at h
  exact h
theorem ck_orth0 : ∀ r, r < 16 → ck_S (fun k => 7098 ^ (k * r)) 16 % 7681 = (if r = 0 then 16 else 0) % 7681 := by decide +kernel
theorem ck_orth (t : Nat) : ck_cg (ck_S (fun k => 7098 ^ (k * t)) 16) (if t % 16 = 0 then 16 else 0) := by
  refine ck_cg_t (b := ck_S (fun k => 7098 ^ (k * (t % 16))) 16) (ck_S_cg (fun k _ => ?_)) (ck_orth0 (t % 16) (Nat.mod_lt _ (by decide)))
  refine ck_cg_t (ck_wmod ck_w16 _) (ck_cg_t ?_ (ck_cg_s (ck_wmod ck_w16 _)))
  rw [Nat.mul_mod k (t % 16), Nat.mod_mod, ← Nat.mul_mod]
  exact ck_cg_r _
/-- the sum over one index with its condition -/
theorem ck_pick (g : Nat → Nat) (b u : Nat) : ck_S (fun d => g d * (if (b + d + 15 * u) % 16 = 0 then 16 else 0)) 16 = 16 * g ((u + 15 * b) % 16) := by
  rw [ck_S_congr (g := fun d => if d = (u + 15 * b) % 16 then 16 * g d else 0) ?_, ck_S_one (g := fun d => 16 * g d) (Nat.mod_lt _ (by decide))]
  intro d hd
  show g d * (if (b + d + 15 * u) % 16 = 0 then 16 else 0) = if d = (u + 15 * b) % 16 then 16 * g d else 0
  by_cases e : d = (u + 15 * b) % 16
  · rw [if_pos e, if_pos (by omega), Nat.mul_comm]
  · rw [if_neg e, if_neg (by omega), Nat.mul_zero]
/-- one dimension -/
theorem ck_conv1 (f g : Nat → Nat) (u : Nat) :
    ck_cg (ck_S (fun k => ck_S (fun b => f b * 7098 ^ (k * b)) 16 * ck_S (fun d => g d * 7098 ^ (k * d)) 16 * 7098 ^ (15 * (u * k))) 16) (16 * ck_S (fun b => f b * g ((u + 15 * b) % 16)) 16) := by
  have e1 : ck_S (fun k => ck_S (fun b => f b * 7098 ^ (k * b)) 16 * ck_S (fun d => g d * 7098 ^ (k * d)) 16 * 7098 ^ (15 * (u * k))) 16
      = ck_S (fun b => ck_S (fun d => f b * g d * ck_S (fun k => 7098 ^ (k * (b + d + 15 * u))) 16) 16) 16 := by
    rw [ck_S_congr (g := fun k => ck_S (fun b => ck_S (fun d => f b * g d * 7098 ^ (k * (b + d + 15 * u))) 16) 16) ?_]
    · rw [ck_S_swap]
      refine ck_S_congr (fun b _ => ?_)
      try dsimp only
      rw [ck_S_swap]
      refine ck_S_congr (fun d _ => ?_)
      try dsimp only
      rw [ck_S_mul]
    · intro k _
      try dsimp only
      rw [ck_S_prod, ck_S_mulr]
      refine ck_S_congr (fun b _ => ?_)
      try dsimp only
      rw [ck_S_mulr]
      refine ck_S_congr (fun d _ => ?_)
      try dsimp only
      rw [Nat.mul_add, Nat.mul_add, Nat.pow_add, Nat.pow_add, show 15 * (u * k) = k * (15 * u) from by
        rw [Nat.mul_comm u k, ← Nat.mul_assoc, ← Nat.mul_assoc, Nat.mul_comm 15 k]]
      rw [Nat.mul_mul_mul_comm, Nat.mul_assoc]
  rw [e1, ck_S_mul]
  refine ck_S_cg (fun b _ => ?_)
  refine ck_cg_t (ck_S_cg (g := fun d => f b * (g d * (if (b + d + 15 * u) % 16 = 0 then 16 else 0))) (fun d _ => ?_)) ?_
  · try dsimp only
    rw [← Nat.mul_assoc]
    exact ck_cg_mul (ck_cg_r _) (ck_orth _)
  · rw [← ck_S_mul, ck_pick, Nat.mul_left_comm]
    exact ck_cg_r _
/-- the transform of a plane with the powers of q -/
def ck_tr (q : Nat) (A : Nat → Nat → Nat) (v u : Nat) : Nat := ck_S (fun a => ck_S (fun b => A a b * q ^ (u * b)) 16 * q ^ (v * a)) 16
theorem ck_tr_swap (q : Nat) (A : Nat → Nat → Nat) (v u : Nat) : ck_tr q A v u = ck_S (fun b => ck_S (fun a => A a b * q ^ (v * a)) 16 * q ^ (u * b)) 16 := by
  unfold ck_tr
  rw [ck_S_congr (g := fun a => ck_S (fun b => A a b * q ^ (v * a) * q ^ (u * b)) 16) ?_, ck_S_swap]
  · refine ck_S_congr (fun b _ => ?_)
    try dsimp only
    rw [ck_S_mulr]
  · intro a _
    try dsimp only
    rw [ck_S_mulr]
    refine ck_S_congr (fun b _ => ?_)
    try dsimp only
    rw [Nat.mul_right_comm]
/-- two dimensions -/
theorem ck_conv2 (A B : Nat → Nat → Nat) (y x : Nat) :
    ck_cg (ck_S (fun v => ck_S (fun u => ck_tr 7098 A v u * ck_tr 7098 B v u * 7098 ^ (15 * (x * u))) 16 * 7098 ^ (15 * (y * v))) 16)
      (256 * ck_S (fun b => ck_S (fun a => A a b * B ((y + 15 * a) % 16) ((x + 15 * b) % 16)) 16) 16) := by
  have h1 : ck_cg (ck_S (fun v => ck_S (fun u => ck_tr 7098 A v u * ck_tr 7098 B v u * 7098 ^ (15 * (x * u))) 16 * 7098 ^ (15 * (y * v))) 16)
      (ck_S (fun v => 16 * ck_S (fun b => ck_S (fun a => A a b * 7098 ^ (v * a)) 16 * ck_S (fun c => B c ((x + 15 * b) % 16) * 7098 ^ (v * c)) 16) 16 * 7098 ^ (15 * (y * v))) 16) := by
    refine ck_S_cg (fun v _ => ck_cg_mul ?_ (ck_cg_r _))
    rw [ck_S_congr (g := fun u => ck_S (fun b => ck_S (fun a => A a b * 7098 ^ (v * a)) 16 * 7098 ^ (u * b)) 16 * ck_S (fun d => ck_S (fun c => B c d * 7098 ^ (v * c)) 16 * 7098 ^ (u * d)) 16 * 7098 ^ (15 * (x * u))) (fun u _ => by rw [ck_tr_swap, ck_tr_swap])]
    exact ck_conv1 (fun b => ck_S (fun a => A a b * 7098 ^ (v * a)) 16) (fun d => ck_S (fun c => B c d * 7098 ^ (v * c)) 16) x
  refine ck_cg_t h1 ?_
  have h2 : ck_S (fun v => 16 * ck_S (fun b => ck_S (fun a => A a b * 7098 ^ (v * a)) 16 * ck_S (fun c => B c ((x + 15 * b) % 16) * 7098 ^ (v * c)) 16) 16 * 7098 ^ (15 * (y * v))) 16
      = ck_S (fun b => 16 * ck_S (fun v => ck_S (fun a => A a b * 7098 ^ (v * a)) 16 * ck_S (fun c => B c ((x + 15 * b) % 16) * 7098 ^ (v * c)) 16 * 7098 ^ (15 * (y * v))) 16) 16 := by
    rw [ck_S_congr (g := fun v => ck_S (fun b => 16 * (ck_S (fun a => A a b * 7098 ^ (v * a)) 16 * ck_S (fun c => B c ((x + 15 * b) % 16) * 7098 ^ (v * c)) 16 * 7098 ^ (15 * (y * v)))) 16) ?_, ck_S_swap]
    · refine ck_S_congr (fun b _ => ?_)
      try dsimp only
      rw [ck_S_mul]
    · intro v _
      try dsimp only
      rw [ck_S_mul, ck_S_mulr]
      refine ck_S_congr (fun b _ => ?_)
      try dsimp only
      rw [Nat.mul_assoc 16]
  rw [h2, ck_S_mul]
  refine ck_S_cg (fun b _ => ?_)
  rw [show (256 : Nat) = 16 * 16 from rfl, Nat.mul_assoc]
  exact ck_cg_mul (ck_cg_r 16) (ck_conv1 (fun a => A a b) (fun c => B c ((x + 15 * b) % 16)) y)
end
section
/-! Int32 helpers -/
theorem ck_of {x : Int32} (h : 0 ≤ x.toInt) : x = nI x.toInt.toNat := by
  apply Int32.toInt_inj.mp
  have h2 := Int32.toInt_lt x
  rw [nI_toInt (by omega)]
  omega
theorem ck_tadd {x y : Int32} (h1 : -2147483648 ≤ x.toInt + y.toInt) (h2 : x.toInt + y.toInt < 2147483648) : (x + y).toInt = x.toInt + y.toInt := by
  rw [Int32.toInt_add]
  exact Int.bmod_eq_of_le (by omega) (by omega)
theorem ck_tmul {x y : Int32} (h1 : -2147483648 ≤ x.toInt * y.toInt) (h2 : x.toInt * y.toInt < 2147483648) : (x * y).toInt = x.toInt * y.toInt := by
  rw [Int32.toInt_mul]
  exact Int.bmod_eq_of_le (by omega) (by omega)
theorem ck_tsub {x y : Int32} (h1 : -2147483648 ≤ x.toInt - y.toInt) (h2 : x.toInt - y.toInt < 2147483648) : (x - y).toInt = x.toInt - y.toInt := by
  rw [Int32.toInt_sub]
  exact Int.bmod_eq_of_le (by omega) (by omega)
theorem ck_div4 {v : Int32} (h1 : -100000 ≤ v.toInt) (h2 : v.toInt ≤ 100000) : (4 * v) / 4 = v := by
  apply Int32.toInt_inj.mp
  have e4 : (4 : Int32).toInt = 4 := by decide
  rw [Int32.toInt_div_of_ne_right _ _ (by decide), ck_tmul (by rw [e4]; omega) (by rw [e4]; omega), e4]
  exact Int.mul_tdiv_cancel_left _ (by decide)
def ck_s3 (f : Nat → Int32) : Nat → Int32
  | 0 => 0
  | n + 1 => ck_s3 f n + f n
theorem ck_s3_congr {f g : Nat → Int32} {n : Nat} (h : ∀ i, i < n → f i = g i) : ck_s3 f n = ck_s3 g n := by
  induction n with
  | zero => rfl
  | succ n ih =>
    show ck_s3 f n + f n = ck_s3 g n + g n
    rw [ih (fun i hi => h i (by omega)), h n (by omega)]
theorem ck_s3_split (f : Nat → Int32) (a b : Nat) : ck_s3 f (a + b) = ck_s3 f a + ck_s3 (fun i => f (a + i)) b := by
  induction b with
  | zero => exact (Int32.add_zero _).symm
  | succ b ih =>
    show ck_s3 f (a + b) + f (a + b) = ck_s3 f a + (ck_s3 (fun i => f (a + i)) b + f (a + b))
    rw [ih, Int32.add_assoc]
def ck_sI (f : Nat → Int) : Nat → Int
  | 0 => 0
  | n + 1 => ck_sI f n + f n
theorem ck_s3_I {f : Nat → Int32} {n : Nat} (hn : n ≤ 18) (h : ∀ i, i < n → -180 ≤ (f i).toInt ∧ (f i).toInt ≤ 180) :
    (ck_s3 f n).toInt = ck_sI (fun i => (f i).toInt) n ∧ -180 * (n : Int) ≤ (ck_s3 f n).toInt ∧ (ck_s3 f n).toInt ≤ 180 * (n : Int) := by
  induction n with
  | zero => exact ⟨rfl, Int.le_refl 0, Int.le_refl 0⟩
  | succ n ih =>
    obtain ⟨e, h1, h2⟩ := ih (by omega) (fun i hi => h i (by omega))
    obtain ⟨h3, h4⟩ := h n (by omega)
    have e2 : (ck_s3 f n + f n).toInt = (ck_s3 f n).toInt + (f n).toInt := ck_tadd (by omega) (by omega)
    refine ⟨?_, ?_, ?_⟩
    · show (ck_s3 f n + f n).toInt = ck_sI (fun i => (f i).toInt) n + (f n).toInt
      rw [e2, e]
    · show _ ≤ (ck_s3 f n + f n).toInt
      rw [e2]; omega
    · show (ck_s3 f n + f n).toInt ≤ _
      rw [e2]; omega
/-! the picture's number, the results -/
def ck_at (P : Nat → Int32) (c m a b : Nat) : Int32 := if m ≤ a ∧ a < 8 + m ∧ m ≤ b ∧ b < 8 + m then P (64 * c + 8 * (b - m) + (a - m)) else 0
def ck_tm (P K : Nat → Int32) (s m x y k : Nat) : Int32 := K k * ck_at P (k / 9) m (s * x + k % 3) (s * y + k % 9 / 3)
def ck_cv (P K : Nat → Int32) (s m x y : Nat) : Int32 := ck_s3 (ck_tm P K s m x y) 18
def ck_cc (P K : Nat → Int32) (s m x y c : Nat) : Int32 := ck_s3 (fun k => K (9 * c + k) * ck_at P c m (s * x + k % 3) (s * y + k / 3)) 9
def ck_PB (P : Nat → Int32) : Prop := ∀ j, j < 128 → -20 ≤ (P j).toInt ∧ (P j).toInt ≤ 20
def ck_KB (K : Nat → Int32) : Prop := ∀ j, j < 18 → -9 ≤ (K j).toInt ∧ (K j).toInt ≤ 9
theorem ck_at_b {P : Nat → Int32} (hP : ck_PB P) {c m a b : Nat} (hc : c < 2) : -20 ≤ (ck_at P c m a b).toInt ∧ (ck_at P c m a b).toInt ≤ 20 := by
  unfold ck_at
  by_cases h : m ≤ a ∧ a < 8 + m ∧ m ≤ b ∧ b < 8 + m
  · rw [if_pos h]
    exact hP _ (by omega)
  · rw [if_neg h]
    decide
theorem ck_mb {x y : Int} (h1 : -9 ≤ x) (h2 : x ≤ 9) (h3 : -20 ≤ y) (h4 : y ≤ 20) : -180 ≤ x * y ∧ x * y ≤ 180 := by
  have hx : x = -9 ∨ x = -8 ∨ x = -7 ∨ x = -6 ∨ x = -5 ∨ x = -4 ∨ x = -3 ∨ x = -2 ∨ x = -1 ∨ x = 0 ∨ x = 1 ∨ x = 2 ∨ x = 3 ∨ x = 4 ∨ x = 5 ∨ x = 6 ∨ x = 7 ∨ x = 8 ∨ x = 9 := by omega
  rcases hx with rfl | rfl | rfl | rfl | rfl | rfl | rfl | rfl | rfl | rfl | rfl | rfl | rfl | rfl | rfl | rfl | rfl | rfl | rfl <;> omega
theorem ck_tb {x y : Int32} (h : -9 ≤ x.toInt ∧ x.toInt ≤ 9) (h' : -20 ≤ y.toInt ∧ y.toInt ≤ 20) : (x * y).toInt = x.toInt * y.toInt ∧ -180 ≤ (x * y).toInt ∧ (x * y).toInt ≤ 180 := by
  have hb := ck_mb h.1 h.2 h'.1 h'.2
  have e : (x * y).toInt = x.toInt * y.toInt := ck_tmul (by omega) (by omega)
  rw [e]
  exact ⟨rfl, hb⟩
theorem ck_tm_b {P K : Nat → Int32} (hP : ck_PB P) (hK : ck_KB K) {s m x y k : Nat} (hk : k < 18) :
    (ck_tm P K s m x y k).toInt = (K k).toInt * (ck_at P (k / 9) m (s * x + k % 3) (s * y + k % 9 / 3)).toInt ∧ -180 ≤ (ck_tm P K s m x y k).toInt ∧ (ck_tm P K s m x y k).toInt ≤ 180 :=
  ck_tb (hK k hk) (ck_at_b hP (by omega))
theorem ck_cv_b {P K : Nat → Int32} (hP : ck_PB P) (hK : ck_KB K) (s m x y : Nat) :
    (ck_cv P K s m x y).toInt = ck_sI (fun k => (K k).toInt * (ck_at P (k / 9) m (s * x + k % 3) (s * y + k % 9 / 3)).toInt) 18 ∧ -3240 ≤ (ck_cv P K s m x y).toInt ∧ (ck_cv P K s m x y).toInt ≤ 3240 := by
  obtain ⟨e, h1, h2⟩ := ck_s3_I (f := ck_tm P K s m x y) (n := 18) (by omega) (fun i hi => (ck_tm_b hP hK hi).2)
  refine ⟨?_, h1, h2⟩
  unfold ck_cv
  rw [e]
  have : ∀ n, n ≤ 18 → ck_sI (fun i => (ck_tm P K s m x y i).toInt) n = ck_sI (fun k => (K k).toInt * (ck_at P (k / 9) m (s * x + k % 3) (s * y + k % 9 / 3)).toInt) n := by
    intro n
    induction n with
    | zero => intro _; rfl
    | succ n ih =>
      intro hn
      show _ + _ = _ + _
      rw [ih (by omega)]
      exact congrArg _ (ck_tm_b hP hK (show n < 18 by omega)).1
  exact this 18 (by omega)
theorem ck_cc_b {P K : Nat → Int32} (hP : ck_PB P) (hK : ck_KB K) (s m x y : Nat) {c : Nat} (hc : c < 2) : -1620 ≤ (ck_cc P K s m x y c).toInt ∧ (ck_cc P K s m x y c).toInt ≤ 1620 := by
  obtain ⟨_, h1, h2⟩ := ck_s3_I (f := fun k => K (9 * c + k) * ck_at P c m (s * x + k % 3) (s * y + k / 3)) (n := 9) (by omega) (fun i hi => (ck_tb (hK _ (by omega)) (ck_at_b hP hc)).2)
  exact ⟨h1, h2⟩
theorem ck_cv_cc (P K : Nat → Int32) (s m x y : Nat) : ck_cv P K s m x y = ck_cc P K s m x y 0 + ck_cc P K s m x y 1 := by
  unfold ck_cv ck_cc
  rw [show (18 : Nat) = 9 + 9 from rfl, ck_s3_split]
  refine congr (congrArg _ (ck_s3_congr (fun i hi => ?_))) (ck_s3_congr (fun i hi => ?_))
  · show ck_tm P K s m x y i = K (9 * 0 + i) * ck_at P 0 m (s * x + i % 3) (s * y + i / 3)
    unfold ck_tm
    rw [show i / 9 = 0 by omega, show i % 9 = i by omega, show 9 * 0 + i = i by omega]
  · show ck_tm P K s m x y (9 + i) = K (9 * 1 + i) * ck_at P 1 m (s * x + i % 3) (s * y + i / 3)
    unfold ck_tm
    rw [show (9 + i) / 9 = 1 by omega, show (9 + i) % 9 = i by omega, show (9 + i) % 3 = i % 3 by omega]
/-! the tiles' identities -/
theorem ck_wg1 (d0 d1 d2 g0 g1 g2 : Int32) : (d0 - d2) * (2 * g0) + (d1 + d2) * (g0 + g1 + g2) + (d2 - d1) * (g0 - g1 + g2) = 2 * (d0 * g0 + d1 * g1 + d2 * g2) := by grind
theorem ck_wg2 (d1 d2 d3 g0 g1 g2 : Int32) : (d1 + d2) * (g0 + g1 + g2) - (d2 - d1) * (g0 - g1 + g2) - (d1 - d3) * (2 * g2) = 2 * (d1 * g0 + d2 * g1 + d3 * g2) := by grind
/-! remainders -/
def ck_rd (x : Int32) : Nat := (x.toInt % 7681).toNat
theorem ck_rd_i (x : Int32) : ((ck_rd x : Nat) : Int) = x.toInt % 7681 := by
  unfold ck_rd
  omega
theorem ck_rd_lt (x : Int32) : ck_rd x < 7681 := by
  unfold ck_rd
  omega
def ck_ci (a b : Int) : Prop := a % 7681 = b % 7681
theorem ck_ci_add {a b c d : Int} (h : ck_ci a b) (h2 : ck_ci c d) : ck_ci (a + c) (b + d) := by
  unfold ck_ci at *
  rw [Int.add_emod, h, h2, ← Int.add_emod]
theorem ck_ci_mul {a b c d : Int} (h : ck_ci a b) (h2 : ck_ci c d) : ck_ci (a * c) (b * d) := by
  unfold ck_ci at *
  rw [Int.mul_emod, h, h2, ← Int.mul_emod]
theorem ck_rd_c (x : Int32) : ck_ci ((ck_rd x : Nat) : Int) x.toInt := by
  rw [ck_rd_i]
  exact Int.emod_emod_of_dvd _ (Int.dvd_refl _)
theorem ck_ci_n {a b : Nat} (h : ck_cg a b) : ck_ci (a : Int) (b : Int) := by
  unfold ck_ci
  unfold ck_cg at h
  omega
theorem ck_ci_m {x y : Int32} : ck_ci ((ck_rd x * ck_rd y : Nat) : Int) (x.toInt * y.toInt) := by
  rw [Int.natCast_mul]
  exact ck_ci_mul (ck_rd_c x) (ck_rd_c y)
end
section
/-! indices -/
theorem ck_i8 (y x : Nat) : (8 : Int32) * nI y + nI x = nI (8 * y + x) := by
  rw [← nI_add, ← pk_mul]; rfl
theorem ck_i64 (c y x : Nat) : (64 : Int32) * nI c + 8 * nI y + nI x = nI (64 * c + 8 * y + x) := by
  rw [← nI_add, ← nI_add, ← pk_mul, ← pk_mul]; rfl
/-- a counted loop whose body is a function -/
def ck_it {σ : Type} (f : Nat → σ → σ) : Nat → σ → σ
  | 0, s => s
  | n + 1, s => f n (ck_it f n s)
theorem ck_loopF {σ : Type} (W : Nat → Nat → σ → Prop) (f : Nat → σ → σ) (e : Nat) (s : σ) (hx : ∀ n, W (n + 1) e (ck_it f e s))
    (hs : ∀ n i t, i < e → W n (i + 1) (f i t) → W (n + 1) i t) : ∃ n, W n 0 s :=
  pk_loop W (fun i t => t = ck_it f i s) e 0 s (Nat.zero_le e) rfl (fun n t ht => by rw [ht]; exact hx n)
    (fun n i t hi ht hw => hs n i t hi (hw _ (by rw [ht]; rfl)))
section
variable {f1 f2 f3 f4 : Int32} {a1 a2 a3 a4 a5 a6 a7 a8 a9 a10 a11 a12 a13 a14 : Nat → Int32}
variable {post : Int32 → Prop} {poss : Int32 → St1 → Prop} {posu : St1 → Prop}
/-! power -/
def ck_pf (n : Int32) : Nat → Int32 → Int32 → Int32 → Int32
  | 0, _, x, _ => x
  | k + 1, i, x, q => if (n >>> (i &&& 31)) &&& 1 = 1 then ck_pf n k (i + 1) (x * q - x * q / 7681 * 7681) (q * q - q * q / 7681 * 7681) else ck_pf n k (i + 1) x (q * q - q * q / 7681 * 7681)
theorem ck_pow8 {n : Int32} : ∀ (k i : Nat) (x q : Int32), i + k = 14 → post (ck_pf n k (nI i) x q) → wX_power_8 post n f1 f2 f3 f4 a1 a2 a3 a4 a5 a6 a7 a8 a9 a10 a11 a12 a13 a14 (k + 1) x q (nI i)
  | 0, i, x, q, h, H => by
    have e : i = 14 := by omega
    subst e
    exact br_t (by decide) H
  | k + 1, i, x, q, h, H => by
    refine br_f (nI_ge (b := 14) (by omega) (by decide)) (br_c (fun hb => ⟨by decide, nm_e ⟨by decide, nm_e (nm_r (nI_1 i) (ck_pow8 k (i + 1) _ _ (by omega) ?_))⟩⟩) (fun hb => ⟨by decide, nm_e (nm_r (nI_1 i) (ck_pow8 k (i + 1) _ _ (by omega) ?_))⟩))
    · have H' : post (if (n >>> (nI i &&& 31)) &&& 1 = 1 then ck_pf n k (nI i + 1) (x * q - x * q / 7681 * 7681) (q * q - q * q / 7681 * 7681) else ck_pf n k (nI i + 1) x (q * q - q * q / 7681 * 7681)) := H
      rw [if_pos hb, nI_1] at H'
      exact H'
    · have H' : post (if (n >>> (nI i &&& 31)) &&& 1 = 1 then ck_pf n k (nI i + 1) (x * q - x * q / 7681 * 7681) (q * q - q * q / 7681 * 7681) else ck_pf n k (nI i + 1) x (q * q - q * q / 7681 * 7681)) := H
      rw [if_neg hb, nI_1] at H'
      exact H'
theorem ck_pow {a n r : Int32} (e : ck_pf n 14 0 1 a = r) (H : post r) : wpX_power post (f1, f2, f3, f4, a1, a2, a3, a4, a5, a6, a7, a8, a9, a10, a11, a12, a13, a14) a n :=
  ⟨15, ck_pow8 14 0 1 a rfl (by rw [nI_0, e]; exact H)⟩
theorem ck_pow_a : ck_pf 480 14 0 1 17 = 7098 := by decide +kernel
theorem ck_pow_b : ck_pf 7679 14 0 1 7098 = 7154 := by decide +kernel
theorem ck_pow_c : ck_pf 7679 14 0 1 256 = 7651 := by decide +kernel
/-! small methods -/
theorem ck_way {n : Nat} (hn : n ≤ 3) (H : poss 0 (f1, f2, nI n, f4, a1, a2, a3, a4, a5, a6, a7, a8, a9, a10, a11, a12, a13, a14)) : wpX_way poss (f1, f2, f3, f4, a1, a2, a3, a4, a5, a6, a7, a8, a9, a10, a11, a12, a13, a14) (nI n) :=
  br_f (nI_pos (by omega)) (pk_le n 3 (fun _ => H) (fun z => absurd z (by omega)))
def ck_wd (s m : Nat) : Nat := if s = 1 then 6 + 2 * m else (5 + 2 * m) / 2 + 1
theorem ck_width {s m : Nat} (hs : s = 1 ∨ s = 2) (hm : m ≤ 1) (H : post (nI (ck_wd s m))) : wpX_widthNow post (nI s, nI m, f3, f4, a1, a2, a3, a4, a5, a6, a7, a8, a9, a10, a11, a12, a13, a14) := by
  have hs' : s < 3 := by omega
  have hm' : m < 2 := by omega
  have key : ∀ s, s < 3 → ∀ m, m < 2 → s ≠ 0 → (if s = 1 then ((8 + (2 * nI m)) - 3) + 1 else (((8 + (2 * nI m)) - 3) >>> ((1 : Int32) &&& 31)) + 1) = nI (ck_wd s m) := by decide +kernel
  have k := key s hs' m hm' (by omega)
  refine nm_e (pk_eq s 1 (fun z => ?_) (fun z => ?_))
  · rw [if_pos z] at k
    rw [k]; exact H
  · rw [if_neg z] at k
    rw [k]; exact H
theorem ck_wd8 {s m : Nat} (hs : s = 1 ∨ s = 2) (hm : m ≤ 1) : ck_wd s m ≤ 8 := by
  unfold ck_wd
  rcases hs with rfl | rfl
  · rw [if_pos rfl]; omega
  · rw [if_neg (by decide)]; omega
theorem ck_pixel {j : Nat} (hj : j < 128) (H : post (a1 j)) : wpX_pixel post (f1, f2, f3, f4, a1, a2, a3, a4, a5, a6, a7, a8, a9, a10, a11, a12, a13, a14) (nI j) :=
  br_f (nI_pos (by omega)) (pk_le j 127 (fun _ => ⟨pk_in j 128 hj, by rw [nI_clamp (by omega)]; exact H⟩) (fun z => absurd z (by omega)))
theorem ck_atw {c m a b : Nat} (hc : c < 2) (hm : m ≤ 1) (ha : a < 100) (hb : b < 100) (H : post (ck_at a1 c m a b)) : wpX_at post (f1, f2, f3, f4, a1, a2, a3, a4, a5, a6, a7, a8, a9, a10, a11, a12, a13, a14) (nI c) (nI a - nI m) (nI b - nI m) := by
  have h0 : ¬ (m ≤ a ∧ a < 8 + m ∧ m ≤ b ∧ b < 8 + m) → post 0 := fun z => by
    have e : ck_at a1 c m a b = 0 := if_neg z
    rwa [e] at H
  by_cases h1 : a < m
  · exact br_t (pk_sneg (by omega) h1) (h0 (by omega))
  · rw [pk_sub (a := a) (b := m) (by omega)]
    refine br_f (nI_pos (by omega)) (pk_le 8 (a - m) (fun z => h0 (by omega)) (fun z => ?_))
    by_cases h2 : b < m
    · exact br_t (pk_sneg (by omega) h2) (h0 (by omega))
    · rw [pk_sub (a := b) (b := m) (by omega)]
      refine br_f (nI_pos (by omega)) (pk_lt (b - m) 8 (fun z2 => ⟨?_, ?_⟩) (fun z2 => h0 (by omega)))
      · rw [ck_i64]
        exact vp_in_nI (by omega) (by omega)
      · rw [ck_i64, nI_clamp (by omega)]
        have e : ck_at a1 c m a b = a1 (64 * c + 8 * (b - m) + (a - m)) := if_pos (by omega)
        rwa [e] at H
/-- the result at a place -/
def ck_re (w : Nat) (O : Nat → Int32) (x y : Nat) : Int32 := if x < w ∧ y < w then O (8 * y + x) else 0
theorem ck_resw {w x y : Nat} (hw : w ≤ 8) (hx : x < 8) (hy : y < 8) (H : post (ck_re w a3 x y)) : wpX_result post (f1, f2, f3, nI w, a1, a2, a3, a4, a5, a6, a7, a8, a9, a10, a11, a12, a13, a14) (nI x) (nI y) := by
  have h0 : ¬ (x < w ∧ y < w) → post 0 := fun z => by
    have e : ck_re w a3 x y = 0 := if_neg z
    rwa [e] at H
  refine br_f (nI_pos (by omega)) (pk_le w x (fun z => h0 (by omega)) (fun z => br_f (nI_pos (by omega)) (pk_lt y w (fun z2 => ⟨?_, ?_⟩) (fun z2 => h0 (by omega)))))
  · rw [ck_i8]
    exact vp_in_nI (by omega) (by omega)
  · rw [ck_i8, nI_clamp (by omega)]
    have e : ck_re w a3 x y = a3 (8 * y + x) := if_pos ⟨z, z2⟩
    rwa [e] at H
def ck_cl (v : Int32) : Int32 := if (-20) ≤ v then (if v ≤ 20 then v else 20) else (-20)
theorem ck_clw {v : Int32} (H : post (ck_cl v)) : wpX_clamp post (f1, f2, f3, f4, a1, a2, a3, a4, a5, a6, a7, a8, a9, a10, a11, a12, a13, a14) v := by
  unfold ck_cl at H
  refine br_c (fun h => br_c (fun h2 => ?_) (fun h2 => ?_)) (fun h => ?_)
  · rwa [if_pos h, if_pos h2] at H
  · rwa [if_pos h, if_neg h2] at H
  · rwa [if_neg h] at H
theorem ck_cl_b (v : Int32) : -20 ≤ (ck_cl v).toInt ∧ (ck_cl v).toInt ≤ 20 := by
  unfold ck_cl
  have e1 : (-20 : Int32).toInt = -20 := by decide
  have e2 : (20 : Int32).toInt = 20 := by decide
  by_cases h : (-20) ≤ v
  · rw [if_pos h]
    rw [Int32.le_iff_toInt_le, e1] at h
    by_cases h2 : v ≤ 20
    · rw [if_pos h2]
      rw [Int32.le_iff_toInt_le, e2] at h2
      exact ⟨h, h2⟩
    · rw [if_neg h2, e2]
      decide
  · rw [if_neg h, e1]
    decide
def ck_gr (a b : Int32) : Int32 := if a ≤ b then b else a
theorem ck_grw {a b : Int32} (H : post (ck_gr a b)) : wpX_greater post (f1, f2, f3, f4, a1, a2, a3, a4, a5, a6, a7, a8, a9, a10, a11, a12, a13, a14) a b := by
  unfold ck_gr at H
  refine br_c (fun h => ?_) (fun h => ?_)
  · rwa [if_pos h] at H
  · rwa [if_neg h] at H
theorem ck_kerw {j : Nat} {v : Int32} (hj : j < 18) (h1 : -9 ≤ v.toInt) (h2 : v.toInt ≤ 9) (H : poss (a2 j) (f1, f2, f3, f4, a1, upd a2 j v, a3, a4, a5, a6, a7, a8, a9, a10, a11, a12, a13, a14)) : wpX_kernel poss (f1, f2, f3, f4, a1, a2, a3, a4, a5, a6, a7, a8, a9, a10, a11, a12, a13, a14) (nI j) v := by
  have e1 : (-9 : Int32).toInt = -9 := by decide
  have e2 : (9 : Int32).toInt = 9 := by decide
  refine br_f (nI_pos (by omega)) (pk_lt 17 j (fun z => absurd z (by omega)) (fun z => br_f (by rw [Int32.lt_iff_toInt_lt, e1]; omega) (br_t (by rw [Int32.le_iff_toInt_le, e2]; omega) ⟨pk_in j 18 hj, nm_e ⟨pk_in j 18 hj, nm_e ?_⟩⟩)))
  rw [nI_clamp (by omega)]
  exact H
theorem ck_putw {j : Nat} {v : Int32} (hj : j < 128) (h1 : -20 ≤ v.toInt) (h2 : v.toInt ≤ 20) (H : poss (a1 j) (f1, f2, f3, f4, upd a1 j v, a2, a3, a4, a5, a6, a7, a8, a9, a10, a11, a12, a13, a14)) : wpX_put poss (f1, f2, f3, f4, a1, a2, a3, a4, a5, a6, a7, a8, a9, a10, a11, a12, a13, a14) (nI j) v := by
  have e1 : (-20 : Int32).toInt = -20 := by decide
  have e2 : (20 : Int32).toInt = 20 := by decide
  refine br_f (nI_pos (by omega)) (pk_lt 127 j (fun z => absurd z (by omega)) (fun z => br_f (by rw [Int32.lt_iff_toInt_lt, e1]; omega) (br_t (by rw [Int32.le_iff_toInt_le, e2]; omega) ⟨pk_in j 128 hj, nm_e ⟨pk_in j 128 hj, nm_e ?_⟩⟩)))
  rw [nI_clamp (by omega)]
  exact H
theorem ck_shapew {s m : Nat} (hs : s = 1 ∨ s = 2) (hm : m ≤ 1) (H : poss (nI (ck_wd s m)) (nI s, nI m, f3, f4, a1, a2, a3, a4, a5, a6, a7, a8, a9, a10, a11, a12, a13, a14)) : wpX_shape poss (f1, f2, f3, f4, a1, a2, a3, a4, a5, a6, a7, a8, a9, a10, a11, a12, a13, a14) (nI s) (nI m) :=
  pk_lt s 1 (fun z => absurd z (by omega)) (fun _ => pk_lt 2 s (fun z => absurd z (by omega)) (fun _ => br_f (nI_pos (by omega)) (pk_le m 1 (fun _ => ck_width hs hm H) (fun z => absurd z (by omega)))))
theorem ck_redw {v : Int32} (h1 : -20 ≤ v.toInt) (h2 : v.toInt ≤ 20) (H : post (nI (ck_rd v))) : wpX_reduce post (f1, f2, f3, f4, a1, a2, a3, a4, a5, a6, a7, a8, a9, a10, a11, a12, a13, a14) v := by
  have e : v / 7681 = 0 := by
    apply Int32.toInt_inj.mp
    rw [Int32.toInt_div_of_ne_right _ _ (by decide), show (7681 : Int32).toInt = 7681 from by decide, show (0 : Int32).toInt = 0 from rfl]
    have hv : v.toInt = -20 ∨ v.toInt = -19 ∨ v.toInt = -18 ∨ v.toInt = -17 ∨ v.toInt = -16 ∨ v.toInt = -15 ∨ v.toInt = -14 ∨ v.toInt = -13 ∨ v.toInt = -12 ∨ v.toInt = -11 ∨ v.toInt = -10 ∨ v.toInt = -9 ∨ v.toInt = -8 ∨ v.toInt = -7 ∨ v.toInt = -6 ∨ v.toInt = -5 ∨ v.toInt = -4 ∨ v.toInt = -3 ∨ v.toInt = -2 ∨ v.toInt = -1 ∨ 0 ≤ v.toInt := by omega
    rcases hv with h | h | h | h | h | h | h | h | h | h | h | h | h | h | h | h | h | h | h | h | h
    all_goals first | (rw [h]; decide) | exact Int.tdiv_eq_zero_of_lt h (by omega)
  have e' : v - v / 7681 * 7681 = v := by rw [e, Int32.zero_mul, Int32.sub_zero]
  refine ⟨by decide, nm_r e' (br_c (fun h => ?_) (fun h => ?_))⟩
  · rw [Int32.le_iff_toInt_le, show (0 : Int32).toInt = 0 from rfl] at h
    have : v = nI (ck_rd v) := by
      apply Int32.toInt_inj.mp
      have := ck_rd_lt v
      rw [nI_toInt (by omega), ck_rd_i]
      omega
    rw [← this] at H
    exact H
  · rw [Int32.le_iff_toInt_le, show (0 : Int32).toInt = 0 from rfl] at h
    have e3 : (7681 : Int32).toInt = 7681 := by decide
    have : v + 7681 = nI (ck_rd v) := by
      apply Int32.toInt_inj.mp
      have := ck_rd_lt v
      rw [nI_toInt (by omega), ck_rd_i, ck_tadd (by rw [e3]; omega) (by rw [e3]; omega), e3]
      omega
    rw [this]
    exact H
end
end
section
theorem ck_loopG {σ : Type} (W : Nat → Nat → σ → Prop) (f : Nat → σ → σ) (ok : σ → Prop) (e : Nat) (s : σ) (h0 : ok s) (hx : ∀ n, ok (ck_it f e s) → W (n + 1) e (ck_it f e s))
    (hs : ∀ n i t, i < e → ok t → ok (f i t) ∧ (W n (i + 1) (f i t) → W (n + 1) i t)) : ∃ n, W n 0 s :=
  pk_loop W (fun i t => t = ck_it f i s ∧ ok t) e 0 s (Nat.zero_le e) ⟨rfl, h0⟩ (fun n t ht => by rw [ht.1]; exact hx n (ht.1 ▸ ht.2))
    (fun n i t hi ht hw => (hs n i t hi ht.2).2 (hw _ ⟨by rw [ht.1]; rfl, (hs n i t hi ht.2).1⟩))
theorem ck_itok {σ : Type} {f : Nat → σ → σ} {ok : σ → Prop} {e : Nat} {s : σ} (h0 : ok s) (hs : ∀ i t, i < e → ok t → ok (f i t)) : ok (ck_it f e s) := by
  induction e with
  | zero => exact h0
  | succ n ih => exact hs n _ (by omega) (ih (fun i t hi ht => hs i t (by omega) ht))
theorem ck_i16 (y x : Nat) : (16 : Int32) * nI y + 2 * nI x = nI (16 * y + 2 * x) := by
  rw [← nI_add, ← pk_mul, ← pk_mul]; rfl
def ck_rt (g : Int32) : Nat → (Nat → Int32)
  | 0 => upd (fun _ => 0) 0 1
  | i + 1 => upd (ck_rt g i) (i + 1) (ck_rt g i i * g - ck_rt g i i * g / 7681 * 7681)
def ck_RT : Nat → Int32 := ck_rt 7098 15
def ck_BK : Nat → Int32 := ck_rt 7154 15
theorem ck_RT_v : ∀ j, j < 16 → ck_RT j = nI (7098 ^ j % 7681) := by decide +kernel
theorem ck_BK_v : ∀ j, j < 16 → ck_BK j = nI ((7098 ^ 15) ^ j % 7681) := by decide +kernel
section
variable {f1 f2 f3 f4 : Int32} {a1 a2 a3 a4 a5 a6 a7 a8 a9 a10 a11 a12 a13 a14 : Nat → Int32}
variable {post : Int32 → Prop} {poss : Int32 → St1 → Prop} {posu : St1 → Prop}
/-! init -/
theorem ck_initw (H : posu (1, 1, 0, 0, (fun _ => 0), (fun _ => 0), (fun _ => 0), (fun _ => 0), (fun _ => 0), (fun _ => 0), (fun _ => 0), (fun _ => 0), (fun _ => 0), (fun _ => 0), (fun _ => 0), ck_RT, ck_BK, (fun _ => 0))) : wpX_init posu 14 2242 (0, 0, 0, 0) := by
  refine ⟨by decide, by decide, by decide, by decide, by decide, by decide, by decide, by decide, by decide, by decide, by decide, by decide, by decide, by decide, by decide, by decide, by decide, by decide, by decide, by decide, by decide, by decide, by decide, by decide, by decide, by decide, by decide, by decide, ck_pow ck_pow_a (ck_pow ck_pow_b (nm_e (nm_e ?_)))⟩
  refine pk_loop (fun n i (t : (Nat → Int32) × (Nat → Int32)) => wX_init_166 posu 14 2242 7098 7154 14 2242 1 1 0 0 n (nI i) (fun _ => 0) (fun _ => 0) (fun _ => 0) (fun _ => 0) (fun _ => 0) (fun _ => 0) (fun _ => 0) (fun _ => 0) (fun _ => 0) (fun _ => 0) (fun _ => 0) t.1 t.2 (fun _ => 0)) (fun i t => 1 ≤ i ∧ t = (ck_rt 7098 (i - 1), ck_rt 7154 (i - 1))) 16 1 (upd (fun _ => 0) 0 1, upd (fun _ => 0) 0 1) (by omega) ⟨by omega, rfl⟩ ?_ ?_
  · intro n t ht
    obtain ⟨_, rfl⟩ := ht
    exact pk_le 16 16 (fun _ => H) (fun z => absurd z (by omega))
  · intro n i t hi ht hw
    obtain ⟨h1, rfl⟩ := ht
    rcases i with _ | i
    · exact absurd h1 (by omega)
    · refine pk_le 16 (i + 1) (fun z => absurd z (by omega)) (fun _ => ?_)
      rw [nI_pred]
      refine ⟨vp_in_nI (by omega) (by omega), by decide, vp_in_nI (by omega) (by omega), nm_e ⟨vp_in_nI (by omega) (by omega), by decide, vp_in_nI (by omega) (by omega), nm_e (nm_r (nI_1 (i + 1)) (hw (_, _) ⟨by omega, ?_⟩))⟩⟩
      rw [nI_clamp (by omega), nI_clamp (by omega)]
      rfl
/-! fill -/
def ck_f1 (c : Nat) (A B D E : Int32) (y x : Nat) (t : Nat → Int32) : Nat → Int32 := upd t (64 * c + 8 * y + x) (ck_cl (((A + (B * nI x)) + (D * nI y)) + ((E * nI x) * nI y)))
def ck_f2 (c : Nat) (A B D E : Int32) (y : Nat) (t : Nat → Int32) : Nat → Int32 := ck_it (ck_f1 c A B D E y) 8 t
theorem ck_fi89 {J : Int32 → (Nat → Int32) → (Nat → Int32) → (Nat → Int32) → (Nat → Int32) → (Nat → Int32) → (Nat → Int32) → (Nat → Int32) → (Nat → Int32) → (Nat → Int32) → (Nat → Int32) → (Nat → Int32) → (Nat → Int32) → (Nat → Int32) → (Nat → Int32) → Prop} {c y : Nat} {A B D E : Int32} (hc : c < 2) (hy : y < 8) (H : J (nI (y + 1)) (ck_f2 c A B D E y a1) a2 a3 a4 a5 a6 a7 a8 a9 a10 a11 a12 a13 a14) : ∃ n, wX_fill_89 poss J (nI c) A E B D (nI y) f1 f2 f3 f4 n 0 a1 a2 a3 a4 a5 a6 a7 a8 a9 a10 a11 a12 a13 a14 :=
  ck_loopF (fun n i t => wX_fill_89 poss J (nI c) A E B D (nI y) f1 f2 f3 f4 n (nI i) t a2 a3 a4 a5 a6 a7 a8 a9 a10 a11 a12 a13 a14) (ck_f1 c A B D E y) 8 a1
    (fun n => pk_le 8 8 (fun _ => nm_r (nI_1 y) H) (fun z => absurd z (by omega)))
    (fun n i t hi h => pk_le 8 i (fun z => absurd z (by omega)) (fun _ => ck_clw ⟨by rw [ck_i64]; exact vp_in_nI (by omega) (by omega), nm_r (by rw [ck_i64, nI_clamp (by omega)]; rfl) (nm_r (nI_1 i) h)⟩))
theorem ck_fillw {c : Nat} {A SL E : Int32} (hc : c < 2) (h1 : ¬ A < (-20)) (h2 : ¬ 20 < A) (h3 : ¬ E < (-3)) (h4 : E ≤ 3) (h5 : ¬ SL < 0) (h6 : ¬ 10 < SL / 100 - 10) (h7 : (SL - SL / 100 * 100) - 10 ≤ 10)
    (H : poss 0 (f1, f2, f3, f4, ck_it (ck_f2 c A (SL / 100 - 10) ((SL - SL / 100 * 100) - 10) E) 8 a1, a2, a3, a4, a5, a6, a7, a8, a9, a10, a11, a12, a13, a14)) : wpX_fill poss (f1, f2, f3, f4, a1, a2, a3, a4, a5, a6, a7, a8, a9, a10, a11, a12, a13, a14) (nI c) A SL E := by
  refine ⟨by decide, nm_e ⟨by decide, nm_e (br_f (nI_pos (by omega)) (pk_lt 1 c (fun z => absurd z (by omega)) (fun _ => br_f h1 (br_f h2 (br_f h3 (br_t h4 (br_f h5 (br_f h6 (br_t h7 ?_)))))))))⟩⟩
  exact ck_loopF (fun n i t => wX_fill_79 poss (nI c) A E (SL / 100 - 10) ((SL - SL / 100 * 100) - 10) f1 f2 f3 f4 n (nI i) t a2 a3 a4 a5 a6 a7 a8 a9 a10 a11 a12 a13 a14) (ck_f2 c A (SL / 100 - 10) ((SL - SL / 100 * 100) - 10) E) 8 a1
    (fun n => pk_le 8 8 (fun _ => H) (fun z => absurd z (by omega)))
    (fun n i t hi h => pk_le 8 i (fun z => absurd z (by omega)) (fun _ => ck_fi89 hc hi h))
/-! floor -/
def ck_fl1 (y x : Nat) (t : Int32 × (Nat → Int32)) : Int32 × (Nat → Int32) := if 0 ≤ t.2 (8 * y + x) then t else (t.1 + 1, upd t.2 (8 * y + x) 0)
def ck_fl2 (w y : Nat) (t : Int32 × (Nat → Int32)) : Int32 × (Nat → Int32) := ck_it (ck_fl1 y) w t
theorem ck_fl14 {J : Int32 → Int32 → (Nat → Int32) → (Nat → Int32) → (Nat → Int32) → (Nat → Int32) → (Nat → Int32) → (Nat → Int32) → (Nat → Int32) → (Nat → Int32) → (Nat → Int32) → (Nat → Int32) → (Nat → Int32) → (Nat → Int32) → (Nat → Int32) → (Nat → Int32) → Prop} {w y : Nat} (hw : w ≤ 8) (hy : y < w) {n0 : Int32} (H : J (ck_fl2 w y (n0, a3)).1 (nI (y + 1)) a1 a2 (ck_fl2 w y (n0, a3)).2 a4 a5 a6 a7 a8 a9 a10 a11 a12 a13 a14) : ∃ n, wX_floor_14 poss J (nI y) f1 f2 f3 (nI w) n n0 0 a1 a2 a3 a4 a5 a6 a7 a8 a9 a10 a11 a12 a13 a14 := by
  refine ck_loopF (fun n i (t : Int32 × (Nat → Int32)) => wX_floor_14 poss J (nI y) f1 f2 f3 (nI w) n t.1 (nI i) a1 a2 t.2 a4 a5 a6 a7 a8 a9 a10 a11 a12 a13 a14) (ck_fl1 y) w (n0, a3)
    (fun n => pk_le w w (fun _ => nm_r (nI_1 y) H) (fun z => absurd z (by omega))) ?_
  intro n i t hi h
  refine pk_le w i (fun z => absurd z (by omega)) (fun _ => ?_)
  rw [ck_i8, nI_clamp (by omega)]
  refine ⟨vp_in_nI (by omega) (by omega), br_c (fun hb => nm_r (nI_1 i) ?_) (fun hb => ⟨vp_in_nI (by omega) (by omega), nm_e (nm_e (nm_r (nI_1 i) ?_))⟩)⟩
  · have e : ck_fl1 y i t = t := if_pos hb
    rw [e] at h
    exact h
  · have e : ck_fl1 y i t = (t.1 + 1, upd t.2 (8 * y + i) 0) := if_neg hb
    rw [e] at h
    exact h
theorem ck_floorw {w : Nat} (hw : w ≤ 8) (H : poss (ck_it (ck_fl2 w) w (0, a3)).1 (f1, f2, f3, nI w, a1, a2, (ck_it (ck_fl2 w) w (0, a3)).2, a4, a5, a6, a7, a8, a9, a10, a11, a12, a13, a14)) : wpX_floor poss (f1, f2, f3, nI w, a1, a2, a3, a4, a5, a6, a7, a8, a9, a10, a11, a12, a13, a14) :=
  ck_loopF (fun n i (t : Int32 × (Nat → Int32)) => wX_floor_4 poss f1 f2 f3 (nI w) n t.1 (nI i) a1 a2 t.2 a4 a5 a6 a7 a8 a9 a10 a11 a12 a13 a14) (ck_fl2 w) w (0, a3)
    (fun n => pk_le w w (fun _ => H) (fun z => absurd z (by omega)))
    (fun n i t hi h => pk_le w i (fun z => absurd z (by omega)) (fun _ => ck_fl14 hw hi h))
/-! thin -/
def ck_th1 (y x : Nat) (t : Nat → Int32) : Nat → Int32 := upd t (8 * y + x) (ck_gr (ck_gr (t (16 * y + 2 * x)) (t (16 * y + 2 * x + 1))) (ck_gr (t (16 * y + 2 * x + 8)) (t (16 * y + 2 * x + 9))))
def ck_th2 (w y : Nat) (t : Nat → Int32) : Nat → Int32 := ck_it (ck_th1 y) w t
theorem ck_th16 {J : Int32 → (Nat → Int32) → (Nat → Int32) → (Nat → Int32) → (Nat → Int32) → (Nat → Int32) → (Nat → Int32) → (Nat → Int32) → (Nat → Int32) → (Nat → Int32) → (Nat → Int32) → (Nat → Int32) → (Nat → Int32) → (Nat → Int32) → (Nat → Int32) → Prop} {w y : Nat} (hw : w ≤ 4) (hy : y < w) (H : J (nI (y + 1)) a1 a2 (ck_th2 w y a3) a4 a5 a6 a7 a8 a9 a10 a11 a12 a13 a14) : ∃ n, wX_thin_16 poss J (nI w) (nI y) f1 f2 f3 f4 n 0 a1 a2 a3 a4 a5 a6 a7 a8 a9 a10 a11 a12 a13 a14 := by
  refine ck_loopF (fun n i t => wX_thin_16 poss J (nI w) (nI y) f1 f2 f3 f4 n (nI i) a1 a2 t a4 a5 a6 a7 a8 a9 a10 a11 a12 a13 a14) (ck_th1 y) w a3
    (fun n => pk_le w w (fun _ => nm_r (nI_1 y) H) (fun z => absurd z (by omega))) ?_
  intro n i t hi h
  refine pk_le w i (fun z => absurd z (by omega)) (fun _ => nm_r (ck_i16 y i) ?_)
  rw [nI_1, show nI (16 * y + 2 * i) + 8 = nI (16 * y + 2 * i + 8) from nI_add _ 8, show nI (16 * y + 2 * i) + 9 = nI (16 * y + 2 * i + 9) from nI_add _ 9, ck_i8]
  refine ⟨vp_in_nI (by omega) (by omega), vp_in_nI (by omega) (by omega), ck_grw ⟨vp_in_nI (by omega) (by omega), vp_in_nI (by omega) (by omega), ck_grw (ck_grw ⟨vp_in_nI (by omega) (by omega), nm_r ?_ (nm_r (nI_1 i) h)⟩)⟩⟩
  rw [nI_clamp (by omega), nI_clamp (by omega), nI_clamp (by omega), nI_clamp (by omega), nI_clamp (by omega)]
  rfl
theorem ck_thinw {w : Nat} (hw : w ≤ 8) (H : poss (nI (w / 2)) (f1, f2, f3, nI (w / 2), a1, a2, ck_it (ck_th2 (w / 2)) (w / 2) a3, a4, a5, a6, a7, a8, a9, a10, a11, a12, a13, a14)) : wpX_thin poss (f1, f2, f3, nI w, a1, a2, a3, a4, a5, a6, a7, a8, a9, a10, a11, a12, a13, a14) :=
  nm_r (pk_shrN (by omega) _ 1 (by decide)) (ck_loopF (fun n i t => wX_thin_9 poss (nI (w / 2 ^ 1)) f1 f2 f3 (nI w) n (nI i) a1 a2 t a4 a5 a6 a7 a8 a9 a10 a11 a12 a13 a14) (ck_th2 (w / 2)) (w / 2) a3
    (fun n => pk_le (w / 2) (w / 2) (fun _ => H) (fun z => absurd z (by omega)))
    (fun n i t hi h => pk_le (w / 2) i (fun z => absurd z (by omega)) (fun _ => ck_th16 (by omega) hi h)))
/-! divide -/
def ck_dv (d : Int32) (x : Nat) (t : Nat → Int32) : Nat → Int32 := upd t x (t x / d)
theorem ck_dividew {d : Nat} (h1 : 1 ≤ d) (h2 : d ≤ 100) (H : poss f4 (f1, f2, f3, f4, a1, a2, ck_it (ck_dv (nI d)) 64 a3, a4, a5, a6, a7, a8, a9, a10, a11, a12, a13, a14)) : wpX_divide poss (f1, f2, f3, f4, a1, a2, a3, a4, a5, a6, a7, a8, a9, a10, a11, a12, a13, a14) (nI d) :=
  pk_lt d 1 (fun z => absurd z (by omega)) (fun _ => pk_le d 100 (fun _ => ck_loopF (fun n i t => wX_divide_16 poss (nI d) f1 f2 f3 f4 n (nI i) a1 a2 t a4 a5 a6 a7 a8 a9 a10 a11 a12 a13 a14) (ck_dv (nI d)) 64 a3
    (fun n => pk_le 64 64 (fun _ => H) (fun z => absurd z (by omega)))
    (fun n i t hi h => pk_le 64 i (fun z => absurd z (by omega)) (fun _ => ⟨vp_in_nI (by omega) (by omega), nI_ne0 h1 (by omega), vp_in_nI (by omega) (by omega), nm_r (by rw [nI_clamp (by omega)]; rfl) (nm_r (nI_1 i) h)⟩))) (fun z => absurd z (by omega)))
/-! take -/
def ck_tk1 (w : Nat) (O : Nat → Int32) (c y x : Nat) (t : Int32 × (Nat → Int32)) : Int32 × (Nat → Int32) := (if t.2 (64 * c + 8 * y + x) = ck_cl (ck_re w O x y) then t.1 else t.1 + 1, upd t.2 (64 * c + 8 * y + x) (ck_cl (ck_re w O x y)))
def ck_tk2 (w : Nat) (O : Nat → Int32) (c y : Nat) (t : Int32 × (Nat → Int32)) : Int32 × (Nat → Int32) := ck_it (ck_tk1 w O c y) 8 t
theorem ck_tk25 {J : Int32 → Int32 → (Nat → Int32) → (Nat → Int32) → (Nat → Int32) → (Nat → Int32) → (Nat → Int32) → (Nat → Int32) → (Nat → Int32) → (Nat → Int32) → (Nat → Int32) → (Nat → Int32) → (Nat → Int32) → (Nat → Int32) → (Nat → Int32) → (Nat → Int32) → Prop} {w c y : Nat} (hw : w ≤ 8) (hc : c < 2) (hy : y < 8) {n0 : Int32} (H : J (ck_tk2 w a3 c y (n0, a1)).1 (nI (y + 1)) (ck_tk2 w a3 c y (n0, a1)).2 a2 a3 a4 a5 a6 a7 a8 a9 a10 a11 a12 a13 a14) : ∃ n, wX_take_25 poss J (nI c) (nI y) f1 f2 f3 (nI w) n n0 0 a1 a2 a3 a4 a5 a6 a7 a8 a9 a10 a11 a12 a13 a14 := by
  refine ck_loopF (fun n i (t : Int32 × (Nat → Int32)) => wX_take_25 poss J (nI c) (nI y) f1 f2 f3 (nI w) n t.1 (nI i) t.2 a2 a3 a4 a5 a6 a7 a8 a9 a10 a11 a12 a13 a14) (ck_tk1 w a3 c y) 8 (n0, a1)
    (fun n => pk_le 8 8 (fun _ => nm_r (nI_1 y) H) (fun z => absurd z (by omega))) ?_
  intro n i t hi h
  refine pk_le 8 i (fun z => absurd z (by omega)) (fun _ => ck_resw hw hi hy (ck_clw (nm_r (ck_i64 c y i) ?_)))
  rw [nI_clamp (by omega)]
  refine ⟨vp_in_nI (by omega) (by omega), br_c (fun hb => ⟨vp_in_nI (by omega) (by omega), nm_e (nm_r (nI_1 i) ?_)⟩) (fun hb => ⟨vp_in_nI (by omega) (by omega), nm_e (nm_r (nI_1 i) ?_)⟩)⟩
  · have e : ck_tk1 w a3 c y i t = (t.1, upd t.2 (64 * c + 8 * y + i) (ck_cl (ck_re w a3 i y))) := congrArg (fun z => (z, _)) (if_pos hb)
    rw [e] at h
    rw [nI_clamp (by omega)]
    exact h
  · have e : ck_tk1 w a3 c y i t = (t.1 + 1, upd t.2 (64 * c + 8 * y + i) (ck_cl (ck_re w a3 i y))) := congrArg (fun z => (z, _)) (if_neg hb)
    rw [e] at h
    rw [nI_clamp (by omega)]
    exact h
theorem ck_takew {w c : Nat} (hw : w ≤ 8) (hc : c < 2) (H : poss (ck_it (ck_tk2 w a3 c) 8 (0, a1)).1 (f1, f2, f3, nI w, (ck_it (ck_tk2 w a3 c) 8 (0, a1)).2, a2, a3, a4, a5, a6, a7, a8, a9, a10, a11, a12, a13, a14)) : wpX_take poss (f1, f2, f3, nI w, a1, a2, a3, a4, a5, a6, a7, a8, a9, a10, a11, a12, a13, a14) (nI c) :=
  br_f (nI_pos (by omega)) (pk_le c 1 (fun _ => ck_loopF (fun n i (t : Int32 × (Nat → Int32)) => wX_take_16 poss (nI c) f1 f2 f3 (nI w) n t.1 (nI i) t.2 a2 a3 a4 a5 a6 a7 a8 a9 a10 a11 a12 a13 a14) (ck_tk2 w a3 c) 8 (0, a1)
    (fun n => pk_le 8 8 (fun _ => H) (fun z => absurd z (by omega)))
    (fun n i t hi h => pk_le 8 i (fun z => absurd z (by omega)) (fun _ => ck_tk25 hw hc hi h))) (fun z => absurd z (by omega)))
/-! sum -/
def ck_su1 (O : Nat → Int32) (y x : Nat) (t : Int32) : Int32 := t + O (8 * y + x)
def ck_su2 (O : Nat → Int32) (w y : Nat) (t : Int32) : Int32 := ck_it (ck_su1 O y) w t
theorem ck_su14 {J : Int32 → Int32 → Prop} {w y : Nat} (hw : w ≤ 8) (hy : y < w) {n0 : Int32} (H : J (ck_su2 a3 w y n0) (nI (y + 1))) : ∃ n, wX_sum_14 post J (nI y) f1 f2 f3 (nI w) a1 a2 a3 a4 a5 a6 a7 a8 a9 a10 a11 a12 a13 a14 n n0 0 :=
  ck_loopF (fun n i t => wX_sum_14 post J (nI y) f1 f2 f3 (nI w) a1 a2 a3 a4 a5 a6 a7 a8 a9 a10 a11 a12 a13 a14 n t (nI i)) (ck_su1 a3 y) w n0
    (fun n => pk_le w w (fun _ => nm_r (nI_1 y) H) (fun z => absurd z (by omega)))
    (fun n i t hi h => pk_le w i (fun z => absurd z (by omega)) (fun _ => ⟨by rw [ck_i8]; exact vp_in_nI (by omega) (by omega), nm_r (by rw [ck_i8, nI_clamp (by omega)]; rfl) (nm_r (nI_1 i) h)⟩))
theorem ck_sumw {w : Nat} (hw : w ≤ 8) (H : post (ck_it (ck_su2 a3 w) w 0)) : wpX_sum post (f1, f2, f3, nI w, a1, a2, a3, a4, a5, a6, a7, a8, a9, a10, a11, a12, a13, a14) :=
  ck_loopF (fun n i t => wX_sum_4 post f1 f2 f3 (nI w) a1 a2 a3 a4 a5 a6 a7 a8 a9 a10 a11 a12 a13 a14 n t (nI i)) (ck_su2 a3 w) w 0
    (fun n => pk_le w w (fun _ => H) (fun z => absurd z (by omega)))
    (fun n i t hi h => pk_le w i (fun z => absurd z (by omega)) (fun _ => ck_su14 hw hi h))
/-! peak -/
def ck_pe1 (O : Nat → Int32) (y x : Nat) (t : Int32) : Int32 := if t < 0 then nI (8 * y + x) else if O (8 * y + x) ≤ O t.toNatClampNeg then t else nI (8 * y + x)
def ck_pe2 (O : Nat → Int32) (w y : Nat) (t : Int32) : Int32 := ck_it (ck_pe1 O y) w t
def ck_pok (t : Int32) : Prop := t < 0 ∨ ∃ j, j < 64 ∧ t = nI j
theorem ck_pe1_ok {O : Nat → Int32} {y x : Nat} {t : Int32} (hy : y < 8) (hx : x < 8) (h : ck_pok t) : ck_pok (ck_pe1 O y x t) := by
  unfold ck_pe1
  by_cases h1 : t < 0
  · rw [if_pos h1]; exact Or.inr ⟨_, by omega, rfl⟩
  · rw [if_neg h1]
    by_cases h2 : O (8 * y + x) ≤ O t.toNatClampNeg
    · rw [if_pos h2]; exact h
    · rw [if_neg h2]; exact Or.inr ⟨_, by omega, rfl⟩
theorem ck_pe14 {J : Int32 → Int32 → Prop} {w y : Nat} (hw : w ≤ 8) (hy : y < w) {n0 : Int32} (h0 : ck_pok n0) (H : J (ck_pe2 a3 w y n0) (nI (y + 1))) : ∃ n, wX_peak_14 post J (nI y) f1 f2 f3 (nI w) a1 a2 a3 a4 a5 a6 a7 a8 a9 a10 a11 a12 a13 a14 n n0 0 := by
  refine ck_loopG (fun n i t => wX_peak_14 post J (nI y) f1 f2 f3 (nI w) a1 a2 a3 a4 a5 a6 a7 a8 a9 a10 a11 a12 a13 a14 n t (nI i)) (ck_pe1 a3 y) ck_pok w n0 h0
    (fun n _ => pk_le w w (fun _ => nm_r (nI_1 y) H) (fun z => absurd z (by omega))) ?_
  intro n i t hi ht
  refine ⟨ck_pe1_ok (by omega) (by omega) ht, fun h => pk_le w i (fun z => absurd z (by omega)) (fun _ => ?_)⟩
  unfold ck_pe1 at h
  refine br_c (fun hb => ?_) (fun hb => ?_)
  · rw [if_pos hb] at h
    exact nm_r (ck_i8 y i) (nm_r (nI_1 i) h)
  · rw [if_neg hb] at h
    obtain ⟨j, hj, rfl⟩ := ht.resolve_left hb
    rw [ck_i8]
    refine ⟨vp_in_nI (by omega) (by omega), vp_in_nI hj (by omega), br_c (fun hc => ?_) (fun hc => ?_)⟩
    · rw [nI_clamp (n := 8 * y + i) (by omega)] at hc
      rw [if_pos hc] at h
      exact nm_r (nI_1 i) h
    · rw [nI_clamp (n := 8 * y + i) (by omega)] at hc
      rw [if_neg hc] at h
      exact nm_r (ck_i8 y i) (nm_r (nI_1 i) h)
theorem ck_pe2_ok {O : Nat → Int32} {w y : Nat} {t : Int32} (hw : w ≤ 8) (hy : y < w) (h : ck_pok t) : ck_pok (ck_pe2 O w y t) :=
  ck_itok h (fun i t hi ht => ck_pe1_ok (by omega) (by omega) ht)
theorem ck_peakw {w : Nat} (hw : w ≤ 8) (H : post (ck_it (ck_pe2 a3 w) w (-1))) : wpX_peak post (f1, f2, f3, nI w, a1, a2, a3, a4, a5, a6, a7, a8, a9, a10, a11, a12, a13, a14) :=
  ck_loopG (fun n i t => wX_peak_4 post f1 f2 f3 (nI w) a1 a2 a3 a4 a5 a6 a7 a8 a9 a10 a11 a12 a13 a14 n t (nI i)) (ck_pe2 a3 w) ck_pok w (-1) (Or.inl (by decide))
    (fun n _ => pk_le w w (fun _ => H) (fun z => absurd z (by omega)))
    (fun n i t hi ht => ⟨ck_pe2_ok hw hi ht, fun h => pk_le w i (fun z => absurd z (by omega)) (fun _ => ck_pe14 hw hi ht h)⟩)
end
end
section
theorem ck_itI {σ : Type} {f : Nat → σ → σ} {s : σ} (I : Nat → σ → Prop) {e : Nat} (h0 : I 0 s) (hs : ∀ i t, i < e → I i t → I (i + 1) (f i t)) : I e (ck_it f e s) := by
  induction e with
  | zero => exact h0
  | succ n ih => exact hs n _ (by omega) (ih (fun i t hi ht => hs i t (by omega) ht))
theorem ck_ss (a b c : Int32) : (a - b) + c = (a + c) - b := by grind
theorem ck_i18 (i k : Nat) : (18 : Int32) * nI i + nI k = nI (18 * i + k) := by
  rw [← nI_add, ← pk_mul]; rfl
theorem ck_i18b (y x : Nat) : (18 : Int32) * ((8 : Int32) * nI y + nI x) = nI (18 * (8 * y + x)) := by
  rw [ck_i8, ← pk_mul]; rfl
theorem ck_i9 (b c k : Nat) : nI b + (9 : Int32) * nI c + nI k = nI (b + 9 * c + k) := by
  rw [← nI_add, ← nI_add, ← pk_mul]; rfl
/-- one column of the windows added to one row of results -/
def ck_ac (K W : Nat → Int32) (w k y : Nat) (O : Nat → Int32) : Nat → Int32 := fun j => if 8 * y ≤ j ∧ j < 8 * y + w then O j + W (18 * j + k) * K k else O j
def ck_st1 (P : Nat → Int32) (m b X Y c k : Nat) (t : Nat → Int32) : Nat → Int32 := upd t (b + 9 * c + k) (ck_at P c m (X + k % 3) (Y + k / 3))
def ck_st2 (P : Nat → Int32) (m b X Y c : Nat) (t : Nat → Int32) : Nat → Int32 := ck_it (ck_st1 P m b X Y c) 9 t
def ck_st (P : Nat → Int32) (m b X Y : Nat) (t : Nat → Int32) : Nat → Int32 := ck_it (ck_st2 P m b X Y) 2 t
def ck_wi1 (P : Nat → Int32) (s m y x : Nat) (t : Nat → Int32) : Nat → Int32 := ck_st P m (18 * (8 * y + x)) (s * x) (s * y) t
def ck_wi2 (P : Nat → Int32) (s m w y : Nat) (t : Nat → Int32) : Nat → Int32 := ck_it (ck_wi1 P s m y) w t
def ck_wi (P : Nat → Int32) (s m w : Nat) (t : Nat → Int32) : Nat → Int32 := ck_it (ck_wi2 P s m w) w t
def ck_ac2 (K W : Nat → Int32) (w k : Nat) (O : Nat → Int32) : Nat → Int32 := ck_it (ck_ac K W w k) w O
def ck_ac3 (K W : Nat → Int32) (w : Nat) (O : Nat → Int32) : Nat → Int32 := ck_it (ck_ac2 K W w) 18 O
section
variable {f1 f2 f3 f4 : Int32} {a1 a2 a3 a4 a5 a6 a7 a8 a9 a10 a11 a12 a13 a14 : Nat → Int32}
variable {post : Int32 → Prop} {poss : Int32 → St1 → Prop} {posu : St1 → Prop}
theorem ck_addColw {w k y : Nat} (hw : w ≤ 8) (hy : y < 8) (hk : k < 18) (H : posu (f1, f2, f3, nI w, a1, a2, ck_ac a2 a14 w k y a3, a4, a5, a6, a7, a8, a9, a10, a11, a12, a13, a14)) : wpX_addColumn posu (f1, f2, f3, nI w, a1, a2, a3, a4, a5, a6, a7, a8, a9, a10, a11, a12, a13, a14) (nI k) (nI (8 * y)) := by
  refine pk_loop (fun n i t => wX_addColumn_2 posu (nI k) (nI (8 * y)) f1 f2 f3 (nI w) n (nI i) a1 a2 t a4 a5 a6 a7 a8 a9 a10 a11 a12 a13 a14) (fun i t => 8 * y ≤ i ∧ t = fun j => if 8 * y ≤ j ∧ j < i then a3 j + a14 (18 * j + k) * a2 k else a3 j) (8 * y + w) (8 * y) a3 (by omega) ⟨Nat.le_refl _, ?_⟩ ?_ ?_
  · funext j
    rw [if_neg (by omega)]
  · intro n t ht
    obtain ⟨_, rfl⟩ := ht
    exact pk_le (8 * y + w) (8 * y + w) (fun _ => H) (fun z => absurd z (by omega)) (nI_add _ _)
  · intro n i t hi ht hw
    obtain ⟨h1, rfl⟩ := ht
    refine pk_le (8 * y + w) i (fun z => absurd z (by omega)) (fun _ => ?_) (nI_add _ _)
    rw [ck_i18, nI_clamp (by omega), nI_clamp (by omega), nI_clamp (by omega)]
    refine ⟨vp_in_nI (by omega) (by omega), vp_in_nI (by omega) (by omega), vp_in_nI (by omega) (by omega), vp_in_nI (by omega) (by omega), nm_e (nm_r (nI_1 i) (hw _ ⟨by omega, ?_⟩))⟩
    funext j
    by_cases e : j = i
    · subst e
      rw [pk_us]
      dsimp only
      rw [if_neg (show ¬ (8 * y ≤ j ∧ j < j) by omega), if_pos (show 8 * y ≤ j ∧ j < j + 1 by omega)]
    · rw [pk_un e]
      by_cases e2 : 8 * y ≤ j ∧ j < i
      · rw [if_pos e2, if_pos (by omega)]
      · rw [if_neg e2, if_neg (by omega)]
theorem ck_stretch12 {J : Int32 → (Nat → Int32) → (Nat → Int32) → (Nat → Int32) → (Nat → Int32) → (Nat → Int32) → (Nat → Int32) → (Nat → Int32) → (Nat → Int32) → (Nat → Int32) → (Nat → Int32) → (Nat → Int32) → (Nat → Int32) → (Nat → Int32) → (Nat → Int32) → Prop} {m b X Y c : Nat} (hm : m ≤ 1) (hb : b + 18 ≤ 1152) (hX : X < 90) (hY : Y < 90) (hc : c < 2) (H : J (nI (c + 1)) a1 a2 a3 a4 a5 a6 a7 a8 a9 a10 a11 a12 a13 (ck_st2 a1 m b X Y c a14)) : ∃ n, wX_stretch_12 posu J (nI b) (nI X - nI m) (nI Y - nI m) (nI c) f1 f2 f3 f4 n 0 a1 a2 a3 a4 a5 a6 a7 a8 a9 a10 a11 a12 a13 a14 := by
  refine ck_loopF (fun n i t => wX_stretch_12 posu J (nI b) (nI X - nI m) (nI Y - nI m) (nI c) f1 f2 f3 f4 n (nI i) a1 a2 a3 a4 a5 a6 a7 a8 a9 a10 a11 a12 a13 t) (ck_st1 a1 m b X Y c) 9 a14
    (fun n => pk_le 9 9 (fun _ => nm_r (nI_1 c) H) (fun z => absurd z (by omega))) ?_
  intro n i t hi h
  refine pk_le 9 i (fun z => absurd z (by omega)) (fun _ => ⟨by decide, by decide, ?_⟩)
  rw [show nI i - nI i / 3 * 3 = nI (i % 3) from pk_rem (d := 3) (by omega) (by omega) (by omega), show nI i / 3 = nI (i / 3) from pk_div (d := 3) (by omega) (by omega) (by omega), ck_ss, ck_ss, nI_add, nI_add, ck_i9]
  refine ck_atw hc hm (by omega) (by omega) ⟨vp_in_nI (by omega) (by omega), nm_r ?_ (nm_r (nI_1 i) h)⟩
  rw [nI_clamp (by omega)]
  rfl
theorem ck_stretchw {m b X Y : Nat} (hm : m ≤ 1) (hb : b + 18 ≤ 1152) (hX : X < 90) (hY : Y < 90) (H : posu (f1, f2, f3, f4, a1, a2, a3, a4, a5, a6, a7, a8, a9, a10, a11, a12, a13, ck_st a1 m b X Y a14)) : wpX_stretch posu (f1, f2, f3, f4, a1, a2, a3, a4, a5, a6, a7, a8, a9, a10, a11, a12, a13, a14) (nI b) (nI X - nI m) (nI Y - nI m) :=
  ck_loopF (fun n i t => wX_stretch_3 posu (nI b) (nI X - nI m) (nI Y - nI m) f1 f2 f3 f4 n (nI i) a1 a2 a3 a4 a5 a6 a7 a8 a9 a10 a11 a12 a13 t) (ck_st2 a1 m b X Y) 2 a14
    (fun n => pk_le 2 2 (fun _ => H) (fun z => absurd z (by omega)))
    (fun n i t hi h => pk_le 2 i (fun z => absurd z (by omega)) (fun _ => ck_stretch12 hm hb hX hY hi h))
theorem ck_mw77 {J : Int32 → Int32 → Int32 → Int32 → Int32 → (Nat → Int32) → (Nat → Int32) → (Nat → Int32) → (Nat → Int32) → (Nat → Int32) → (Nat → Int32) → (Nat → Int32) → (Nat → Int32) → (Nat → Int32) → (Nat → Int32) → (Nat → Int32) → (Nat → Int32) → (Nat → Int32) → (Nat → Int32) → Prop} {w k : Nat} (hw : w ≤ 8) (hk : k < 18) (H : J (nI (k + 1)) f1 f2 f3 (nI w) a1 a2 (ck_ac2 a2 a14 w k a3) a4 a5 a6 a7 a8 a9 a10 a11 a12 a13 a14) : ∃ n, wX_moveByWindows_77 posu J (nI k) n 0 f1 f2 f3 (nI w) a1 a2 a3 a4 a5 a6 a7 a8 a9 a10 a11 a12 a13 a14 := by
  refine ck_loopF (fun n i t => wX_moveByWindows_77 posu J (nI k) n (nI i) f1 f2 f3 (nI w) a1 a2 t a4 a5 a6 a7 a8 a9 a10 a11 a12 a13 a14) (ck_ac a2 a14 w k) w a3
    (fun n => pk_le w w (fun _ => nm_r (nI_1 k) H) (fun z => absurd z (by omega))) ?_
  intro n i t hi h
  refine pk_le w i (fun z => absurd z (by omega)) (fun _ => ?_)
  rw [show (8 : Int32) * nI i = nI (8 * i) from pk_mul 8 i]
  exact ck_addColw hw (by omega) hk (nm_r (nI_1 i) h)
theorem ck_mw69 {w : Nat} (hw : w ≤ 8) (H : posu (f1, f2, f3, nI w, a1, a2, ck_ac3 a2 a14 w a3, a4, a5, a6, a7, a8, a9, a10, a11, a12, a13, a14)) : ∃ n, wX_moveByWindows_69 posu n 0 f1 f2 f3 (nI w) a1 a2 a3 a4 a5 a6 a7 a8 a9 a10 a11 a12 a13 a14 :=
  ck_loopF (fun n i t => wX_moveByWindows_69 posu n (nI i) f1 f2 f3 (nI w) a1 a2 t a4 a5 a6 a7 a8 a9 a10 a11 a12 a13 a14) (ck_ac2 a2 a14 w) 18 a3
    (fun n => pk_le 18 18 (fun _ => H) (fun z => absurd z (by omega)))
    (fun n i t hi h => pk_le 18 i (fun z => absurd z (by omega)) (fun _ => ck_mw77 hw hi h))
theorem ck_mw12 {J : Int32 → Int32 → Int32 → Int32 → Int32 → (Nat → Int32) → (Nat → Int32) → (Nat → Int32) → (Nat → Int32) → (Nat → Int32) → (Nat → Int32) → (Nat → Int32) → (Nat → Int32) → (Nat → Int32) → (Nat → Int32) → (Nat → Int32) → (Nat → Int32) → (Nat → Int32) → (Nat → Int32) → Prop} {s m w y : Nat} (hs : s ≤ 2) (hm : m ≤ 1) (hw : w ≤ 8) (hy : y < w) (H : J (nI (y + 1)) (nI s) (nI m) f3 (nI w) a1 a2 a3 a4 a5 a6 a7 a8 a9 a10 a11 a12 a13 (ck_wi2 a1 s m w y a14)) : ∃ n, wX_moveByWindows_12 posu J (nI y) n 0 (nI s) (nI m) f3 (nI w) a1 a2 a3 a4 a5 a6 a7 a8 a9 a10 a11 a12 a13 a14 := by
  refine ck_loopF (fun n i t => wX_moveByWindows_12 posu J (nI y) n (nI i) (nI s) (nI m) f3 (nI w) a1 a2 a3 a4 a5 a6 a7 a8 a9 a10 a11 a12 a13 t) (ck_wi1 a1 s m y) w a14
    (fun n => pk_le w w (fun _ => nm_r (nI_1 y) H) (fun z => absurd z (by omega))) ?_
  intro n i t hi h
  refine pk_le w i (fun z => absurd z (by omega)) (fun _ => ?_)
  rw [ck_i18b, pk_mul, pk_mul]
  have hsx : s * i ≤ 2 * 7 := Nat.mul_le_mul hs (by omega)
  have hsy : s * y ≤ 2 * 7 := Nat.mul_le_mul hs (by omega)
  exact ck_stretchw hm (by omega) (by omega) (by omega) (nm_r (nI_1 i) h)
theorem ck_windowsw {s m w : Nat} (hs : s ≤ 2) (hm : m ≤ 1) (hw : w ≤ 8) (H : posu (nI s, nI m, f3, nI w, a1, a2, ck_ac3 a2 (ck_wi a1 s m w a14) w a3, a4, a5, a6, a7, a8, a9, a10, a11, a12, a13, ck_wi a1 s m w a14)) : wpX_moveByWindows posu (nI s, nI m, f3, nI w, a1, a2, a3, a4, a5, a6, a7, a8, a9, a10, a11, a12, a13, a14) :=
  ck_loopF (fun n i t => wX_moveByWindows_2 posu n (nI i) (nI s) (nI m) f3 (nI w) a1 a2 a3 a4 a5 a6 a7 a8 a9 a10 a11 a12 a13 t) (ck_wi2 a1 s m w) w a14
    (fun n => pk_le w w (fun _ => ck_mw69 hw H) (fun z => absurd z (by omega)))
    (fun n i t hi h => pk_le w i (fun z => absurd z (by omega)) (fun _ => ck_mw12 hs hm hw hi h))
end
/-! what the windows hold -/
theorem ck_st2_v (P : Nat → Int32) (m b X Y c : Nat) (t : Nat → Int32) : (∀ k, k < 9 → ck_st2 P m b X Y c t (b + 9 * c + k) = ck_at P c m (X + k % 3) (Y + k / 3)) ∧ (∀ j, (j < b + 9 * c ∨ b + 9 * c + 9 ≤ j) → ck_st2 P m b X Y c t j = t j) := by
  refine ck_itI (fun i (u : Nat → Int32) => (∀ k, k < i → u (b + 9 * c + k) = ck_at P c m (X + k % 3) (Y + k / 3)) ∧ (∀ j, (j < b + 9 * c ∨ b + 9 * c + 9 ≤ j) → u j = t j)) ⟨fun k hk => absurd hk (by omega), fun j _ => rfl⟩ ?_
  intro i u hi hu
  refine ⟨fun k hk => ?_, fun j hj => ?_⟩
  · show upd u (b + 9 * c + i) _ (b + 9 * c + k) = _
    by_cases e : k = i
    · subst e
      rw [pk_us]
    · rw [pk_un (by omega)]
      exact hu.1 k (by omega)
  · show upd u (b + 9 * c + i) _ j = _
    rw [pk_un (by omega)]
    exact hu.2 j hj
theorem ck_st_v (P : Nat → Int32) (m b X Y : Nat) (t : Nat → Int32) : (∀ q, q < 18 → ck_st P m b X Y t (b + q) = ck_at P (q / 9) m (X + q % 3) (Y + q % 9 / 3)) ∧ (∀ j, (j < b ∨ b + 18 ≤ j) → ck_st P m b X Y t j = t j) := by
  have e : ck_st P m b X Y t = ck_st2 P m b X Y 1 (ck_st2 P m b X Y 0 t) := rfl
  obtain ⟨h1, h2⟩ := ck_st2_v P m b X Y 0 t
  obtain ⟨h3, h4⟩ := ck_st2_v P m b X Y 1 (ck_st2 P m b X Y 0 t)
  rw [e]
  refine ⟨fun q hq => ?_, fun j hj => ?_⟩
  · by_cases h9 : q < 9
    · rw [h4 _ (by omega)]
      have := h1 q h9
      rw [show b + 9 * 0 + q = b + q by omega] at this
      rw [this, show q / 9 = 0 by omega, show q % 9 = q by omega]
    · have := h3 (q - 9) (by omega)
      rw [show b + 9 * 1 + (q - 9) = b + q by omega] at this
      rw [this, show q / 9 = 1 by omega, show q % 9 = q - 9 by omega, show q % 3 = (q - 9) % 3 by omega]
  · rw [h4 j (by omega), h2 j (by omega)]
def ck_wok (P : Nat → Int32) (s m w y x : Nat) (t : Nat → Int32) : Prop := ∀ Y X, (Y < y ∨ (Y = y ∧ X < x)) → Y < w → X < w → ∀ q, q < 18 → t (18 * (8 * Y + X) + q) = ck_at P (q / 9) m (s * X + q % 3) (s * Y + q % 9 / 3)
theorem ck_wi_v (P : Nat → Int32) (s m : Nat) {w : Nat} (hw : w ≤ 8) (t : Nat → Int32) : ck_wok P s m w w 0 (ck_wi P s m w t) := by
  refine ck_itI (fun y u => ck_wok P s m w y 0 u) (fun Y X h => absurd h (by omega)) ?_
  intro y u hy hu
  have h2 : ck_wok P s m w y w (ck_wi2 P s m w y u) := by
    refine ck_itI (fun x u => ck_wok P s m w y x u) hu ?_
    intro x u hx hu Y X h hY hX q hq
    obtain ⟨h1, h2⟩ := ck_st_v P m (18 * (8 * y + x)) (s * x) (s * y) u
    show ck_st P m (18 * (8 * y + x)) (s * x) (s * y) u _ = _
    by_cases e : Y = y ∧ X = x
    · obtain ⟨rfl, rfl⟩ := e
      exact h1 q hq
    · rw [h2 _ (by omega)]
      exact hu Y X (by omega) hY hX q hq
  exact fun Y X h hY hX q hq => h2 Y X (by omega) hY hX q hq
theorem ck_ac3_v (K W : Nat → Int32) {w : Nat} (hw : w ≤ 8) (O : Nat → Int32) (j : Nat) :
    ck_ac3 K W w O j = if j < 64 ∧ j % 8 < w ∧ j / 8 < w then O j + ck_s3 (fun q => W (18 * j + q) * K q) 18 else O j := by
  refine ck_itI (fun k (u : Nat → Int32) => ∀ j, u j = if j < 64 ∧ j % 8 < w ∧ j / 8 < w then O j + ck_s3 (fun q => W (18 * j + q) * K q) k else O j) ?_ ?_ j
  · intro j
    show O j = if j < 64 ∧ j % 8 < w ∧ j / 8 < w then O j + 0 else O j
    rw [Int32.add_zero, ite_self]
  · intro k u hk hu
    have h2 : ∀ j, ck_ac2 K W w k u j = if j < 64 ∧ j % 8 < w ∧ j / 8 < w then O j + ck_s3 (fun q => W (18 * j + q) * K q) (if j / 8 < w then k + 1 else k) else O j := by
      refine ck_itI (fun y (u : Nat → Int32) => ∀ j, u j = if j < 64 ∧ j % 8 < w ∧ j / 8 < w then O j + ck_s3 (fun q => W (18 * j + q) * K q) (if j / 8 < y then k + 1 else k) else O j) ?_ ?_
      · intro j
        rw [hu j, if_neg (show ¬ j / 8 < 0 by omega)]
      · intro y u hy hu j
        show (if 8 * y ≤ j ∧ j < 8 * y + w then u j + W (18 * j + k) * K k else u j) = _
        rw [hu j]
        by_cases h1 : 8 * y ≤ j ∧ j < 8 * y + w
        · have hA : j < 64 ∧ j % 8 < w ∧ j / 8 < w := by omega
          rw [if_pos h1, if_pos hA, if_pos hA, if_neg (show ¬ j / 8 < y by omega), if_pos (show j / 8 < y + 1 by omega), Int32.add_assoc]
          rfl
        · rw [if_neg h1]
          by_cases h3 : j < 64 ∧ j % 8 < w ∧ j / 8 < w
          · rw [if_pos h3, if_pos h3]
            by_cases h4 : j / 8 < y
            · rw [if_pos h4, if_pos (by omega)]
            · rw [if_neg h4, if_neg (by omega)]
          · rw [if_neg h3, if_neg h3]
    intro j
    show ck_ac2 K W w k u j = _
    rw [h2 j]
    by_cases h3 : j < 64 ∧ j % 8 < w ∧ j / 8 < w
    · rw [if_pos h3, if_pos h3, if_pos h3.2.2]
    · rw [if_neg h3, if_neg h3]
/-- the results of a move over the out before -/
def ck_ze (O : Nat → Int32) : Nat → Int32 := fun j => if j < 64 then 0 else O j
def ck_out (P K : Nat → Int32) (s m w : Nat) (O : Nat → Int32) : Nat → Int32 := fun j => if j < 64 ∧ j % 8 < w ∧ j / 8 < w then ck_cv P K s m (j % 8) (j / 8) else ck_ze O j
theorem ck_windows_v (P K : Nat → Int32) (s m : Nat) {w : Nat} (hw : w ≤ 8) (O t : Nat → Int32) : ck_ac3 K (ck_wi P s m w t) w (ck_ze O) = ck_out P K s m w O := by
  funext j
  rw [ck_ac3_v K _ hw]
  unfold ck_out
  by_cases h : j < 64 ∧ j % 8 < w ∧ j / 8 < w
  · rw [if_pos h, if_pos h]
    have e0 : ck_ze O j = 0 := if_pos h.1
    rw [e0, Int32.zero_add]
    unfold ck_cv
    refine ck_s3_congr (fun q hq => ?_)
    have := ck_wi_v P s m hw t (j / 8) (j % 8) (Or.inl h.2.2) h.2.2 h.2.1 q hq
    rw [show 8 * (j / 8) + j % 8 = j by omega] at this
    unfold ck_tm
    rw [this, Int32.mul_comm]
  · rw [if_neg h, if_neg h]
end
section
def ck_sf (f st : Nat) (t : Nat → Int32) : Nat → Int32 := upd (upd (upd (upd t f (t f - t (f + 2 * st))) (f + st) (t (f + st) + t (f + 2 * st))) (f + 2 * st) (t (f + 2 * st) - t (f + st))) (f + 3 * st) (t (f + st) - t (f + 3 * st))
def ck_sfr (j : Nat) (t : Nat → Int32) : Nat → Int32 := ck_sf (4 * j) 1 t
def ck_sfc (j : Nat) (t : Nat → Int32) : Nat → Int32 := ck_sf j 4 t
def ck_pc1 (P : Nat → Int32) (c m x y j i : Nat) (t : Nat → Int32) : Nat → Int32 := upd t (4 * j + i) (ck_at P c m (x + i) (y + j))
def ck_pc2 (P : Nat → Int32) (c m x y j : Nat) (t : Nat → Int32) : Nat → Int32 := ck_it (ck_pc1 P c m x y j) 4 t
def ck_pr (p g : Nat → Int32) (k : Nat) (t : Nat → Int32) : Nat → Int32 := upd t k (p k * g k)
def ck_pq (i : Nat) (t : Nat → Int32) : Nat → Int32 := upd (upd t i ((t i + t (4 + i)) + t (8 + i))) (4 + i) ((t (4 + i) - t (8 + i)) - t (12 + i))
def ck_adv (w x y : Nat) (v : Int32) (t : Nat → Int32) : Nat → Int32 := if x < w ∧ y < w then upd t (8 * y + x) (t (8 * y + x) + v) else t
def ck_ta1 (w x y : Nat) (f : Nat → Int32) (j : Nat) (t : Nat → Int32) : Nat → Int32 := ck_adv w (x + 1) (y + j) (((f (4 * j + 1) - f (4 * j + 2)) - f (4 * j + 3)) / 4) (ck_adv w x (y + j) (((f (4 * j) + f (4 * j + 1)) + f (4 * j + 2)) / 4) t)
def ck_sk1 (K : Nat → Int32) (c j : Nat) (t : Nat → Int32) : Nat → Int32 := upd (upd (upd (upd t (4 * j) (2 * K (9 * c + 3 * j))) (4 * j + 1) ((K (9 * c + 3 * j) + K (9 * c + 3 * j + 1)) + K (9 * c + 3 * j + 2))) (4 * j + 2) ((K (9 * c + 3 * j) - K (9 * c + 3 * j + 1)) + K (9 * c + 3 * j + 2))) (4 * j + 3) (2 * K (9 * c + 3 * j + 2))
def ck_sk2 (h : Nat → Int32) (i : Nat) (t : Nat → Int32) : Nat → Int32 := upd (upd (upd (upd t i (2 * h i)) (4 + i) ((h i + h (4 + i)) + h (8 + i))) (8 + i) ((h i - h (4 + i)) + h (8 + i))) (12 + i) (2 * h (8 + i))
def ck_hf (K : Nat → Int32) (c : Nat) (t : Nat → Int32) : Nat → Int32 := ck_it (ck_sk1 K c) 3 t
def ck_sh (h : Nat → Int32) (t : Nat → Int32) : Nat → Int32 := ck_it (ck_sk2 h) 4 t
theorem ck_i93 (c j : Nat) : (9 : Int32) * nI c + 3 * nI j = nI (9 * c + 3 * j) := by
  rw [← nI_add, ← pk_mul, ← pk_mul]; rfl
theorem ck_m4 (j : Nat) : (4 : Int32) * nI j = nI (4 * j) := pk_mul 4 j
theorem ck_p2 (j : Nat) : nI j + 2 = nI (j + 2) := nI_add j 2
theorem ck_p3 (j : Nat) : nI j + 3 = nI (j + 3) := nI_add j 3
theorem ck_q4 (j : Nat) : 4 + nI j = nI (4 + j) := nI_add 4 j
theorem ck_q8 (j : Nat) : 8 + nI j = nI (8 + j) := nI_add 8 j
theorem ck_q12 (j : Nat) : 12 + nI j = nI (12 + j) := nI_add 12 j
section
variable {f1 f2 f3 f4 : Int32} {a1 a2 a3 a4 a5 a6 a7 a8 a9 a10 a11 a12 a13 a14 : Nat → Int32}
variable {post : Int32 → Prop} {poss : Int32 → St1 → Prop} {posu : St1 → Prop}
theorem ck_addw {w x y : Nat} {v : Int32} (hw : w ≤ 8) (hx : x < 100) (hy : y < 100) (H : posu (f1, f2, f3, nI w, a1, a2, ck_adv w x y v a3, a4, a5, a6, a7, a8, a9, a10, a11, a12, a13, a14)) : wpX_add posu (f1, f2, f3, nI w, a1, a2, a3, a4, a5, a6, a7, a8, a9, a10, a11, a12, a13, a14) (nI x) (nI y) v := by
  have h0 : ¬ (x < w ∧ y < w) → posu (f1, f2, f3, nI w, a1, a2, a3, a4, a5, a6, a7, a8, a9, a10, a11, a12, a13, a14) := fun z => by
    have e : ck_adv w x y v a3 = a3 := if_neg z
    rwa [e] at H
  refine pk_le w x (fun z => h0 (by omega)) (fun z => pk_le w y (fun z2 => h0 (by omega)) (fun z2 => ?_))
  have e : ck_adv w x y v a3 = upd a3 (8 * y + x) (a3 (8 * y + x) + v) := if_pos ⟨z, z2⟩
  rw [e] at H
  rw [ck_i8, nI_clamp (by omega)]
  exact ⟨vp_in_nI (by omega) (by omega), vp_in_nI (by omega) (by omega), nm_e H⟩
theorem ck_sfw {f st : Nat} (hf : f + 3 * st < 16) (H : posu (f1, f2, f3, f4, a1, a2, a3, ck_sf f st a4, a5, a6, a7, a8, a9, a10, a11, a12, a13, a14)) : wpX_shapeFour posu (f1, f2, f3, f4, a1, a2, a3, a4, a5, a6, a7, a8, a9, a10, a11, a12, a13, a14) (nI f) (nI st) := by
  have i1 : nI f + nI st = nI (f + st) := nI_add _ _
  have i2 : nI f + 2 * nI st = nI (f + 2 * st) := by rw [← nI_add, ← pk_mul]; rfl
  have i3 : nI f + 3 * nI st = nI (f + 3 * st) := by rw [← nI_add, ← pk_mul]; rfl
  unfold wpX_shapeFour
  rw [i1, i2, i3, nI_clamp (by omega), nI_clamp (by omega), nI_clamp (by omega), nI_clamp (by omega)]
  exact ⟨vp_in_nI (by omega) (by omega), nm_e ⟨vp_in_nI (by omega) (by omega), nm_e ⟨vp_in_nI (by omega) (by omega), nm_e ⟨vp_in_nI (by omega) (by omega), nm_e ⟨vp_in_nI (by omega) (by omega), nm_e ⟨vp_in_nI (by omega) (by omega), nm_e ⟨vp_in_nI (by omega) (by omega), nm_e ⟨vp_in_nI (by omega) (by omega), nm_e H⟩⟩⟩⟩⟩⟩⟩⟩
theorem ck_skw {c : Nat} (hc : c < 2) (H : posu (f1, f2, f3, f4, a1, a2, a3, a4, ck_hf a2 c a5, ck_sh (ck_hf a2 c a5) a6, a7, a8, a9, a10, a11, a12, a13, a14)) : wpX_shapeKernel posu (f1, f2, f3, f4, a1, a2, a3, a4, a5, a6, a7, a8, a9, a10, a11, a12, a13, a14) (nI c) := by
  refine ck_loopF (fun n i t => wX_shapeKernel_2 posu (nI c) f1 f2 f3 f4 n (nI i) a1 a2 a3 a4 t a6 a7 a8 a9 a10 a11 a12 a13 a14) (ck_sk1 a2 c) 3 a5 (fun n => pk_le 3 3 (fun _ => ?_) (fun z => absurd z (by omega))) ?_
  · refine ck_loopF (fun n i t => wX_shapeKernel_122 posu f1 f2 f3 f4 n (nI i) a1 a2 a3 a4 (ck_hf a2 c a5) t a7 a8 a9 a10 a11 a12 a13 a14) (ck_sk2 (ck_hf a2 c a5)) 4 a6 (fun n => pk_le 4 4 (fun _ => H) (fun z => absurd z (by omega))) ?_
    intro n i t hi h
    refine pk_le 4 i (fun z => absurd z (by omega)) (fun _ => ?_)
    rw [ck_q4, ck_q8, ck_q12, nI_clamp (by omega), nI_clamp (by omega), nI_clamp (by omega), nI_clamp (by omega)]
    exact ⟨vp_in_nI (by omega) (by omega), nm_e ⟨vp_in_nI (by omega) (by omega), nm_e ⟨vp_in_nI (by omega) (by omega), nm_e ⟨vp_in_nI (by omega) (by omega), nm_e ⟨vp_in_nI (by omega) (by omega), nm_e ⟨vp_in_nI (by omega) (by omega), nm_e ⟨vp_in_nI (by omega) (by omega), nm_e (nm_r (nI_1 i) h)⟩⟩⟩⟩⟩⟩⟩
  · intro n i t hi h
    refine pk_le 3 i (fun z => absurd z (by omega)) (fun _ => ?_)
    rw [ck_i93, ck_m4, ck_p2, ck_p2, ck_p3, nI_1, nI_1, nI_clamp (by omega), nI_clamp (by omega), nI_clamp (by omega), nI_clamp (by omega), nI_clamp (by omega), nI_clamp (by omega), nI_clamp (by omega)]
    exact ⟨vp_in_nI (by omega) (by omega), nm_e ⟨vp_in_nI (by omega) (by omega), nm_e ⟨vp_in_nI (by omega) (by omega), nm_e ⟨vp_in_nI (by omega) (by omega), nm_e ⟨vp_in_nI (by omega) (by omega), nm_e ⟨vp_in_nI (by omega) (by omega), nm_e ⟨vp_in_nI (by omega) (by omega), nm_e (nm_r (nI_1 i) h)⟩⟩⟩⟩⟩⟩⟩
theorem ck_t250 {w x y : Nat} (hw : w ≤ 8) (hx : x < 8) (hy : y < 8) (H : posu (f1, f2, f3, nI w, a1, a2, ck_it (ck_ta1 w x y a7) 2 a3, a4, a5, a6, a7, a8, a9, a10, a11, a12, a13, a14)) : ∃ n, wX_addTile_250 posu (nI x) (nI y) n 0 f1 f2 f3 (nI w) a1 a2 a3 a4 a5 a6 a7 a8 a9 a10 a11 a12 a13 a14 := by
  refine ck_loopF (fun n i t => wX_addTile_250 posu (nI x) (nI y) n (nI i) f1 f2 f3 (nI w) a1 a2 t a4 a5 a6 a7 a8 a9 a10 a11 a12 a13 a14) (ck_ta1 w x y a7) 2 a3 (fun n => pk_le 2 2 (fun _ => H) (fun z => absurd z (by omega))) ?_
  intro n i t hi h
  refine pk_le 2 i (fun z => absurd z (by omega)) (fun _ => ?_)
  rw [ck_m4, ck_p2, ck_p3, nI_1 (4 * i), nI_1 x, nI_add y i, nI_clamp (by omega), nI_clamp (by omega), nI_clamp (by omega), nI_clamp (by omega)]
  exact ⟨vp_in_nI (by omega) (by omega), vp_in_nI (by omega) (by omega), vp_in_nI (by omega) (by omega), nm_e ⟨vp_in_nI (by omega) (by omega), vp_in_nI (by omega) (by omega), vp_in_nI (by omega) (by omega), nm_e ⟨by decide, ck_addw hw (by omega) (by omega) ⟨by decide, ck_addw hw (by omega) (by omega) (nm_r (nI_1 i) h)⟩⟩⟩⟩
theorem ck_t152 {w x y : Nat} (hw : w ≤ 8) (hx : x < 8) (hy : y < 8) (H : posu (f1, f2, f3, nI w, a1, a2, ck_it (ck_ta1 w x y (ck_it ck_pq 4 a7)) 2 a3, a4, a5, a6, ck_it ck_pq 4 a7, a8, a9, a10, a11, a12, a13, a14)) : ∃ n, wX_addTile_152 posu (nI x) (nI y) f1 f2 f3 (nI w) n 0 a1 a2 a3 a4 a5 a6 a7 a8 a9 a10 a11 a12 a13 a14 := by
  refine ck_loopF (fun n i t => wX_addTile_152 posu (nI x) (nI y) f1 f2 f3 (nI w) n (nI i) a1 a2 a3 a4 a5 a6 t a8 a9 a10 a11 a12 a13 a14) ck_pq 4 a7 (fun n => pk_le 4 4 (fun _ => ck_t250 hw hx hy H) (fun z => absurd z (by omega))) ?_
  intro n i t hi h
  refine pk_le 4 i (fun z => absurd z (by omega)) (fun _ => ?_)
  rw [ck_q4, ck_q8, ck_q12, nI_clamp (by omega), nI_clamp (by omega), nI_clamp (by omega), nI_clamp (by omega)]
  exact ⟨vp_in_nI (by omega) (by omega), vp_in_nI (by omega) (by omega), vp_in_nI (by omega) (by omega), nm_e ⟨vp_in_nI (by omega) (by omega), vp_in_nI (by omega) (by omega), vp_in_nI (by omega) (by omega), nm_e ⟨vp_in_nI (by omega) (by omega), nm_e ⟨vp_in_nI (by omega) (by omega), nm_e (nm_r (nI_1 i) h)⟩⟩⟩⟩
theorem ck_t114 {w x y : Nat} (hw : w ≤ 8) (hx : x < 8) (hy : y < 8) (H : ∀ z7, z7 = ck_it ck_pq 4 (ck_it (ck_pr a4 a6) 16 a7) → posu (f1, f2, f3, nI w, a1, a2, ck_it (ck_ta1 w x y z7) 2 a3, a4, a5, a6, z7, a8, a9, a10, a11, a12, a13, a14)) : ∃ n, wX_addTile_114 posu (nI x) (nI y) f1 f2 f3 (nI w) n 0 a1 a2 a3 a4 a5 a6 a7 a8 a9 a10 a11 a12 a13 a14 := by
  refine ck_loopF (fun n i t => wX_addTile_114 posu (nI x) (nI y) f1 f2 f3 (nI w) n (nI i) a1 a2 a3 a4 a5 a6 t a8 a9 a10 a11 a12 a13 a14) (ck_pr a4 a6) 16 a7 (fun n => pk_le 16 16 (fun _ => ck_t152 hw hx hy (H _ rfl)) (fun z => absurd z (by omega))) ?_
  intro n i t hi h
  refine pk_le 16 i (fun z => absurd z (by omega)) (fun _ => ?_)
  rw [nI_clamp (by omega)]
  exact ⟨vp_in_nI (by omega) (by omega), vp_in_nI (by omega) (by omega), vp_in_nI (by omega) (by omega), nm_e (nm_r (nI_1 i) h)⟩
theorem ck_t92 {w x y : Nat} (hw : w ≤ 8) (hx : x < 8) (hy : y < 8) (H : ∀ z4, z4 = ck_it ck_sfc 4 a4 → ∀ z7, z7 = ck_it ck_pq 4 (ck_it (ck_pr z4 a6) 16 a7) → posu (f1, f2, f3, nI w, a1, a2, ck_it (ck_ta1 w x y z7) 2 a3, z4, a5, a6, z7, a8, a9, a10, a11, a12, a13, a14)) : ∃ n, wX_addTile_92 posu (nI x) (nI y) n 0 f1 f2 f3 (nI w) a1 a2 a3 a4 a5 a6 a7 a8 a9 a10 a11 a12 a13 a14 := by
  refine ck_loopF (fun n i t => wX_addTile_92 posu (nI x) (nI y) n (nI i) f1 f2 f3 (nI w) a1 a2 a3 t a5 a6 a7 a8 a9 a10 a11 a12 a13 a14) ck_sfc 4 a4 (fun n => pk_le 4 4 (fun _ => ck_t114 hw hx hy (H _ rfl)) (fun z => absurd z (by omega))) ?_
  intro n i t hi h
  exact pk_le 4 i (fun z => absurd z (by omega)) (fun _ => ck_sfw (st := 4) (by omega) (nm_r (nI_1 i) h))
theorem ck_t68 {w x y : Nat} (hw : w ≤ 8) (hx : x < 8) (hy : y < 8) (H : ∀ z4, z4 = ck_it ck_sfc 4 (ck_it ck_sfr 4 a4) → ∀ z7, z7 = ck_it ck_pq 4 (ck_it (ck_pr z4 a6) 16 a7) → posu (f1, f2, f3, nI w, a1, a2, ck_it (ck_ta1 w x y z7) 2 a3, z4, a5, a6, z7, a8, a9, a10, a11, a12, a13, a14)) : ∃ n, wX_addTile_68 posu (nI x) (nI y) n 0 f1 f2 f3 (nI w) a1 a2 a3 a4 a5 a6 a7 a8 a9 a10 a11 a12 a13 a14 := by
  refine ck_loopF (fun n i t => wX_addTile_68 posu (nI x) (nI y) n (nI i) f1 f2 f3 (nI w) a1 a2 a3 t a5 a6 a7 a8 a9 a10 a11 a12 a13 a14) ck_sfr 4 a4 (fun n => pk_le 4 4 (fun _ => ck_t92 hw hx hy H) (fun z => absurd z (by omega))) ?_
  intro n i t hi h
  refine pk_le 4 i (fun z => absurd z (by omega)) (fun _ => ?_)
  rw [ck_m4]
  exact ck_sfw (st := 1) (by omega) (nm_r (nI_1 i) h)
theorem ck_t12 {J : Int32 → (Nat → Int32) → (Nat → Int32) → (Nat → Int32) → (Nat → Int32) → (Nat → Int32) → (Nat → Int32) → (Nat → Int32) → (Nat → Int32) → (Nat → Int32) → (Nat → Int32) → (Nat → Int32) → (Nat → Int32) → (Nat → Int32) → (Nat → Int32) → Prop} {c m x y j : Nat} (hc : c < 2) (hm : m ≤ 1) (hx : x < 8) (hy : y < 8) (hj : j < 4) (H : J (nI (j + 1)) a1 a2 a3 (ck_pc2 a1 c m x y j a4) a5 a6 a7 a8 a9 a10 a11 a12 a13 a14) : ∃ n, wX_addTile_12 posu J (nI c) (nI x) (nI y) (nI j) f1 (nI m) f3 f4 n 0 a1 a2 a3 a4 a5 a6 a7 a8 a9 a10 a11 a12 a13 a14 := by
  refine ck_loopF (fun n i t => wX_addTile_12 posu J (nI c) (nI x) (nI y) (nI j) f1 (nI m) f3 f4 n (nI i) a1 a2 a3 t a5 a6 a7 a8 a9 a10 a11 a12 a13 a14) (ck_pc1 a1 c m x y j) 4 a4 (fun n => pk_le 4 4 (fun _ => nm_r (nI_1 j) H) (fun z => absurd z (by omega))) ?_
  intro n i t hi h
  refine pk_le 4 i (fun z => absurd z (by omega)) (fun _ => ?_)
  rw [ck_m4, nI_add, nI_add, nI_add, nI_clamp (by omega)]
  exact ck_atw hc hm (by omega) (by omega) ⟨vp_in_nI (by omega) (by omega), nm_e (nm_r (nI_1 i) h)⟩
theorem ck_addTile0 {c m w x y : Nat} (hc : c < 2) (hm : m ≤ 1) (hw : w ≤ 8) (hx : x < 8) (hy : y < 8) (H : ∀ z4, z4 = ck_it ck_sfc 4 (ck_it ck_sfr 4 (ck_it (ck_pc2 a1 c m x y) 4 a4)) → ∀ z7, z7 = ck_it ck_pq 4 (ck_it (ck_pr z4 a6) 16 a7) → posu (f1, nI m, f3, nI w, a1, a2, ck_it (ck_ta1 w x y z7) 2 a3, z4, a5, a6, z7, a8, a9, a10, a11, a12, a13, a14)) : wpX_addTile posu (f1, nI m, f3, nI w, a1, a2, a3, a4, a5, a6, a7, a8, a9, a10, a11, a12, a13, a14) (nI c) (nI x) (nI y) :=
  ck_loopF (fun n i t => wX_addTile_3 posu (nI c) (nI x) (nI y) f1 (nI m) f3 (nI w) n (nI i) a1 a2 a3 t a5 a6 a7 a8 a9 a10 a11 a12 a13 a14) (ck_pc2 a1 c m x y) 4 a4 (fun n => pk_le 4 4 (fun _ => ck_t68 hw hx hy H) (fun z => absurd z (by omega)))
    (fun n i t hi h => pk_le 4 i (fun z => absurd z (by omega)) (fun _ => ck_t12 hc hm hx hy hi h))
end
end
section
/-! the tiles, at the numbers -/
def ck_F (p h z6 z7 : Nat → Int32) : Nat → Int32 := ck_it ck_pq 4 (ck_it (ck_pr (ck_it ck_sfc 4 p) (ck_sh h z6)) 16 z7)
theorem ck_F0 (p h z6 z7 : Nat → Int32) : ck_F p h z6 z7 0 = 2 * (p 0 * h 0 + p 4 * h 4 + p 8 * h 8) :=
  ck_wg1 (p 0) (p 4) (p 8) (h 0) (h 4) (h 8)
theorem ck_F1 (p h z6 z7 : Nat → Int32) : ck_F p h z6 z7 1 = 2 * (p 1 * h 1 + p 5 * h 5 + p 9 * h 9) :=
  ck_wg1 (p 1) (p 5) (p 9) (h 1) (h 5) (h 9)
theorem ck_F2 (p h z6 z7 : Nat → Int32) : ck_F p h z6 z7 2 = 2 * (p 2 * h 2 + p 6 * h 6 + p 10 * h 10) :=
  ck_wg1 (p 2) (p 6) (p 10) (h 2) (h 6) (h 10)
theorem ck_F3 (p h z6 z7 : Nat → Int32) : ck_F p h z6 z7 3 = 2 * (p 3 * h 3 + p 7 * h 7 + p 11 * h 11) :=
  ck_wg1 (p 3) (p 7) (p 11) (h 3) (h 7) (h 11)
theorem ck_F4 (p h z6 z7 : Nat → Int32) : ck_F p h z6 z7 4 = 2 * (p 4 * h 0 + p 8 * h 4 + p 12 * h 8) :=
  ck_wg2 (p 4) (p 8) (p 12) (h 0) (h 4) (h 8)
theorem ck_F5 (p h z6 z7 : Nat → Int32) : ck_F p h z6 z7 5 = 2 * (p 5 * h 1 + p 9 * h 5 + p 13 * h 9) :=
  ck_wg2 (p 5) (p 9) (p 13) (h 1) (h 5) (h 9)
theorem ck_F6 (p h z6 z7 : Nat → Int32) : ck_F p h z6 z7 6 = 2 * (p 6 * h 2 + p 10 * h 6 + p 14 * h 10) :=
  ck_wg2 (p 6) (p 10) (p 14) (h 2) (h 6) (h 10)
theorem ck_F7 (p h z6 z7 : Nat → Int32) : ck_F p h z6 z7 7 = 2 * (p 7 * h 3 + p 11 * h 7 + p 15 * h 11) :=
  ck_wg2 (p 7) (p 11) (p 15) (h 3) (h 7) (h 11)
theorem ck_lin1 (A0 A1 A2 A3 A4 A5 A6 A7 A8 : Int32) : (2 * (A0 + A3 + A6) + 2 * (A1 + A4 + A7)) + 2 * (A2 + A5 + A8) = 2 * ((A0 + A1 + A2) + (A3 + A4 + A5) + (A6 + A7 + A8)) := by grind
theorem ck_lin2 (A1 A2 A3 A4 A5 A6 A7 A8 A9 : Int32) : (2 * (A1 + A4 + A7) - 2 * (A2 + A5 + A8)) - 2 * (A3 + A6 + A9) = 2 * ((A1 - A2 - A3) + (A4 - A5 - A6) + (A7 - A8 - A9)) := by grind
theorem ck_lin3 (d0 d1 d2 d3 d4 d5 d6 d7 d8 k0 k1 k2 k3 k4 k5 k6 k7 k8 : Int32) : 2 * (2 * (d0 * k0 + d1 * k1 + d2 * k2) + 2 * (d3 * k3 + d4 * k4 + d5 * k5) + 2 * (d6 * k6 + d7 * k7 + d8 * k8)) = 4 * (k0 * d0 + k1 * d1 + k2 * d2 + k3 * d3 + k4 * d4 + k5 * d5 + k6 * d6 + k7 * d7 + k8 * d8) := by grind
theorem ck_cc_e (P K : Nat → Int32) (m X Y c : Nat) : ck_cc P K 1 m X Y c = K (9 * c + 0) * ck_at P c m (X + 0) (Y + 0) + K (9 * c + 1) * ck_at P c m (X + 1) (Y + 0) + K (9 * c + 2) * ck_at P c m (X + 2) (Y + 0) + K (9 * c + 3) * ck_at P c m (X + 0) (Y + 1) + K (9 * c + 4) * ck_at P c m (X + 1) (Y + 1) + K (9 * c + 5) * ck_at P c m (X + 2) (Y + 1) + K (9 * c + 6) * ck_at P c m (X + 0) (Y + 2) + K (9 * c + 7) * ck_at P c m (X + 1) (Y + 2) + K (9 * c + 8) * ck_at P c m (X + 2) (Y + 2) := by
  have e : ck_cc P K 1 m X Y c = 0 + K (9 * c + 0) * ck_at P c m (1 * X + 0) (1 * Y + 0) + K (9 * c + 1) * ck_at P c m (1 * X + 1) (1 * Y + 0) + K (9 * c + 2) * ck_at P c m (1 * X + 2) (1 * Y + 0) + K (9 * c + 3) * ck_at P c m (1 * X + 0) (1 * Y + 1) + K (9 * c + 4) * ck_at P c m (1 * X + 1) (1 * Y + 1) + K (9 * c + 5) * ck_at P c m (1 * X + 2) (1 * Y + 1) + K (9 * c + 6) * ck_at P c m (1 * X + 0) (1 * Y + 2) + K (9 * c + 7) * ck_at P c m (1 * X + 1) (1 * Y + 2) + K (9 * c + 8) * ck_at P c m (1 * X + 2) (1 * Y + 2) := rfl
  rw [e, Nat.one_mul, Nat.one_mul, Int32.zero_add]
def ck_pp (P : Nat → Int32) (c m x y : Nat) (z4 : Nat → Int32) : Nat → Int32 := ck_it ck_sfr 4 (ck_it (ck_pc2 P c m x y) 4 z4)
theorem ck_ra00 (P K : Nat → Int32) (c m x y : Nat) (z4 z5 : Nat → Int32) : ck_pp P c m x y z4 0 * ck_hf K c z5 0 + ck_pp P c m x y z4 1 * ck_hf K c z5 1 + ck_pp P c m x y z4 2 * ck_hf K c z5 2 = 2 * (ck_at P c m (x + 0) (y + 0) * K (9 * c + 0) + ck_at P c m (x + 1) (y + 0) * K (9 * c + 1) + ck_at P c m (x + 2) (y + 0) * K (9 * c + 2)) :=
  ck_wg1 (ck_at P c m (x + 0) (y + 0)) (ck_at P c m (x + 1) (y + 0)) (ck_at P c m (x + 2) (y + 0)) (K (9 * c + 0)) (K (9 * c + 1)) (K (9 * c + 2))
theorem ck_rb00 (P K : Nat → Int32) (c m x y : Nat) (z4 z5 : Nat → Int32) : ck_pp P c m x y z4 1 * ck_hf K c z5 1 - ck_pp P c m x y z4 2 * ck_hf K c z5 2 - ck_pp P c m x y z4 3 * ck_hf K c z5 3 = 2 * (ck_at P c m (x + 1) (y + 0) * K (9 * c + 0) + ck_at P c m (x + 2) (y + 0) * K (9 * c + 1) + ck_at P c m (x + 3) (y + 0) * K (9 * c + 2)) :=
  ck_wg2 (ck_at P c m (x + 1) (y + 0)) (ck_at P c m (x + 2) (y + 0)) (ck_at P c m (x + 3) (y + 0)) (K (9 * c + 0)) (K (9 * c + 1)) (K (9 * c + 2))
theorem ck_ra01 (P K : Nat → Int32) (c m x y : Nat) (z4 z5 : Nat → Int32) : ck_pp P c m x y z4 0 * ck_hf K c z5 4 + ck_pp P c m x y z4 1 * ck_hf K c z5 5 + ck_pp P c m x y z4 2 * ck_hf K c z5 6 = 2 * (ck_at P c m (x + 0) (y + 0) * K (9 * c + 3) + ck_at P c m (x + 1) (y + 0) * K (9 * c + 4) + ck_at P c m (x + 2) (y + 0) * K (9 * c + 5)) :=
  ck_wg1 (ck_at P c m (x + 0) (y + 0)) (ck_at P c m (x + 1) (y + 0)) (ck_at P c m (x + 2) (y + 0)) (K (9 * c + 3)) (K (9 * c + 4)) (K (9 * c + 5))
theorem ck_rb01 (P K : Nat → Int32) (c m x y : Nat) (z4 z5 : Nat → Int32) : ck_pp P c m x y z4 1 * ck_hf K c z5 5 - ck_pp P c m x y z4 2 * ck_hf K c z5 6 - ck_pp P c m x y z4 3 * ck_hf K c z5 7 = 2 * (ck_at P c m (x + 1) (y + 0) * K (9 * c + 3) + ck_at P c m (x + 2) (y + 0) * K (9 * c + 4) + ck_at P c m (x + 3) (y + 0) * K (9 * c + 5)) :=
  ck_wg2 (ck_at P c m (x + 1) (y + 0)) (ck_at P c m (x + 2) (y + 0)) (ck_at P c m (x + 3) (y + 0)) (K (9 * c + 3)) (K (9 * c + 4)) (K (9 * c + 5))
theorem ck_ra02 (P K : Nat → Int32) (c m x y : Nat) (z4 z5 : Nat → Int32) : ck_pp P c m x y z4 0 * ck_hf K c z5 8 + ck_pp P c m x y z4 1 * ck_hf K c z5 9 + ck_pp P c m x y z4 2 * ck_hf K c z5 10 = 2 * (ck_at P c m (x + 0) (y + 0) * K (9 * c + 6) + ck_at P c m (x + 1) (y + 0) * K (9 * c + 7) + ck_at P c m (x + 2) (y + 0) * K (9 * c + 8)) :=
  ck_wg1 (ck_at P c m (x + 0) (y + 0)) (ck_at P c m (x + 1) (y + 0)) (ck_at P c m (x + 2) (y + 0)) (K (9 * c + 6)) (K (9 * c + 7)) (K (9 * c + 8))
theorem ck_rb02 (P K : Nat → Int32) (c m x y : Nat) (z4 z5 : Nat → Int32) : ck_pp P c m x y z4 1 * ck_hf K c z5 9 - ck_pp P c m x y z4 2 * ck_hf K c z5 10 - ck_pp P c m x y z4 3 * ck_hf K c z5 11 = 2 * (ck_at P c m (x + 1) (y + 0) * K (9 * c + 6) + ck_at P c m (x + 2) (y + 0) * K (9 * c + 7) + ck_at P c m (x + 3) (y + 0) * K (9 * c + 8)) :=
  ck_wg2 (ck_at P c m (x + 1) (y + 0)) (ck_at P c m (x + 2) (y + 0)) (ck_at P c m (x + 3) (y + 0)) (K (9 * c + 6)) (K (9 * c + 7)) (K (9 * c + 8))
theorem ck_ra10 (P K : Nat → Int32) (c m x y : Nat) (z4 z5 : Nat → Int32) : ck_pp P c m x y z4 4 * ck_hf K c z5 0 + ck_pp P c m x y z4 5 * ck_hf K c z5 1 + ck_pp P c m x y z4 6 * ck_hf K c z5 2 = 2 * (ck_at P c m (x + 0) (y + 1) * K (9 * c + 0) + ck_at P c m (x + 1) (y + 1) * K (9 * c + 1) + ck_at P c m (x + 2) (y + 1) * K (9 * c + 2)) :=
  ck_wg1 (ck_at P c m (x + 0) (y + 1)) (ck_at P c m (x + 1) (y + 1)) (ck_at P c m (x + 2) (y + 1)) (K (9 * c + 0)) (K (9 * c + 1)) (K (9 * c + 2))
theorem ck_rb10 (P K : Nat → Int32) (c m x y : Nat) (z4 z5 : Nat → Int32) : ck_pp P c m x y z4 5 * ck_hf K c z5 1 - ck_pp P c m x y z4 6 * ck_hf K c z5 2 - ck_pp P c m x y z4 7 * ck_hf K c z5 3 = 2 * (ck_at P c m (x + 1) (y + 1) * K (9 * c + 0) + ck_at P c m (x + 2) (y + 1) * K (9 * c + 1) + ck_at P c m (x + 3) (y + 1) * K (9 * c + 2)) :=
  ck_wg2 (ck_at P c m (x + 1) (y + 1)) (ck_at P c m (x + 2) (y + 1)) (ck_at P c m (x + 3) (y + 1)) (K (9 * c + 0)) (K (9 * c + 1)) (K (9 * c + 2))
theorem ck_ra11 (P K : Nat → Int32) (c m x y : Nat) (z4 z5 : Nat → Int32) : ck_pp P c m x y z4 4 * ck_hf K c z5 4 + ck_pp P c m x y z4 5 * ck_hf K c z5 5 + ck_pp P c m x y z4 6 * ck_hf K c z5 6 = 2 * (ck_at P c m (x + 0) (y + 1) * K (9 * c + 3) + ck_at P c m (x + 1) (y + 1) * K (9 * c + 4) + ck_at P c m (x + 2) (y + 1) * K (9 * c + 5)) :=
  ck_wg1 (ck_at P c m (x + 0) (y + 1)) (ck_at P c m (x + 1) (y + 1)) (ck_at P c m (x + 2) (y + 1)) (K (9 * c + 3)) (K (9 * c + 4)) (K (9 * c + 5))
theorem ck_rb11 (P K : Nat → Int32) (c m x y : Nat) (z4 z5 : Nat → Int32) : ck_pp P c m x y z4 5 * ck_hf K c z5 5 - ck_pp P c m x y z4 6 * ck_hf K c z5 6 - ck_pp P c m x y z4 7 * ck_hf K c z5 7 = 2 * (ck_at P c m (x + 1) (y + 1) * K (9 * c + 3) + ck_at P c m (x + 2) (y + 1) * K (9 * c + 4) + ck_at P c m (x + 3) (y + 1) * K (9 * c + 5)) :=
  ck_wg2 (ck_at P c m (x + 1) (y + 1)) (ck_at P c m (x + 2) (y + 1)) (ck_at P c m (x + 3) (y + 1)) (K (9 * c + 3)) (K (9 * c + 4)) (K (9 * c + 5))
theorem ck_ra12 (P K : Nat → Int32) (c m x y : Nat) (z4 z5 : Nat → Int32) : ck_pp P c m x y z4 4 * ck_hf K c z5 8 + ck_pp P c m x y z4 5 * ck_hf K c z5 9 + ck_pp P c m x y z4 6 * ck_hf K c z5 10 = 2 * (ck_at P c m (x + 0) (y + 1) * K (9 * c + 6) + ck_at P c m (x + 1) (y + 1) * K (9 * c + 7) + ck_at P c m (x + 2) (y + 1) * K (9 * c + 8)) :=
  ck_wg1 (ck_at P c m (x + 0) (y + 1)) (ck_at P c m (x + 1) (y + 1)) (ck_at P c m (x + 2) (y + 1)) (K (9 * c + 6)) (K (9 * c + 7)) (K (9 * c + 8))
theorem ck_rb12 (P K : Nat → Int32) (c m x y : Nat) (z4 z5 : Nat → Int32) : ck_pp P c m x y z4 5 * ck_hf K c z5 9 - ck_pp P c m x y z4 6 * ck_hf K c z5 10 - ck_pp P c m x y z4 7 * ck_hf K c z5 11 = 2 * (ck_at P c m (x + 1) (y + 1) * K (9 * c + 6) + ck_at P c m (x + 2) (y + 1) * K (9 * c + 7) + ck_at P c m (x + 3) (y + 1) * K (9 * c + 8)) :=
  ck_wg2 (ck_at P c m (x + 1) (y + 1)) (ck_at P c m (x + 2) (y + 1)) (ck_at P c m (x + 3) (y + 1)) (K (9 * c + 6)) (K (9 * c + 7)) (K (9 * c + 8))
theorem ck_ra20 (P K : Nat → Int32) (c m x y : Nat) (z4 z5 : Nat → Int32) : ck_pp P c m x y z4 8 * ck_hf K c z5 0 + ck_pp P c m x y z4 9 * ck_hf K c z5 1 + ck_pp P c m x y z4 10 * ck_hf K c z5 2 = 2 * (ck_at P c m (x + 0) (y + 2) * K (9 * c + 0) + ck_at P c m (x + 1) (y + 2) * K (9 * c + 1) + ck_at P c m (x + 2) (y + 2) * K (9 * c + 2)) :=
  ck_wg1 (ck_at P c m (x + 0) (y + 2)) (ck_at P c m (x + 1) (y + 2)) (ck_at P c m (x + 2) (y + 2)) (K (9 * c + 0)) (K (9 * c + 1)) (K (9 * c + 2))
theorem ck_rb20 (P K : Nat → Int32) (c m x y : Nat) (z4 z5 : Nat → Int32) : ck_pp P c m x y z4 9 * ck_hf K c z5 1 - ck_pp P c m x y z4 10 * ck_hf K c z5 2 - ck_pp P c m x y z4 11 * ck_hf K c z5 3 = 2 * (ck_at P c m (x + 1) (y + 2) * K (9 * c + 0) + ck_at P c m (x + 2) (y + 2) * K (9 * c + 1) + ck_at P c m (x + 3) (y + 2) * K (9 * c + 2)) :=
  ck_wg2 (ck_at P c m (x + 1) (y + 2)) (ck_at P c m (x + 2) (y + 2)) (ck_at P c m (x + 3) (y + 2)) (K (9 * c + 0)) (K (9 * c + 1)) (K (9 * c + 2))
theorem ck_ra21 (P K : Nat → Int32) (c m x y : Nat) (z4 z5 : Nat → Int32) : ck_pp P c m x y z4 8 * ck_hf K c z5 4 + ck_pp P c m x y z4 9 * ck_hf K c z5 5 + ck_pp P c m x y z4 10 * ck_hf K c z5 6 = 2 * (ck_at P c m (x + 0) (y + 2) * K (9 * c + 3) + ck_at P c m (x + 1) (y + 2) * K (9 * c + 4) + ck_at P c m (x + 2) (y + 2) * K (9 * c + 5)) :=
  ck_wg1 (ck_at P c m (x + 0) (y + 2)) (ck_at P c m (x + 1) (y + 2)) (ck_at P c m (x + 2) (y + 2)) (K (9 * c + 3)) (K (9 * c + 4)) (K (9 * c + 5))
theorem ck_rb21 (P K : Nat → Int32) (c m x y : Nat) (z4 z5 : Nat → Int32) : ck_pp P c m x y z4 9 * ck_hf K c z5 5 - ck_pp P c m x y z4 10 * ck_hf K c z5 6 - ck_pp P c m x y z4 11 * ck_hf K c z5 7 = 2 * (ck_at P c m (x + 1) (y + 2) * K (9 * c + 3) + ck_at P c m (x + 2) (y + 2) * K (9 * c + 4) + ck_at P c m (x + 3) (y + 2) * K (9 * c + 5)) :=
  ck_wg2 (ck_at P c m (x + 1) (y + 2)) (ck_at P c m (x + 2) (y + 2)) (ck_at P c m (x + 3) (y + 2)) (K (9 * c + 3)) (K (9 * c + 4)) (K (9 * c + 5))
theorem ck_ra22 (P K : Nat → Int32) (c m x y : Nat) (z4 z5 : Nat → Int32) : ck_pp P c m x y z4 8 * ck_hf K c z5 8 + ck_pp P c m x y z4 9 * ck_hf K c z5 9 + ck_pp P c m x y z4 10 * ck_hf K c z5 10 = 2 * (ck_at P c m (x + 0) (y + 2) * K (9 * c + 6) + ck_at P c m (x + 1) (y + 2) * K (9 * c + 7) + ck_at P c m (x + 2) (y + 2) * K (9 * c + 8)) :=
  ck_wg1 (ck_at P c m (x + 0) (y + 2)) (ck_at P c m (x + 1) (y + 2)) (ck_at P c m (x + 2) (y + 2)) (K (9 * c + 6)) (K (9 * c + 7)) (K (9 * c + 8))
theorem ck_rb22 (P K : Nat → Int32) (c m x y : Nat) (z4 z5 : Nat → Int32) : ck_pp P c m x y z4 9 * ck_hf K c z5 9 - ck_pp P c m x y z4 10 * ck_hf K c z5 10 - ck_pp P c m x y z4 11 * ck_hf K c z5 11 = 2 * (ck_at P c m (x + 1) (y + 2) * K (9 * c + 6) + ck_at P c m (x + 2) (y + 2) * K (9 * c + 7) + ck_at P c m (x + 3) (y + 2) * K (9 * c + 8)) :=
  ck_wg2 (ck_at P c m (x + 1) (y + 2)) (ck_at P c m (x + 2) (y + 2)) (ck_at P c m (x + 3) (y + 2)) (K (9 * c + 6)) (K (9 * c + 7)) (K (9 * c + 8))
theorem ck_ra30 (P K : Nat → Int32) (c m x y : Nat) (z4 z5 : Nat → Int32) : ck_pp P c m x y z4 12 * ck_hf K c z5 0 + ck_pp P c m x y z4 13 * ck_hf K c z5 1 + ck_pp P c m x y z4 14 * ck_hf K c z5 2 = 2 * (ck_at P c m (x + 0) (y + 3) * K (9 * c + 0) + ck_at P c m (x + 1) (y + 3) * K (9 * c + 1) + ck_at P c m (x + 2) (y + 3) * K (9 * c + 2)) :=
  ck_wg1 (ck_at P c m (x + 0) (y + 3)) (ck_at P c m (x + 1) (y + 3)) (ck_at P c m (x + 2) (y + 3)) (K (9 * c + 0)) (K (9 * c + 1)) (K (9 * c + 2))
theorem ck_rb30 (P K : Nat → Int32) (c m x y : Nat) (z4 z5 : Nat → Int32) : ck_pp P c m x y z4 13 * ck_hf K c z5 1 - ck_pp P c m x y z4 14 * ck_hf K c z5 2 - ck_pp P c m x y z4 15 * ck_hf K c z5 3 = 2 * (ck_at P c m (x + 1) (y + 3) * K (9 * c + 0) + ck_at P c m (x + 2) (y + 3) * K (9 * c + 1) + ck_at P c m (x + 3) (y + 3) * K (9 * c + 2)) :=
  ck_wg2 (ck_at P c m (x + 1) (y + 3)) (ck_at P c m (x + 2) (y + 3)) (ck_at P c m (x + 3) (y + 3)) (K (9 * c + 0)) (K (9 * c + 1)) (K (9 * c + 2))
theorem ck_ra31 (P K : Nat → Int32) (c m x y : Nat) (z4 z5 : Nat → Int32) : ck_pp P c m x y z4 12 * ck_hf K c z5 4 + ck_pp P c m x y z4 13 * ck_hf K c z5 5 + ck_pp P c m x y z4 14 * ck_hf K c z5 6 = 2 * (ck_at P c m (x + 0) (y + 3) * K (9 * c + 3) + ck_at P c m (x + 1) (y + 3) * K (9 * c + 4) + ck_at P c m (x + 2) (y + 3) * K (9 * c + 5)) :=
  ck_wg1 (ck_at P c m (x + 0) (y + 3)) (ck_at P c m (x + 1) (y + 3)) (ck_at P c m (x + 2) (y + 3)) (K (9 * c + 3)) (K (9 * c + 4)) (K (9 * c + 5))
theorem ck_rb31 (P K : Nat → Int32) (c m x y : Nat) (z4 z5 : Nat → Int32) : ck_pp P c m x y z4 13 * ck_hf K c z5 5 - ck_pp P c m x y z4 14 * ck_hf K c z5 6 - ck_pp P c m x y z4 15 * ck_hf K c z5 7 = 2 * (ck_at P c m (x + 1) (y + 3) * K (9 * c + 3) + ck_at P c m (x + 2) (y + 3) * K (9 * c + 4) + ck_at P c m (x + 3) (y + 3) * K (9 * c + 5)) :=
  ck_wg2 (ck_at P c m (x + 1) (y + 3)) (ck_at P c m (x + 2) (y + 3)) (ck_at P c m (x + 3) (y + 3)) (K (9 * c + 3)) (K (9 * c + 4)) (K (9 * c + 5))
theorem ck_ra32 (P K : Nat → Int32) (c m x y : Nat) (z4 z5 : Nat → Int32) : ck_pp P c m x y z4 12 * ck_hf K c z5 8 + ck_pp P c m x y z4 13 * ck_hf K c z5 9 + ck_pp P c m x y z4 14 * ck_hf K c z5 10 = 2 * (ck_at P c m (x + 0) (y + 3) * K (9 * c + 6) + ck_at P c m (x + 1) (y + 3) * K (9 * c + 7) + ck_at P c m (x + 2) (y + 3) * K (9 * c + 8)) :=
  ck_wg1 (ck_at P c m (x + 0) (y + 3)) (ck_at P c m (x + 1) (y + 3)) (ck_at P c m (x + 2) (y + 3)) (K (9 * c + 6)) (K (9 * c + 7)) (K (9 * c + 8))
theorem ck_rb32 (P K : Nat → Int32) (c m x y : Nat) (z4 z5 : Nat → Int32) : ck_pp P c m x y z4 13 * ck_hf K c z5 9 - ck_pp P c m x y z4 14 * ck_hf K c z5 10 - ck_pp P c m x y z4 15 * ck_hf K c z5 11 = 2 * (ck_at P c m (x + 1) (y + 3) * K (9 * c + 6) + ck_at P c m (x + 2) (y + 3) * K (9 * c + 7) + ck_at P c m (x + 3) (y + 3) * K (9 * c + 8)) :=
  ck_wg2 (ck_at P c m (x + 1) (y + 3)) (ck_at P c m (x + 2) (y + 3)) (ck_at P c m (x + 3) (y + 3)) (K (9 * c + 6)) (K (9 * c + 7)) (K (9 * c + 8))
def ck_FF (P K : Nat → Int32) (c m x y : Nat) (z4 z5 z6 z7 : Nat → Int32) : Nat → Int32 := ck_F (ck_pp P c m x y z4) (ck_hf K c z5) z6 z7
theorem ck_out0a (P K : Nat → Int32) (c m x y : Nat) (z4 z5 z6 z7 : Nat → Int32) : (ck_FF P K c m x y z4 z5 z6 z7 0 + ck_FF P K c m x y z4 z5 z6 z7 1) + ck_FF P K c m x y z4 z5 z6 z7 2 = 4 * ck_cc P K 1 m x (y + 0) c := by
  unfold ck_FF
  rw [ck_F0, ck_F1, ck_F2, ck_lin1, ck_ra00, ck_ra11, ck_ra22, ck_lin3, ck_cc_e]
theorem ck_out0b (P K : Nat → Int32) (c m x y : Nat) (z4 z5 z6 z7 : Nat → Int32) : (ck_FF P K c m x y z4 z5 z6 z7 1 - ck_FF P K c m x y z4 z5 z6 z7 2) - ck_FF P K c m x y z4 z5 z6 z7 3 = 4 * ck_cc P K 1 m (x + 1) (y + 0) c := by
  unfold ck_FF
  rw [ck_F1, ck_F2, ck_F3, ck_lin2, ck_rb00, ck_rb11, ck_rb22, ck_lin3, ck_cc_e]
theorem ck_out1a (P K : Nat → Int32) (c m x y : Nat) (z4 z5 z6 z7 : Nat → Int32) : (ck_FF P K c m x y z4 z5 z6 z7 4 + ck_FF P K c m x y z4 z5 z6 z7 5) + ck_FF P K c m x y z4 z5 z6 z7 6 = 4 * ck_cc P K 1 m x (y + 1) c := by
  unfold ck_FF
  rw [ck_F4, ck_F5, ck_F6, ck_lin1, ck_ra10, ck_ra21, ck_ra32, ck_lin3, ck_cc_e]
theorem ck_out1b (P K : Nat → Int32) (c m x y : Nat) (z4 z5 z6 z7 : Nat → Int32) : (ck_FF P K c m x y z4 z5 z6 z7 5 - ck_FF P K c m x y z4 z5 z6 z7 6) - ck_FF P K c m x y z4 z5 z6 z7 7 = 4 * ck_cc P K 1 m (x + 1) (y + 1) c := by
  unfold ck_FF
  rw [ck_F5, ck_F6, ck_F7, ck_lin2, ck_rb10, ck_rb21, ck_rb32, ck_lin3, ck_cc_e]
end
section
/-- one tile's four results added -/
def ck_tn (P K : Nat → Int32) (m c y x : Nat) (t : Nat → Int32) : Nat → Int32 := fun j => if x ≤ j % 8 ∧ j % 8 < x + 2 ∧ y ≤ j / 8 ∧ j / 8 < y + 2 then t j + ck_cc P K 1 m (j % 8) (j / 8) c else t j
theorem ck_adv_t {w x y : Nat} (hx : x < w) (hy : y < w) (v : Int32) (t : Nat → Int32) : ck_adv w x y v t = upd t (8 * y + x) (t (8 * y + x) + v) := if_pos ⟨hx, hy⟩
theorem ck_upd4 (t : Nat → Int32) (q0 q1 q2 q3 : Nat) (v0 v1 v2 v3 : Int32) (g : Nat → Int32) (h01 : q0 ≠ q1) (h02 : q0 ≠ q2) (h03 : q0 ≠ q3) (h12 : q1 ≠ q2) (h13 : q1 ≠ q3) (h23 : q2 ≠ q3)
    (e0 : g q0 = t q0 + v0) (e1 : g q1 = t q1 + v1) (e2 : g q2 = t q2 + v2) (e3 : g q3 = t q3 + v3) (ho : ∀ j, j ≠ q0 → j ≠ q1 → j ≠ q2 → j ≠ q3 → g j = t j) :
    upd (upd (upd (upd t q0 (t q0 + v0)) q1 (upd t q0 (t q0 + v0) q1 + v1)) q2 (upd (upd t q0 (t q0 + v0)) q1 (upd t q0 (t q0 + v0) q1 + v1) q2 + v2)) q3 (upd (upd (upd t q0 (t q0 + v0)) q1 (upd t q0 (t q0 + v0) q1 + v1)) q2 (upd (upd t q0 (t q0 + v0)) q1 (upd t q0 (t q0 + v0) q1 + v1) q2 + v2) q3 + v3) = g := by
  funext j
  by_cases j3 : j = q3
  · subst j3
    rw [pk_us, pk_un (Ne.symm h23), pk_un (Ne.symm h13), pk_un (Ne.symm h03), e3]
  · rw [pk_un j3]
    by_cases j2 : j = q2
    · subst j2
      rw [pk_us, pk_un (Ne.symm h12), pk_un (Ne.symm h02), e2]
    · rw [pk_un j2]
      by_cases j1 : j = q1
      · subst j1
        rw [pk_us, pk_un (Ne.symm h01), e1]
      · rw [pk_un j1]
        by_cases j0 : j = q0
        · subst j0
          rw [pk_us, e0]
        · rw [pk_un j0, ho j j0 j1 j2 j3]
theorem ck_tn_v {P K : Nat → Int32} (hP : ck_PB P) (hK : ck_KB K) {m c w x y : Nat} (hc : c < 2) (hw : w ≤ 8) (hx : x + 2 ≤ w) (hy : y + 2 ≤ w) (t z4 z5 z6 z7 : Nat → Int32) :
    ck_it (ck_ta1 w x y (ck_FF P K c m x y z4 z5 z6 z7)) 2 t = ck_tn P K m c y x t := by
  have d : ∀ X Y, (4 * ck_cc P K 1 m X Y c) / 4 = ck_cc P K 1 m X Y c := fun X Y => by
    have b := ck_cc_b hP hK 1 m X Y hc
    exact ck_div4 (by omega) (by omega)
  have f0 : ∀ u, ck_ta1 w x y (ck_FF P K c m x y z4 z5 z6 z7) 0 u = ck_adv w (x + 1) (y + 0) (ck_cc P K 1 m (x + 1) (y + 0) c) (ck_adv w x (y + 0) (ck_cc P K 1 m x (y + 0) c) u) := fun u => by
    show ck_adv w (x + 1) (y + 0) (((ck_FF P K c m x y z4 z5 z6 z7 1 - ck_FF P K c m x y z4 z5 z6 z7 2) - ck_FF P K c m x y z4 z5 z6 z7 3) / 4) (ck_adv w x (y + 0) (((ck_FF P K c m x y z4 z5 z6 z7 0 + ck_FF P K c m x y z4 z5 z6 z7 1) + ck_FF P K c m x y z4 z5 z6 z7 2) / 4) u) = _
    rw [ck_out0a, ck_out0b, d, d]
  have f1 : ∀ u, ck_ta1 w x y (ck_FF P K c m x y z4 z5 z6 z7) 1 u = ck_adv w (x + 1) (y + 1) (ck_cc P K 1 m (x + 1) (y + 1) c) (ck_adv w x (y + 1) (ck_cc P K 1 m x (y + 1) c) u) := fun u => by
    show ck_adv w (x + 1) (y + 1) (((ck_FF P K c m x y z4 z5 z6 z7 5 - ck_FF P K c m x y z4 z5 z6 z7 6) - ck_FF P K c m x y z4 z5 z6 z7 7) / 4) (ck_adv w x (y + 1) (((ck_FF P K c m x y z4 z5 z6 z7 4 + ck_FF P K c m x y z4 z5 z6 z7 5) + ck_FF P K c m x y z4 z5 z6 z7 6) / 4) u) = _
    rw [ck_out1a, ck_out1b, d, d]
  show ck_ta1 w x y (ck_FF P K c m x y z4 z5 z6 z7) 1 (ck_ta1 w x y (ck_FF P K c m x y z4 z5 z6 z7) 0 t) = _
  rw [f1, f0, ck_adv_t (x := x) (y := y + 0) (by omega) (by omega), ck_adv_t (x := x + 1) (y := y + 0) (by omega) (by omega), ck_adv_t (x := x) (y := y + 1) (by omega) (by omega), ck_adv_t (x := x + 1) (y := y + 1) (by omega) (by omega)]
  have g : ∀ X Y, x ≤ X → X < x + 2 → y ≤ Y → Y < y + 2 → ck_tn P K m c y x t (8 * Y + X) = t (8 * Y + X) + ck_cc P K 1 m X Y c := fun X Y h1 h2 h3 h4 => by
    have e1 : (8 * Y + X) % 8 = X := by omega
    have e2 : (8 * Y + X) / 8 = Y := by omega
    unfold ck_tn
    rw [e1, e2, if_pos ⟨h1, h2, h3, h4⟩]
  refine ck_upd4 t _ _ _ _ _ _ _ _ _ (by omega) (by omega) (by omega) (by omega) (by omega) (by omega) (g x (y + 0) (by omega) (by omega) (by omega) (by omega)) (g (x + 1) (y + 0) (by omega) (by omega) (by omega) (by omega)) (g x (y + 1) (by omega) (by omega) (by omega) (by omega)) (g (x + 1) (y + 1) (by omega) (by omega) (by omega) (by omega)) ?_
  intro j j0 j1 j2 j3
  exact if_neg (by omega)
/-- a row of tiles, all tiles of a kernel, both -/
def ck_tn1 (P K : Nat → Int32) (m c y i : Nat) (t : Nat → Int32) : Nat → Int32 := ck_tn P K m c y (2 * i) t
def ck_tn2 (P K : Nat → Int32) (m c h i : Nat) (t : Nat → Int32) : Nat → Int32 := ck_it (ck_tn1 P K m c (2 * i)) h t
def ck_tn3 (P K : Nat → Int32) (m h c : Nat) (t : Nat → Int32) : Nat → Int32 := ck_it (ck_tn2 P K m c h) h t
theorem ck_tn2_v (P K : Nat → Int32) (m c h i : Nat) (t : Nat → Int32) (j : Nat) : ck_tn2 P K m c h i t j = if j % 8 < 2 * h ∧ 2 * i ≤ j / 8 ∧ j / 8 < 2 * i + 2 then t j + ck_cc P K 1 m (j % 8) (j / 8) c else t j := by
  refine ck_itI (fun x (u : Nat → Int32) => ∀ j, u j = if j % 8 < 2 * x ∧ 2 * i ≤ j / 8 ∧ j / 8 < 2 * i + 2 then t j + ck_cc P K 1 m (j % 8) (j / 8) c else t j) ?_ ?_ j
  · intro j
    rw [if_neg (by omega)]
  · intro x u hx hu j
    show (if 2 * x ≤ j % 8 ∧ j % 8 < 2 * x + 2 ∧ 2 * i ≤ j / 8 ∧ j / 8 < 2 * i + 2 then u j + ck_cc P K 1 m (j % 8) (j / 8) c else u j) = _
    rw [hu j]
    by_cases h1 : 2 * x ≤ j % 8 ∧ j % 8 < 2 * x + 2 ∧ 2 * i ≤ j / 8 ∧ j / 8 < 2 * i + 2
    · rw [if_pos h1, if_neg (show ¬ (j % 8 < 2 * x ∧ 2 * i ≤ j / 8 ∧ j / 8 < 2 * i + 2) by omega), if_pos (show j % 8 < 2 * (x + 1) ∧ 2 * i ≤ j / 8 ∧ j / 8 < 2 * i + 2 by omega)]
    · rw [if_neg h1]
      by_cases h2 : j % 8 < 2 * x ∧ 2 * i ≤ j / 8 ∧ j / 8 < 2 * i + 2
      · rw [if_pos h2, if_pos (show j % 8 < 2 * (x + 1) ∧ 2 * i ≤ j / 8 ∧ j / 8 < 2 * i + 2 by omega)]
      · rw [if_neg h2, if_neg (show ¬ (j % 8 < 2 * (x + 1) ∧ 2 * i ≤ j / 8 ∧ j / 8 < 2 * i + 2) by omega)]
theorem ck_tn3_v (P K : Nat → Int32) (m h c : Nat) (t : Nat → Int32) (j : Nat) : ck_tn3 P K m h c t j = if j % 8 < 2 * h ∧ j / 8 < 2 * h then t j + ck_cc P K 1 m (j % 8) (j / 8) c else t j := by
  refine ck_itI (fun y (u : Nat → Int32) => ∀ j, u j = if j % 8 < 2 * h ∧ j / 8 < 2 * y then t j + ck_cc P K 1 m (j % 8) (j / 8) c else t j) ?_ ?_ j
  · intro j
    rw [if_neg (by omega)]
  · intro y u hy hu j
    rw [ck_tn2_v, hu j]
    by_cases h1 : j % 8 < 2 * h ∧ 2 * y ≤ j / 8 ∧ j / 8 < 2 * y + 2
    · rw [if_pos h1, if_neg (show ¬ (j % 8 < 2 * h ∧ j / 8 < 2 * y) by omega), if_pos (show j % 8 < 2 * h ∧ j / 8 < 2 * (y + 1) by omega)]
    · rw [if_neg h1]
      by_cases h2 : j % 8 < 2 * h ∧ j / 8 < 2 * y
      · rw [if_pos h2, if_pos (show j % 8 < 2 * h ∧ j / 8 < 2 * (y + 1) by omega)]
      · rw [if_neg h2, if_neg (show ¬ (j % 8 < 2 * h ∧ j / 8 < 2 * (y + 1)) by omega)]
theorem ck_tiles_v (P K : Nat → Int32) (m : Nat) {h : Nat} (hh : h ≤ 4) (O : Nat → Int32) : ck_it (ck_tn3 P K m h) 2 (ck_ze O) = ck_out P K 1 m (2 * h) O := by
  funext j
  show ck_tn3 P K m h 1 (ck_tn3 P K m h 0 (ck_ze O)) j = _
  rw [ck_tn3_v, ck_tn3_v]
  unfold ck_out
  by_cases h1 : j % 8 < 2 * h ∧ j / 8 < 2 * h
  · have e0 : ck_ze O j = 0 := if_pos (by omega)
    rw [if_pos h1, if_pos h1, if_pos (show j < 64 ∧ j % 8 < 2 * h ∧ j / 8 < 2 * h by omega), e0, Int32.zero_add, ck_cv_cc]
  · rw [if_neg h1, if_neg h1, if_neg (show ¬ (j < 64 ∧ j % 8 < 2 * h ∧ j / 8 < 2 * h) by omega)]
theorem ck_d2 (i : Nat) : nI (2 * i) + 2 = nI (2 * (i + 1)) := nI_add (2 * i) 2
section
variable {f1 f2 f3 f4 : Int32} {a1 a2 a3 a4 a5 a6 a7 a8 a9 a10 a11 a12 a13 a14 : Nat → Int32}
variable {post : Int32 → Prop} {poss : Int32 → St1 → Prop} {posu : St1 → Prop}
theorem ck_addTilew {c m w x y : Nat} {z5 z6 : Nat → Int32} (hP : ck_PB a1) (hK : ck_KB a2) (hc : c < 2) (hm : m ≤ 1) (hw : w ≤ 8) (hx : x + 2 ≤ w) (hy : y + 2 ≤ w) (h6 : a6 = ck_sh (ck_hf a2 c z5) z6) (H : ∀ z4 z7, posu (f1, nI m, f3, nI w, a1, a2, ck_tn a1 a2 m c y x a3, z4, a5, a6, z7, a8, a9, a10, a11, a12, a13, a14)) : wpX_addTile posu (f1, nI m, f3, nI w, a1, a2, a3, a4, a5, a6, a7, a8, a9, a10, a11, a12, a13, a14) (nI c) (nI x) (nI y) := by
  subst h6
  refine ck_addTile0 hc hm hw (by omega) (by omega) (fun z4 e4 z7 e7 => ?_)
  have e : z7 = ck_FF a1 a2 c m x y a4 z5 z6 a7 := by rw [e7, e4]; rfl
  rw [e, ck_tn_v hP hK hc hw hx hy, ← e]
  exact H z4 z7
theorem ck_mt24 {J2 J14 : Int32 → Int32 → Int32 → Int32 → Int32 → (Nat → Int32) → (Nat → Int32) → (Nat → Int32) → (Nat → Int32) → (Nat → Int32) → (Nat → Int32) → (Nat → Int32) → (Nat → Int32) → (Nat → Int32) → (Nat → Int32) → (Nat → Int32) → (Nat → Int32) → (Nat → Int32) → (Nat → Int32) → Prop} {c m w h i : Nat} {z5 z6 : Nat → Int32} (hP : ck_PB a1) (hK : ck_KB a2) (hc : c < 2) (hm : m ≤ 1) (hw : w = 2 * h) (hh : h ≤ 4) (hi : i < h) (h6 : a6 = ck_sh (ck_hf a2 c z5) z6)
    (H : ∀ z4 z7, J14 (nI (2 * (i + 1))) f1 (nI m) f3 (nI w) a1 a2 (ck_tn2 a1 a2 m c h i a3) z4 a5 a6 z7 a8 a9 a10 a11 a12 a13 a14) : ∃ n, wX_moveByTiles_24 posu J2 J14 (nI c) (nI (2 * i)) n 0 f1 (nI m) f3 (nI w) a1 a2 a3 a4 a5 a6 a7 a8 a9 a10 a11 a12 a13 a14 := by
  refine pk_loop (fun n k (t : (Nat → Int32) × (Nat → Int32) × (Nat → Int32)) => wX_moveByTiles_24 posu J2 J14 (nI c) (nI (2 * i)) n (nI (2 * k)) f1 (nI m) f3 (nI w) a1 a2 t.1 t.2.1 a5 a6 t.2.2 a8 a9 a10 a11 a12 a13 a14) (fun k t => t.1 = ck_it (ck_tn1 a1 a2 m c (2 * i)) k a3) h 0 (a3, a4, a7) (by omega) rfl ?_ ?_
  · intro n t ht
    refine pk_le w (2 * h) (fun _ => nm_r (ck_d2 i) ?_) (fun z => absurd z (by omega))
    rw [ht]
    exact H _ _
  · intro n k t hk ht hw'
    refine pk_le w (2 * k) (fun z => absurd z (by omega)) (fun _ => ck_addTilew hP hK hc hm (by omega) (by omega) (by omega) h6 (fun z4 z7 => nm_r (ck_d2 k) (hw' (_, z4, z7) ?_)))
    rw [ht]
    rfl
theorem ck_mt14 {J2 : Int32 → Int32 → Int32 → Int32 → Int32 → (Nat → Int32) → (Nat → Int32) → (Nat → Int32) → (Nat → Int32) → (Nat → Int32) → (Nat → Int32) → (Nat → Int32) → (Nat → Int32) → (Nat → Int32) → (Nat → Int32) → (Nat → Int32) → (Nat → Int32) → (Nat → Int32) → (Nat → Int32) → Prop} {c m w h : Nat} {z5 z6 : Nat → Int32} (hP : ck_PB a1) (hK : ck_KB a2) (hc : c < 2) (hm : m ≤ 1) (hw : w = 2 * h) (hh : h ≤ 4) (h6 : a6 = ck_sh (ck_hf a2 c z5) z6)
    (H : ∀ z4 z7, J2 (nI (c + 1)) f1 (nI m) f3 (nI w) a1 a2 (ck_tn3 a1 a2 m h c a3) z4 a5 a6 z7 a8 a9 a10 a11 a12 a13 a14) : ∃ n, wX_moveByTiles_14 posu J2 (nI c) n 0 f1 (nI m) f3 (nI w) a1 a2 a3 a4 a5 a6 a7 a8 a9 a10 a11 a12 a13 a14 := by
  refine pk_loop (fun n k (t : (Nat → Int32) × (Nat → Int32) × (Nat → Int32)) => wX_moveByTiles_14 posu J2 (nI c) n (nI (2 * k)) f1 (nI m) f3 (nI w) a1 a2 t.1 t.2.1 a5 a6 t.2.2 a8 a9 a10 a11 a12 a13 a14) (fun k t => t.1 = ck_it (ck_tn2 a1 a2 m c h) k a3) h 0 (a3, a4, a7) (by omega) rfl ?_ ?_
  · intro n t ht
    refine pk_le w (2 * h) (fun _ => nm_r (nI_1 c) ?_) (fun z => absurd z (by omega))
    rw [ht]
    exact H _ _
  · intro n k t hk ht hw'
    refine pk_le w (2 * k) (fun z => absurd z (by omega)) (fun _ => ck_mt24 hP hK hc hm hw hh hk h6 (fun z4 z7 => hw' (_, z4, z7) ?_))
    rw [ht]
    rfl
theorem ck_tilesw {m w h : Nat} (hP : ck_PB a1) (hK : ck_KB a2) (hm : m ≤ 1) (hw : w = 2 * h) (hh : h ≤ 4)
    (H : ∀ z4 z5 z6 z7, posu (f1, nI m, f3, nI w, a1, a2, ck_it (ck_tn3 a1 a2 m h) 2 a3, z4, z5, z6, z7, a8, a9, a10, a11, a12, a13, a14)) : wpX_moveByTiles posu (f1, nI m, f3, nI w, a1, a2, a3, a4, a5, a6, a7, a8, a9, a10, a11, a12, a13, a14) := by
  refine pk_loop (fun n k (t : (Nat → Int32) × (Nat → Int32) × (Nat → Int32) × (Nat → Int32) × (Nat → Int32)) => wX_moveByTiles_2 posu n (nI k) f1 (nI m) f3 (nI w) a1 a2 t.1 t.2.1 t.2.2.1 t.2.2.2.1 t.2.2.2.2 a8 a9 a10 a11 a12 a13 a14) (fun k t => t.1 = ck_it (ck_tn3 a1 a2 m h) k a3) 2 0 (a3, a4, a5, a6, a7) (by omega) rfl ?_ ?_
  · intro n t ht
    refine pk_le 2 2 (fun _ => ?_) (fun z => absurd z (by omega))
    rw [ht]
    exact H _ _ _ _
  · intro n k t hk ht hw'
    refine pk_le 2 k (fun z => absurd z (by omega)) (fun _ => ck_skw hk (ck_mt14 hP hK hk hm hw hh rfl (fun z4 z7 => hw' (_, z4, _, _, z7) ?_)))
    rw [ht]
    rfl
end
end
section
def ck_pl (a : Nat → Int32) (p : Nat → Nat) : Prop := ∀ j, j < 256 → p j < 7681 ∧ a j = nI (p j)
def ck_tb16 (a : Nat → Int32) (T : Nat → Nat) : Prop := ∀ j, j < 16 → T j < 7681 ∧ a j = nI (T j)
def ck_ln (p T : Nat → Nat) (f st k : Nat) : Nat := ck_S (fun i => p (f + i * st) * T (k * i % 16) % 7681) 16 % 7681
theorem ck_ln_lt (p T : Nat → Nat) (f st k : Nat) : ck_ln p T f st k < 7681 := Nat.mod_lt _ (by decide)
theorem ck_ln_c {p p' T : Nat → Nat} {f st : Nat} (h : ∀ i, i < 16 → p (f + i * st) = p' (f + i * st)) (k : Nat) : ck_ln p T f st k = ck_ln p' T f st k := by
  unfold ck_ln
  rw [ck_S_congr (fun i hi => by rw [h i hi])]
def ck_t1 (T p : Nat → Nat) : Nat → Nat := fun j => ck_ln p T (16 * (j / 16)) 1 (j % 16)
def ck_tf (T p : Nat → Nat) : Nat → Nat := fun j => ck_ln (ck_t1 T p) T (j % 16) 16 (j / 16)
theorem ck_is (f i st : Nat) : nI f + nI i * nI st = nI (f + i * st) := by rw [pk_mul, nI_add]
theorem ck_m1 {a b : Nat} (ha : a < 7681) (hb : b < 7681) : a * b ≤ 58982400 := Nat.mul_le_mul (show a ≤ 7680 by omega) (show b ≤ 7680 by omega)
theorem ck_rem {a : Nat} (ha : a < 2 ^ 31) : nI a - nI a / 7681 * 7681 = nI (a % 7681) := pk_rem (d := 7681) ha (by decide) (by decide)
def ck_wb (f st : Nat) (l : Nat → Int32) (k : Nat) (t : Nat → Int32) : Nat → Int32 := upd t (f + k * st) (l k)
theorem ck_wb_v {f st : Nat} (h0 : 0 < st) (l t : Nat → Int32) : (∀ k, k < 16 → ck_it (ck_wb f st l) 16 t (f + k * st) = l k) ∧ (∀ j, (∀ k, k < 16 → j ≠ f + k * st) → ck_it (ck_wb f st l) 16 t j = t j) := by
  refine ck_itI (fun i (u : Nat → Int32) => (∀ k, k < i → u (f + k * st) = l k) ∧ (∀ j, (∀ k, k < 16 → j ≠ f + k * st) → u j = t j)) ⟨fun k hk => absurd hk (by omega), fun j _ => rfl⟩ ?_
  intro i u hi hu
  refine ⟨fun k hk => ?_, fun j hj => ?_⟩
  · show upd u (f + i * st) (l i) (f + k * st) = l k
    by_cases e : k = i
    · subst e
      rw [pk_us]
    · rw [pk_un (fun z => e (Nat.eq_of_mul_eq_mul_right h0 (by omega)))]
      exact hu.1 k (by omega)
  · show upd u (f + i * st) (l i) j = t j
    rw [pk_un (hj i hi)]
    exact hu.2 j hj
section
variable {f1 f2 f3 f4 : Int32} {a1 a2 a3 a4 a5 a6 a7 a8 a9 a10 a11 a12 a13 a14 : Nat → Int32}
variable {post : Int32 → Prop} {poss : Int32 → St1 → Prop} {posu : St1 → Prop}
theorem ck_tl56 {J : Int32 → (Nat → Int32) → (Nat → Int32) → (Nat → Int32) → (Nat → Int32) → (Nat → Int32) → (Nat → Int32) → (Nat → Int32) → (Nat → Int32) → (Nat → Int32) → (Nat → Int32) → (Nat → Int32) → (Nat → Int32) → (Nat → Int32) → (Nat → Int32) → Prop} {J16 : Int32 → Int32 → Prop} {f st i tv sm : Nat} {b x4 z0 : Int32} {p : Nat → Nat} (hp : ck_pl a8 p) (hf : f + 15 * st < 256) (hi : i < 16) (ht : tv < 7681) (hz : z0 = nI tv) (H : J16 (nI (sm + p (f + i * st) * tv % 7681)) (nI (i + 1))) : wX_transformLine_56 posu J J16 (nI f) (nI st) b x4 (nI sm) (nI i) z0 f1 f2 f3 f4 a1 a2 a3 a4 a5 a6 a7 a8 a9 a10 a11 a12 a13 a14 := by
  have hi' : i * st ≤ 15 * st := Nat.mul_le_mul_right st (by omega)
  obtain ⟨h1, h2⟩ := hp (f + i * st) (by omega)
  have hm := ck_m1 h1 ht
  subst hz
  unfold wX_transformLine_56
  rw [ck_is, nI_clamp (by omega), h2, pk_mul, ck_rem (by omega), nI_add]
  exact ⟨vp_in_nI (by omega) (by omega), by decide, nm_e (nm_r (nI_1 i) H)⟩
theorem ck_tl16 {J : Int32 → (Nat → Int32) → (Nat → Int32) → (Nat → Int32) → (Nat → Int32) → (Nat → Int32) → (Nat → Int32) → (Nat → Int32) → (Nat → Int32) → (Nat → Int32) → (Nat → Int32) → (Nat → Int32) → (Nat → Int32) → (Nat → Int32) → (Nat → Int32) → Prop} {f st k : Nat} {b : Int32} {p T : Nat → Nat} (hp : ck_pl a8 p) (hT : (b = 0 ∧ ck_tb16 a12 T) ∨ (¬ b = 0 ∧ ck_tb16 a13 T)) (hf : f + 15 * st < 256) (hk : k < 16) (H : J (nI (k + 1)) a1 a2 a3 a4 a5 a6 a7 a8 a9 a10 (upd a11 k (nI (ck_ln p T f st k))) a12 a13 a14) : ∃ n, wX_transformLine_16 posu J (nI f) (nI st) b (nI k) f1 f2 f3 f4 a1 a2 a3 a4 a5 a6 a7 a8 a9 a10 a11 a12 a13 a14 n 0 0 := by
  refine pk_loop (fun n i s => wX_transformLine_16 posu J (nI f) (nI st) b (nI k) f1 f2 f3 f4 a1 a2 a3 a4 a5 a6 a7 a8 a9 a10 a11 a12 a13 a14 n s (nI i)) (fun i s => s = nI (ck_S (fun i => p (f + i * st) * T (k * i % 16) % 7681) i)) 16 0 0 (by omega) rfl ?_ ?_
  · intro n s hs
    subst hs
    have hb : ck_S (fun i => p (f + i * st) * T (k * i % 16) % 7681) 16 ≤ 16 * 7680 := ck_S_le (fun i _ => by have := Nat.mod_lt (p (f + i * st) * T (k * i % 16)) (show 0 < 7681 by decide); omega)
    refine pk_le 16 16 (fun _ => ⟨by decide, vp_in_nI hk (by omega), ?_⟩) (fun z => absurd z (by omega))
    rw [nI_clamp (by omega), ck_rem (by omega)]
    exact nm_e (nm_r (nI_1 k) H)
  · intro n i s hi hs hw
    subst hs
    refine pk_le 16 i (fun z => absurd z (by omega)) (fun _ => ?_)
    have hki : k * i ≤ 15 * 15 := Nat.mul_le_mul (by omega) (by omega)
    have hx : nI k * nI i &&& 15 = nI (k * i % 16) := by
      rw [pk_mul]
      exact pk_andN (by omega) 4 (by decide)
    rw [hx, nI_clamp (by omega)]
    rcases hT with ⟨hb, hT⟩ | ⟨hb, hT⟩
    · obtain ⟨t1, t2⟩ := hT (k * i % 16) (by omega)
      exact br_t hb ⟨vp_in_nI (by omega) (by omega), ck_tl56 hp hf hi t1 t2 (hw _ rfl)⟩
    · obtain ⟨t1, t2⟩ := hT (k * i % 16) (by omega)
      exact br_f hb ⟨vp_in_nI (by omega) (by omega), ck_tl56 hp hf hi t1 t2 (hw _ rfl)⟩
theorem ck_tl109 {f st : Nat} (hf : f + 15 * st < 256) (H : posu (f1, f2, f3, f4, a1, a2, a3, a4, a5, a6, a7, ck_it (ck_wb f st a11) 16 a8, a9, a10, a11, a12, a13, a14)) : ∃ n, wX_transformLine_109 posu (nI f) (nI st) f1 f2 f3 f4 n 0 a1 a2 a3 a4 a5 a6 a7 a8 a9 a10 a11 a12 a13 a14 := by
  refine ck_loopF (fun n i t => wX_transformLine_109 posu (nI f) (nI st) f1 f2 f3 f4 n (nI i) a1 a2 a3 a4 a5 a6 a7 t a9 a10 a11 a12 a13 a14) (ck_wb f st a11) 16 a8 (fun n => pk_le 16 16 (fun _ => H) (fun z => absurd z (by omega))) ?_
  intro n i t hi h
  have hi' : i * st ≤ 15 * st := Nat.mul_le_mul_right st (by omega)
  refine pk_le 16 i (fun z => absurd z (by omega)) (fun _ => ?_)
  rw [ck_is, nI_clamp (by omega), nI_clamp (by omega)]
  exact ⟨vp_in_nI (by omega) (by omega), vp_in_nI (by omega) (by omega), nm_e (nm_r (nI_1 i) h)⟩
theorem ck_tlw {f st : Nat} {b : Int32} {p T : Nat → Nat} (hp : ck_pl a8 p) (hT : (b = 0 ∧ ck_tb16 a12 T) ∨ (¬ b = 0 ∧ ck_tb16 a13 T)) (h0 : 0 < st) (hf : f + 15 * st < 256)
    (H : ∀ z8 z11, (∀ k, k < 16 → z8 (f + k * st) = nI (ck_ln p T f st k)) → (∀ j, (∀ k, k < 16 → j ≠ f + k * st) → z8 j = a8 j) → posu (f1, f2, f3, f4, a1, a2, a3, a4, a5, a6, a7, z8, a9, a10, z11, a12, a13, a14)) : wpX_transformLine posu (f1, f2, f3, f4, a1, a2, a3, a4, a5, a6, a7, a8, a9, a10, a11, a12, a13, a14) (nI f) (nI st) b := by
  refine pk_loop (fun n i t => wX_transformLine_3 posu (nI f) (nI st) b f1 f2 f3 f4 n (nI i) a1 a2 a3 a4 a5 a6 a7 a8 a9 a10 t a12 a13 a14) (fun i t => ∀ k, k < i → t k = nI (ck_ln p T f st k)) 16 0 a11 (by omega) (fun k hk => absurd hk (by omega)) ?_ ?_
  · intro n t ht
    obtain ⟨h1, h2⟩ := ck_wb_v (f := f) h0 t a8
    exact pk_le 16 16 (fun _ => ck_tl109 hf (H _ _ (fun k hk => by rw [h1 k hk, ht k hk]) h2)) (fun z => absurd z (by omega))
  · intro n i t hi ht hw
    refine pk_le 16 i (fun z => absurd z (by omega)) (fun _ => ck_tl16 hp hT hf hi (hw _ (fun k hk => ?_)))
    by_cases e : k = i
    · subst e
      rw [pk_us]
    · rw [pk_un e]
      exact ht k (by omega)
theorem ck_tc26 {b : Int32} {p T : Nat → Nat} (hp : ck_pl a8 p) (hT : (b = 0 ∧ ck_tb16 a12 T) ∨ (¬ b = 0 ∧ ck_tb16 a13 T)) (H : ∀ z8 z11, ck_pl z8 (fun j => ck_ln p T (j % 16) 16 (j / 16)) → posu (f1, f2, f3, f4, a1, a2, a3, a4, a5, a6, a7, z8, a9, a10, z11, a12, a13, a14)) : ∃ n, wX_transform_26 posu b n 0 f1 f2 f3 f4 a1 a2 a3 a4 a5 a6 a7 a8 a9 a10 a11 a12 a13 a14 := by
  refine pk_loop (fun n i (t : (Nat → Int32) × (Nat → Int32)) => wX_transform_26 posu b n (nI i) f1 f2 f3 f4 a1 a2 a3 a4 a5 a6 a7 t.1 a9 a10 t.2 a12 a13 a14) (fun i t => ck_pl t.1 (fun j => if j % 16 < i then ck_ln p T (j % 16) 16 (j / 16) else p j)) 16 0 (a8, a11) (by omega) ?_ ?_ ?_
  · intro j hj
    dsimp only
    rw [if_neg (by omega)]
    exact hp j hj
  · intro n t ht
    refine pk_le 16 16 (fun _ => H _ _ (fun j hj => ?_)) (fun z => absurd z (by omega))
    have := ht j hj
    dsimp only at this
    rwa [if_pos (by omega)] at this
  · intro n i t hi ht hw
    refine pk_le 16 i (fun z => absurd z (by omega)) (fun _ => ck_tlw (st := 16) ht hT (by omega) (by omega) (fun z8 z11 h1 h2 => nm_r (nI_1 i) (hw (z8, z11) (fun j hj => ?_))))
    dsimp only
    by_cases e : j % 16 = i
    · rw [if_pos (by omega), e]
      refine ⟨ck_ln_lt _ _ _ _ _, ?_⟩
      have := h1 (j / 16) (by omega)
      rw [show i + j / 16 * 16 = j by omega] at this
      rw [this, ck_ln_c (fun q _ => if_neg (by omega))]
    · rw [h2 j (fun k _ => by omega)]
      have := ht j hj
      dsimp only at this
      by_cases e2 : j % 16 < i
      · rw [if_pos e2] at this
        rw [if_pos (by omega)]
        exact this
      · rw [if_neg e2] at this
        rw [if_neg (by omega)]
        exact this
theorem ck_transformw {b : Int32} {p T : Nat → Nat} (hp : ck_pl a8 p) (hT : (b = 0 ∧ ck_tb16 a12 T) ∨ (¬ b = 0 ∧ ck_tb16 a13 T)) (H : ∀ z8 z11, ck_pl z8 (ck_tf T p) → posu (f1, f2, f3, f4, a1, a2, a3, a4, a5, a6, a7, z8, a9, a10, z11, a12, a13, a14)) : wpX_transform posu (f1, f2, f3, f4, a1, a2, a3, a4, a5, a6, a7, a8, a9, a10, a11, a12, a13, a14) b := by
  refine pk_loop (fun n i (t : (Nat → Int32) × (Nat → Int32)) => wX_transform_2 posu b n (nI i) f1 f2 f3 f4 a1 a2 a3 a4 a5 a6 a7 t.1 a9 a10 t.2 a12 a13 a14) (fun i t => ck_pl t.1 (fun j => if j / 16 < i then ck_t1 T p j else p j)) 16 0 (a8, a11) (by omega) ?_ ?_ ?_
  · intro j hj
    dsimp only
    rw [if_neg (by omega)]
    exact hp j hj
  · intro n t ht
    refine pk_le 16 16 (fun _ => ck_tc26 (p := ck_t1 T p) (fun j hj => ?_) hT H) (fun z => absurd z (by omega))
    have := ht j hj
    dsimp only at this
    rwa [if_pos (by omega)] at this
  · intro n i t hi ht hw
    refine pk_le 16 i (fun z => absurd z (by omega)) (fun _ => ?_)
    rw [show (16 : Int32) * nI i = nI (16 * i) from pk_mul 16 i]
    refine ck_tlw (st := 1) ht hT (by omega) (by omega) (fun z8 z11 h1 h2 => nm_r (nI_1 i) (hw (z8, z11) (fun j hj => ?_)))
    dsimp only
    by_cases e : j / 16 = i
    · rw [if_pos (by omega)]
      unfold ck_t1
      rw [e]
      refine ⟨ck_ln_lt _ _ _ _ _, ?_⟩
      have := h1 (j % 16) (by omega)
      rw [show 16 * i + j % 16 * 1 = j by omega] at this
      rw [this, ck_ln_c (fun q _ => if_neg (by omega))]
    · rw [h2 j (fun k _ => by omega)]
      have := ht j hj
      dsimp only at this
      by_cases e2 : j / 16 < i
      · rw [if_pos e2] at this
        rw [if_pos (by omega)]
        exact this
      · rw [if_neg e2] at this
        rw [if_neg (by omega)]
        exact this
theorem ck_clearw (H : ∀ z8, (∀ j, j < 256 → z8 j = 0) → posu (f1, f2, f3, f4, a1, a2, a3, a4, a5, a6, a7, z8, a9, a10, a11, a12, a13, a14)) : wpX_clearPlane posu (f1, f2, f3, f4, a1, a2, a3, a4, a5, a6, a7, a8, a9, a10, a11, a12, a13, a14) := by
  refine pk_loop (fun n i t => wX_clearPlane_2 posu f1 f2 f3 f4 n (nI i) a1 a2 a3 a4 a5 a6 a7 t a9 a10 a11 a12 a13 a14) (fun i t => ∀ j, j < i → t j = 0) 256 0 a8 (by omega) (fun j hj => absurd hj (by omega)) ?_ ?_
  · intro n t ht
    exact pk_le 256 256 (fun _ => H t ht) (fun z => absurd z (by omega))
  · intro n i t hi ht hw
    refine pk_le 256 i (fun z => absurd z (by omega)) (fun _ => ?_)
    rw [nI_clamp (by omega)]
    refine ⟨vp_in_nI (by omega) (by omega), nm_e (nm_r (nI_1 i) (hw _ (fun j hj => ?_)))⟩
    by_cases e : j = i
    · subst e
      rw [pk_us]
    · rw [pk_un e]
      exact ht j (by omega)
end
end
section
def ck_A (K : Nat → Int32) (c : Nat) : Nat → Nat := fun j => if j / 16 < 3 ∧ j % 16 < 3 then ck_rd (K (9 * c + 3 * (2 - j / 16) + (2 - j % 16))) else 0
def ck_B (P : Nat → Int32) (c : Nat) : Nat → Nat := fun j => if (1 ≤ j / 16 ∧ j / 16 ≤ 8) ∧ (1 ≤ j % 16 ∧ j % 16 ≤ 8) then ck_rd (P (64 * c + 8 * (j / 16 - 1) + (j % 16 - 1))) else 0
theorem ck_A_lt (K : Nat → Int32) (c j : Nat) : ck_A K c j < 7681 := by
  unfold ck_A
  split
  · exact ck_rd_lt _
  · decide
theorem ck_B_lt (P : Nat → Int32) (c j : Nat) : ck_B P c j < 7681 := by
  unfold ck_B
  split
  · exact ck_rd_lt _
  · decide
theorem ck_tf_lt (T p : Nat → Nat) (j : Nat) : ck_tf T p j < 7681 := ck_ln_lt _ _ _ _ _
def ck_tt (T : Nat → Nat) (P K : Nat → Int32) (c : Nat) (τ : Nat → Nat) : Nat → Nat := fun j => (τ j + ck_tf T (ck_B P c) j * ck_tf T (ck_A K c) j) % 7681
theorem ck_ika {c j i : Nat} : (9 : Int32) * nI c + 3 * nI j + nI i = nI (9 * c + 3 * j + i) := by
  rw [ck_i93, nI_add]
theorem ck_ikb {j i : Nat} (hj : j < 3) (hi : i < 3) : ((16 : Int32) * (2 - nI j) + 2) - nI i = nI (16 * (2 - j) + 2 - i) := by
  rw [show (2 : Int32) - nI j = nI (2 - j) from pk_sub (a := 2) (by omega), show (16 : Int32) * nI (2 - j) = nI (16 * (2 - j)) from pk_mul 16 _, ck_p2, pk_sub (by omega)]
theorem ck_ipb (y x : Nat) : ((16 : Int32) * (nI y + 1) + nI x) + 1 = nI (16 * (y + 1) + x + 1) := by
  rw [nI_1, show (16 : Int32) * nI (y + 1) = nI (16 * (y + 1)) from pk_mul 16 _, nI_add, nI_1]
section
variable {f1 f2 f3 f4 : Int32} {a1 a2 a3 a4 a5 a6 a7 a8 a9 a10 a11 a12 a13 a14 : Nat → Int32}
variable {post : Int32 → Prop} {poss : Int32 → St1 → Prop} {posu : St1 → Prop}
theorem ck_a170 {τ α β : Nat → Nat} (h8 : ck_pl a8 β) (h9 : ck_pl a9 α) (h10 : ck_pl a10 τ) (H : ∀ z10, ck_pl z10 (fun j => (τ j + β j * α j) % 7681) → posu (f1, f2, f3, f4, a1, a2, a3, a4, a5, a6, a7, a8, a9, z10, a11, a12, a13, a14)) : ∃ n, wX_addTransformed_170 posu f1 f2 f3 f4 n 0 a1 a2 a3 a4 a5 a6 a7 a8 a9 a10 a11 a12 a13 a14 := by
  refine pk_loop (fun n i t => wX_addTransformed_170 posu f1 f2 f3 f4 n (nI i) a1 a2 a3 a4 a5 a6 a7 a8 a9 t a11 a12 a13 a14) (fun i t => ck_pl t (fun j => if j < i then (τ j + β j * α j) % 7681 else τ j)) 256 0 a10 (by omega) ?_ ?_ ?_
  · intro j hj
    dsimp only
    rw [if_neg (by omega)]
    exact h10 j hj
  · intro n t ht
    refine pk_le 256 256 (fun _ => H t (fun j hj => ?_)) (fun z => absurd z (by omega))
    have := ht j hj
    dsimp only at this
    rwa [if_pos hj] at this
  · intro n i t hi ht hw
    refine pk_le 256 i (fun z => absurd z (by omega)) (fun _ => ?_)
    obtain ⟨b1, e1⟩ := h8 i hi
    obtain ⟨b2, e2⟩ := h9 i hi
    have ht' := ht i hi
    dsimp only at ht'
    rw [if_neg (Nat.lt_irrefl i)] at ht'
    obtain ⟨b3, e3⟩ := ht'
    have hm := ck_m1 b1 b2
    rw [nI_clamp (by omega), e1, e2, e3, pk_mul, nI_add, ck_rem (by omega)]
    refine ⟨vp_in_nI (by omega) (by omega), vp_in_nI (by omega) (by omega), vp_in_nI (by omega) (by omega), by decide, vp_in_nI (by omega) (by omega), nm_e (nm_r (nI_1 i) (hw _ (fun j hj => ?_)))⟩
    dsimp only
    by_cases e : j = i
    · subst e
      rw [pk_us, if_pos (by omega)]
      exact ⟨Nat.mod_lt _ (by decide), rfl⟩
    · rw [pk_un e]
      have := ht j hj
      dsimp only at this
      by_cases e4 : j < i
      · rw [if_pos e4] at this
        rwa [if_pos (by omega)]
      · rw [if_neg e4] at this
        rwa [if_neg (by omega)]
def ck_pb1 (P : Nat → Int32) (c y x : Nat) (t : Nat → Int32) : Nat → Int32 := upd t (16 * (y + 1) + x + 1) (nI (ck_rd (P (64 * c + 8 * y + x))))
def ck_pb2 (P : Nat → Int32) (c y : Nat) (t : Nat → Int32) : Nat → Int32 := ck_it (ck_pb1 P c y) 8 t
theorem ck_pb_v (P : Nat → Int32) (c : Nat) {t : Nat → Int32} (h0 : ∀ j, j < 256 → t j = 0) : ck_pl (ck_it (ck_pb2 P c) 8 t) (ck_B P c) := by
  have h : ∀ j, j < 256 → ck_it (ck_pb2 P c) 8 t j = nI (if j / 16 < 8 + 1 then ck_B P c j else 0) := by
    refine ck_itI (fun y (u : Nat → Int32) => ∀ j, j < 256 → u j = nI (if j / 16 < y + 1 then ck_B P c j else 0)) ?_ ?_
    · intro j hj
      rw [h0 j hj]
      by_cases e : j / 16 < 0 + 1
      · have e2 : ck_B P c j = 0 := if_neg (by omega)
        rw [if_pos e, e2]
        rfl
      · rw [if_neg e]
        rfl
    · intro y u hy hu
      have h2 : ∀ j, j < 256 → ck_pb2 P c y u j = nI (if j / 16 < y + 1 ∨ (j / 16 = y + 1 ∧ j % 16 < 8 + 1) then ck_B P c j else 0) := by
        refine ck_itI (fun x (u : Nat → Int32) => ∀ j, j < 256 → u j = nI (if j / 16 < y + 1 ∨ (j / 16 = y + 1 ∧ j % 16 < x + 1) then ck_B P c j else 0)) ?_ ?_
        · intro j hj
          rw [hu j hj]
          by_cases e : j / 16 < y + 1
          · rw [if_pos e, if_pos (Or.inl e)]
          · rw [if_neg e]
            by_cases e2 : j / 16 < y + 1 ∨ (j / 16 = y + 1 ∧ j % 16 < 0 + 1)
            · have e3 : ck_B P c j = 0 := if_neg (by omega)
              rw [if_pos e2, e3]
            · rw [if_neg e2]
        · intro x u hx hu j hj
          show upd u (16 * (y + 1) + x + 1) (nI (ck_rd (P (64 * c + 8 * y + x)))) j = _
          by_cases e : j = 16 * (y + 1) + x + 1
          · have e1 : j / 16 = y + 1 := by omega
            have e2 : j % 16 = x + 1 := by omega
            rw [if_pos (by omega), e, pk_us, ← e]
            have e3 : ck_B P c j = ck_rd (P (64 * c + 8 * (j / 16 - 1) + (j % 16 - 1))) := if_pos (by omega)
            rw [e3, e1, e2, Nat.add_sub_cancel, Nat.add_sub_cancel]
          · rw [pk_un e, hu j hj]
            by_cases e2 : j / 16 < y + 1 ∨ (j / 16 = y + 1 ∧ j % 16 < x + 1)
            · rw [if_pos e2, if_pos (by omega)]
            · rw [if_neg e2, if_neg (by omega)]
      intro j hj
      show ck_pb2 P c y u j = _
      rw [h2 j hj]
      by_cases e : j / 16 < y + 1 + 1
      · rw [if_pos e]
        by_cases e2 : j / 16 < y + 1 ∨ (j / 16 = y + 1 ∧ j % 16 < 8 + 1)
        · rw [if_pos e2]
        · have e3 : ck_B P c j = 0 := if_neg (by omega)
          rw [if_neg e2, e3]
      · rw [if_neg e, if_neg (by omega)]
  intro j hj
  refine ⟨ck_B_lt P c j, ?_⟩
  rw [h j hj]
  by_cases e : j / 16 < 8 + 1
  · rw [if_pos e]
  · have e3 : ck_B P c j = 0 := if_neg (by omega)
    rw [if_neg e, e3]
def ck_ka1 (K : Nat → Int32) (c j i : Nat) (t : Nat → Int32) : Nat → Int32 := upd t (16 * (2 - j) + 2 - i) (nI (ck_rd (K (9 * c + 3 * j + i))))
def ck_ka2 (K : Nat → Int32) (c j : Nat) (t : Nat → Int32) : Nat → Int32 := ck_it (ck_ka1 K c j) 3 t
theorem ck_ka_v (K : Nat → Int32) (c : Nat) {t : Nat → Int32} (h0 : ∀ j, j < 256 → t j = 0) : ck_pl (ck_it (ck_ka2 K c) 3 t) (ck_A K c) := by
  have h : ∀ q, q < 256 → ck_it (ck_ka2 K c) 3 t q = nI (if q / 16 < 3 ∧ q % 16 < 3 ∧ 2 - q / 16 < 3 then ck_A K c q else 0) := by
    refine ck_itI (fun j (u : Nat → Int32) => ∀ q, q < 256 → u q = nI (if q / 16 < 3 ∧ q % 16 < 3 ∧ 2 - q / 16 < j then ck_A K c q else 0)) ?_ ?_
    · intro q hq
      rw [h0 q hq, if_neg (by omega)]
      rfl
    · intro j u hj hu
      have h2 : ∀ q, q < 256 → ck_ka2 K c j u q = nI (if q / 16 < 3 ∧ q % 16 < 3 ∧ (2 - q / 16 < j ∨ (2 - q / 16 = j ∧ 2 - q % 16 < 3)) then ck_A K c q else 0) := by
        refine ck_itI (fun i (u : Nat → Int32) => ∀ q, q < 256 → u q = nI (if q / 16 < 3 ∧ q % 16 < 3 ∧ (2 - q / 16 < j ∨ (2 - q / 16 = j ∧ 2 - q % 16 < i)) then ck_A K c q else 0)) ?_ ?_
        · intro q hq
          rw [hu q hq]
          by_cases e : q / 16 < 3 ∧ q % 16 < 3 ∧ 2 - q / 16 < j
          · rw [if_pos e, if_pos (by omega)]
          · rw [if_neg e, if_neg (by omega)]
        · intro i u hi hu q hq
          show upd u (16 * (2 - j) + 2 - i) (nI (ck_rd (K (9 * c + 3 * j + i)))) q = _
          by_cases e : q = 16 * (2 - j) + 2 - i
          · have e1 : q / 16 = 2 - j := by omega
            have e2 : q % 16 = 2 - i := by omega
            rw [if_pos (by omega), e, pk_us, ← e]
            have e3 : ck_A K c q = ck_rd (K (9 * c + 3 * (2 - q / 16) + (2 - q % 16))) := if_pos (by omega)
            rw [e3, e1, e2, show 2 - (2 - j) = j by omega, show 2 - (2 - i) = i by omega]
          · rw [pk_un e, hu q hq]
            by_cases e2 : q / 16 < 3 ∧ q % 16 < 3 ∧ (2 - q / 16 < j ∨ (2 - q / 16 = j ∧ 2 - q % 16 < i))
            · rw [if_pos e2, if_pos (by omega)]
            · rw [if_neg e2, if_neg (by omega)]
      intro q hq
      show ck_ka2 K c j u q = _
      rw [h2 q hq]
      by_cases e2 : q / 16 < 3 ∧ q % 16 < 3 ∧ (2 - q / 16 < j ∨ (2 - q / 16 = j ∧ 2 - q % 16 < 3))
      · rw [if_pos e2, if_pos (by omega)]
      · rw [if_neg e2, if_neg (by omega)]
  intro q hq
  refine ⟨ck_A_lt K c q, ?_⟩
  rw [h q hq]
  by_cases e : q / 16 < 3 ∧ q % 16 < 3 ∧ 2 - q / 16 < 3
  · rw [if_pos e]
  · have e3 : ck_A K c q = 0 := if_neg (by omega)
    rw [if_neg e, e3]
theorem ck_a110 {J : Int32 → (Nat → Int32) → (Nat → Int32) → (Nat → Int32) → (Nat → Int32) → (Nat → Int32) → (Nat → Int32) → (Nat → Int32) → (Nat → Int32) → (Nat → Int32) → (Nat → Int32) → (Nat → Int32) → (Nat → Int32) → (Nat → Int32) → (Nat → Int32) → Prop} {c y : Nat} (hP : ck_PB a1) (hc : c < 2) (hy : y < 8) (H : J (nI (y + 1)) a1 a2 a3 a4 a5 a6 a7 (ck_pb2 a1 c y a8) a9 a10 a11 a12 a13 a14) : ∃ n, wX_addTransformed_110 posu J (nI c) (nI y) f1 f2 f3 f4 n 0 a1 a2 a3 a4 a5 a6 a7 a8 a9 a10 a11 a12 a13 a14 := by
  refine ck_loopF (fun n i t => wX_addTransformed_110 posu J (nI c) (nI y) f1 f2 f3 f4 n (nI i) a1 a2 a3 a4 a5 a6 a7 t a9 a10 a11 a12 a13 a14) (ck_pb1 a1 c y) 8 a8 (fun n => pk_le 8 8 (fun _ => nm_r (nI_1 y) H) (fun z => absurd z (by omega))) ?_
  intro n i t hi h
  refine pk_le 8 i (fun z => absurd z (by omega)) (fun _ => ?_)
  have hb := hP (64 * c + 8 * y + i) (by omega)
  rw [ck_i64, ck_ipb, nI_clamp (by omega), nI_clamp (by omega)]
  exact ⟨vp_in_nI (by omega) (by omega), ck_redw hb.1 hb.2 ⟨vp_in_nI (by omega) (by omega), nm_e (nm_r (nI_1 i) h)⟩⟩
theorem ck_a13 {J : Int32 → (Nat → Int32) → (Nat → Int32) → (Nat → Int32) → (Nat → Int32) → (Nat → Int32) → (Nat → Int32) → (Nat → Int32) → (Nat → Int32) → (Nat → Int32) → (Nat → Int32) → (Nat → Int32) → (Nat → Int32) → (Nat → Int32) → (Nat → Int32) → Prop} {c y : Nat} (hK : ck_KB a2) (hc : c < 2) (hy : y < 3) (H : J (nI (y + 1)) a1 a2 a3 a4 a5 a6 a7 (ck_ka2 a2 c y a8) a9 a10 a11 a12 a13 a14) : ∃ n, wX_addTransformed_13 posu J (nI c) (nI y) f1 f2 f3 f4 n 0 a1 a2 a3 a4 a5 a6 a7 a8 a9 a10 a11 a12 a13 a14 := by
  refine ck_loopF (fun n i t => wX_addTransformed_13 posu J (nI c) (nI y) f1 f2 f3 f4 n (nI i) a1 a2 a3 a4 a5 a6 a7 t a9 a10 a11 a12 a13 a14) (ck_ka1 a2 c y) 3 a8 (fun n => pk_le 3 3 (fun _ => nm_r (nI_1 y) H) (fun z => absurd z (by omega))) ?_
  intro n i t hi h
  refine pk_le 3 i (fun z => absurd z (by omega)) (fun _ => ?_)
  have hb := hK (9 * c + 3 * y + i) (by omega)
  rw [ck_ika, ck_ikb hy hi, nI_clamp (by omega), nI_clamp (by omega)]
  exact ⟨vp_in_nI (by omega) (by omega), ck_redw (by omega) (by omega) ⟨vp_in_nI (by omega) (by omega), nm_e (nm_r (nI_1 i) h)⟩⟩
theorem ck_a102 {c : Nat} {τ α T : Nat → Nat} (hP : ck_PB a1) (hc : c < 2) (hT : ck_tb16 a12 T) (h8 : ∀ j, j < 256 → a8 j = 0) (h9 : ck_pl a9 α) (h10 : ck_pl a10 τ) (H : ∀ z8 z10 z11, ck_pl z10 (fun j => (τ j + ck_tf T (ck_B a1 c) j * α j) % 7681) → posu (f1, f2, f3, f4, a1, a2, a3, a4, a5, a6, a7, z8, a9, z10, z11, a12, a13, a14)) : ∃ n, wX_addTransformed_102 posu (nI c) f1 f2 f3 f4 n 0 a1 a2 a3 a4 a5 a6 a7 a8 a9 a10 a11 a12 a13 a14 :=
  ck_loopF (fun n i t => wX_addTransformed_102 posu (nI c) f1 f2 f3 f4 n (nI i) a1 a2 a3 a4 a5 a6 a7 t a9 a10 a11 a12 a13 a14) (ck_pb2 a1 c) 8 a8
    (fun n => pk_le 8 8 (fun _ => ck_transformw (ck_pb_v a1 c h8) (Or.inl ⟨rfl, hT⟩) (fun z8 z11 hz => ck_a170 hz h9 h10 (fun z10 hz10 => H z8 z10 z11 hz10))) (fun z => absurd z (by omega)))
    (fun n i t hi h => pk_le 8 i (fun z => absurd z (by omega)) (fun _ => ck_a110 hP hc hi h))
theorem ck_a71 {c : Nat} {τ α T : Nat → Nat} (hP : ck_PB a1) (hc : c < 2) (hT : ck_tb16 a12 T) (h8 : ck_pl a8 α) (h10 : ck_pl a10 τ) (H : ∀ z8 z9 z10 z11, ck_pl z10 (fun j => (τ j + ck_tf T (ck_B a1 c) j * α j) % 7681) → posu (f1, f2, f3, f4, a1, a2, a3, a4, a5, a6, a7, z8, z9, z10, z11, a12, a13, a14)) : ∃ n, wX_addTransformed_71 posu (nI c) f1 f2 f3 f4 n 0 a1 a2 a3 a4 a5 a6 a7 a8 a9 a10 a11 a12 a13 a14 := by
  refine pk_loop (fun n i t => wX_addTransformed_71 posu (nI c) f1 f2 f3 f4 n (nI i) a1 a2 a3 a4 a5 a6 a7 a8 t a10 a11 a12 a13 a14) (fun i t => ∀ j, j < i → t j = a8 j) 256 0 a9 (by omega) (fun j hj => absurd hj (by omega)) ?_ ?_
  · intro n t ht
    exact pk_le 256 256 (fun _ => ck_clearw (fun z8 hz8 => ck_a102 hP hc hT hz8 (fun j hj => by rw [ht j hj]; exact h8 j hj) h10 (fun z8 z10 z11 hz => H z8 t z10 z11 hz))) (fun z => absurd z (by omega))
  · intro n i t hi ht hw
    refine pk_le 256 i (fun z => absurd z (by omega)) (fun _ => ?_)
    rw [nI_clamp (by omega)]
    refine ⟨vp_in_nI (by omega) (by omega), vp_in_nI (by omega) (by omega), nm_e (nm_r (nI_1 i) (hw _ (fun j hj => ?_)))⟩
    by_cases e : j = i
    · subst e
      rw [pk_us]
    · rw [pk_un e]
      exact ht j (by omega)
theorem ck_addTransw {c : Nat} {τ T : Nat → Nat} (hP : ck_PB a1) (hK : ck_KB a2) (hc : c < 2) (hT : ck_tb16 a12 T) (h10 : ck_pl a10 τ) (H : ∀ z8 z9 z10 z11, ck_pl z10 (ck_tt T a1 a2 c τ) → posu (f1, f2, f3, f4, a1, a2, a3, a4, a5, a6, a7, z8, z9, z10, z11, a12, a13, a14)) : wpX_addTransformed posu (f1, f2, f3, f4, a1, a2, a3, a4, a5, a6, a7, a8, a9, a10, a11, a12, a13, a14) (nI c) := by
  unfold wpX_addTransformed
  refine ck_clearw (fun z8 hz8 => ?_)
  exact ck_loopF (fun n i t => wX_addTransformed_6 posu (nI c) f1 f2 f3 f4 n (nI i) a1 a2 a3 a4 a5 a6 a7 t a9 a10 a11 a12 a13 a14) (ck_ka2 a2 c) 3 z8
    (fun n => pk_le 3 3 (fun _ => ck_transformw (ck_ka_v a2 c hz8) (Or.inl ⟨rfl, hT⟩) (fun z8 z11 hz => ck_a71 hP hc hT hz h10 H)) (fun z => absurd z (by omega)))
    (fun n i t hi h => pk_le 3 i (fun z => absurd z (by omega)) (fun _ => ck_a13 hK hc hi h))
end
end
section
def ck_TR : Nat → Nat := fun j => 7098 ^ j % 7681
def ck_TB : Nat → Nat := fun j => (7098 ^ 15) ^ j % 7681
theorem ck_w15 : ck_cg ((7098 ^ 15) ^ 16) 1 := by unfold ck_cg; decide +kernel
theorem ck_RT_t : ck_tb16 ck_RT ck_TR := fun j hj => ⟨Nat.mod_lt _ (by decide), ck_RT_v j hj⟩
theorem ck_BK_t : ck_tb16 ck_BK ck_TB := fun j hj => ⟨Nat.mod_lt _ (by decide), ck_BK_v j hj⟩
theorem ck_ln_g {q : Nat} {T : Nat → Nat} (hT : ∀ j, ck_cg (T j) (q ^ j)) (hq : ck_cg (q ^ 16) 1) (p : Nat → Nat) (f st k : Nat) : ck_cg (ck_ln p T f st k) (ck_S (fun i => p (f + i * st) * q ^ (k * i)) 16) :=
  ck_cg_t (ck_cg_mod _) (ck_S_cg (fun i _ => ck_cg_t (ck_cg_mod _) (ck_cg_mul (ck_cg_r _) (ck_cg_t (hT _) (ck_cg_s (ck_wmod hq _))))))
theorem ck_tf_g {q : Nat} {T : Nat → Nat} (hT : ∀ j, ck_cg (T j) (q ^ j)) (hq : ck_cg (q ^ 16) 1) (p : Nat → Nat) {v u : Nat} (hu : u < 16) : ck_cg (ck_tf T p (16 * v + u)) (ck_tr q (fun a b => p (16 * a + b)) v u) := by
  unfold ck_tf
  rw [show (16 * v + u) % 16 = u by omega, show (16 * v + u) / 16 = v by omega]
  refine ck_cg_t (ck_ln_g hT hq _ _ _ _) (ck_S_cg (fun a _ => ck_cg_mul ?_ (ck_cg_r _)))
  unfold ck_t1
  rw [show (u + a * 16) / 16 = a by omega, show (u + a * 16) % 16 = u by omega]
  refine ck_cg_t (ck_ln_g hT hq _ _ _ _) ?_
  rw [ck_S_congr (g := fun b => p (16 * a + b) * q ^ (u * b)) (fun b _ => by rw [Nat.mul_one])]
  exact ck_cg_r _
theorem ck_TR_g (j : Nat) : ck_cg (ck_TR j) (7098 ^ j) := ck_cg_mod _
theorem ck_TB_g (j : Nat) : ck_cg (ck_TB j) ((7098 ^ 15) ^ j) := ck_cg_mod _
/-- both kernels -/
def ck_t2 (P K : Nat → Int32) : Nat → Nat := ck_tt ck_TR P K 1 (ck_tt ck_TR P K 0 (fun _ => 0))
theorem ck_t2_g (P K : Nat → Int32) {v u : Nat} (hu : u < 16) : ck_cg (ck_t2 P K (16 * v + u))
    (ck_tr 7098 (fun a b => ck_A K 0 (16 * a + b)) v u * ck_tr 7098 (fun a b => ck_B P 0 (16 * a + b)) v u + ck_tr 7098 (fun a b => ck_A K 1 (16 * a + b)) v u * ck_tr 7098 (fun a b => ck_B P 1 (16 * a + b)) v u) := by
  have h : ∀ c, ck_cg (ck_tf ck_TR (ck_B P c) (16 * v + u) * ck_tf ck_TR (ck_A K c) (16 * v + u)) (ck_tr 7098 (fun a b => ck_A K c (16 * a + b)) v u * ck_tr 7098 (fun a b => ck_B P c (16 * a + b)) v u) := fun c => by
    rw [Nat.mul_comm (ck_tf ck_TR (ck_B P c) (16 * v + u))]
    exact ck_cg_mul (ck_tf_g ck_TR_g ck_w16 _ hu) (ck_tf_g ck_TR_g ck_w16 _ hu)
  refine ck_cg_t (ck_cg_mod _) (ck_cg_add (ck_cg_t (ck_cg_mod _) ?_) (h 1))
  rw [Nat.zero_add]
  exact h 0
def ck_D (P K : Nat → Int32) : Nat → Nat := ck_tf ck_TB (ck_t2 P K)
def ck_N (P K : Nat → Int32) (c Y X : Nat) : Nat := ck_S (fun b => ck_S (fun a => ck_A K c (16 * a + b) * ck_B P c (16 * ((Y + 15 * a) % 16) + (X + 15 * b) % 16)) 16) 16
theorem ck_D_g (P K : Nat → Int32) {Y X : Nat} (hX : X < 16) : ck_cg (ck_D P K (16 * Y + X)) (256 * (ck_N P K 0 Y X + ck_N P K 1 Y X)) := by
  refine ck_cg_t (ck_tf_g ck_TB_g ck_w15 _ hX) ?_
  unfold ck_tr
  refine ck_cg_t (b := ck_S (fun v => ck_S (fun u => ck_tr 7098 (fun a b => ck_A K 0 (16 * a + b)) v u * ck_tr 7098 (fun a b => ck_B P 0 (16 * a + b)) v u * 7098 ^ (15 * (X * u))) 16 * 7098 ^ (15 * (Y * v))) 16
    + ck_S (fun v => ck_S (fun u => ck_tr 7098 (fun a b => ck_A K 1 (16 * a + b)) v u * ck_tr 7098 (fun a b => ck_B P 1 (16 * a + b)) v u * 7098 ^ (15 * (X * u))) 16 * 7098 ^ (15 * (Y * v))) 16) ?_ ?_
  · rw [← ck_S_add]
    refine ck_S_cg (fun v _ => ?_)
    rw [← Nat.add_mul, ← Nat.pow_mul, ← ck_S_add]
    refine ck_cg_mul (ck_S_cg (fun u hu => ?_)) (ck_cg_r _)
    rw [← Nat.add_mul, ← Nat.pow_mul]
    exact ck_cg_mul (ck_t2_g P K hu) (ck_cg_r _)
  · rw [Nat.mul_add]
    exact ck_cg_add (ck_conv2 (fun a b => ck_A K 0 (16 * a + b)) (fun a b => ck_B P 0 (16 * a + b)) Y X) (ck_conv2 (fun a b => ck_A K 1 (16 * a + b)) (fun a b => ck_B P 1 (16 * a + b)) Y X)
theorem ck_S3 {f : Nat → Nat} (h : ∀ i, 3 ≤ i → i < 16 → f i = 0) : ck_S f 16 = f 0 + f 1 + f 2 := by
  have e : ck_S f 16 = 0 + f 0 + f 1 + f 2 + f 3 + f 4 + f 5 + f 6 + f 7 + f 8 + f 9 + f 10 + f 11 + f 12 + f 13 + f 14 + f 15 := rfl
  rw [e, h 3 (by omega) (by omega), h 4 (by omega) (by omega), h 5 (by omega) (by omega), h 6 (by omega) (by omega), h 7 (by omega) (by omega), h 8 (by omega) (by omega), h 9 (by omega) (by omega), h 10 (by omega) (by omega), h 11 (by omega) (by omega), h 12 (by omega) (by omega), h 13 (by omega) (by omega), h 14 (by omega) (by omega), h 15 (by omega) (by omega)]
  omega
def ck_M (P K : Nat → Int32) (s m x y k : Nat) : Nat := ck_rd (K k) * ck_rd (ck_at P (k / 9) m (s * x + k % 3) (s * y + k % 9 / 3))
theorem ck_rd0 : ck_rd 0 = 0 := rfl
theorem ck_term (P K : Nat → Int32) {s m x y c a b Y X : Nat} (ha : a < 3) (hb : b < 3) (hm : m ≤ 1) (hY : Y = s * y + 3 - m) (hX : X = s * x + 3 - m) (hY1 : Y < 16) (hX1 : X < 16) :
    ck_A K c (16 * a + b) * ck_B P c (16 * ((Y + 15 * a) % 16) + (X + 15 * b) % 16) = ck_M P K s m x y (9 * c + (3 * (2 - a) + (2 - b))) := by
  have e1 : ck_A K c (16 * a + b) = ck_rd (K (9 * c + (3 * (2 - a) + (2 - b)))) := by
    unfold ck_A
    rw [show (16 * a + b) / 16 = a by omega, show (16 * a + b) % 16 = b by omega, if_pos ⟨ha, hb⟩, Nat.add_assoc]
  have e2 : (Y + 15 * a) % 16 = Y - a := by omega
  have e3 : (X + 15 * b) % 16 = X - b := by omega
  have e4 : ck_B P c (16 * (Y - a) + (X - b)) = ck_rd (ck_at P c m (s * x + (2 - b)) (s * y + (2 - a))) := by
    unfold ck_B ck_at
    rw [show (16 * (Y - a) + (X - b)) / 16 = Y - a by omega, show (16 * (Y - a) + (X - b)) % 16 = X - b by omega]
    by_cases h : (1 ≤ Y - a ∧ Y - a ≤ 8) ∧ (1 ≤ X - b ∧ X - b ≤ 8)
    · rw [if_pos h, if_pos (by omega), show 64 * c + 8 * (Y - a - 1) + (X - b - 1) = 64 * c + 8 * (s * y + (2 - a) - m) + (s * x + (2 - b) - m) by omega]
    · rw [if_neg h, if_neg (by omega), ck_rd0]
  unfold ck_M
  rw [e1, e2, e3, e4, show (9 * c + (3 * (2 - a) + (2 - b))) / 9 = c by omega, show (9 * c + (3 * (2 - a) + (2 - b))) % 3 = 2 - b by omega, show (9 * c + (3 * (2 - a) + (2 - b))) % 9 / 3 = 2 - a by omega]
theorem ck_A_0 {K : Nat → Int32} {c a b : Nat} (h : 3 ≤ a ∨ 3 ≤ b) (hb : b < 16) : ck_A K c (16 * a + b) = 0 := by
  unfold ck_A
  rw [show (16 * a + b) / 16 = a by omega, show (16 * a + b) % 16 = b by omega, if_neg (by omega)]
theorem ck_N_v (P K : Nat → Int32) {s m x y Y X : Nat} (c : Nat) (hm : m ≤ 1) (hY : Y = s * y + 3 - m) (hX : X = s * x + 3 - m) (hY1 : Y < 16) (hX1 : X < 16) :
    ck_N P K c Y X = (ck_M P K s m x y (9 * c + 8) + ck_M P K s m x y (9 * c + 5) + ck_M P K s m x y (9 * c + 2)) + (ck_M P K s m x y (9 * c + 7) + ck_M P K s m x y (9 * c + 4) + ck_M P K s m x y (9 * c + 1)) + (ck_M P K s m x y (9 * c + 6) + ck_M P K s m x y (9 * c + 3) + ck_M P K s m x y (9 * c + 0)) := by
  have hr : ∀ b, b < 3 → ck_S (fun a => ck_A K c (16 * a + b) * ck_B P c (16 * ((Y + 15 * a) % 16) + (X + 15 * b) % 16)) 16 = ck_M P K s m x y (9 * c + (3 * (2 - 0) + (2 - b))) + ck_M P K s m x y (9 * c + (3 * (2 - 1) + (2 - b))) + ck_M P K s m x y (9 * c + (3 * (2 - 2) + (2 - b))) := by
    intro b hb
    rw [ck_S3 (fun a h3 _ => by rw [ck_A_0 (Or.inl h3) (by omega), Nat.zero_mul])]
    rw [ck_term P K (show 0 < 3 by decide) hb hm hY hX hY1 hX1, ck_term P K (show 1 < 3 by decide) hb hm hY hX hY1 hX1, ck_term P K (show 2 < 3 by decide) hb hm hY hX hY1 hX1]
  unfold ck_N
  rw [ck_S3 (fun b h3 hb => ?_)]
  · rw [hr 0 (by decide), hr 1 (by decide), hr 2 (by decide)]
  · rw [ck_S_congr (g := fun _ => 0) (fun a _ => by rw [ck_A_0 (Or.inr h3) hb, Nat.zero_mul]), ck_S_0]
theorem ck_ci_S {f : Nat → Nat} {g : Nat → Int} {n : Nat} (h : ∀ i, i < n → ck_ci (f i : Int) (g i)) : ck_ci ((ck_S f n : Nat) : Int) (ck_sI g n) := by
  induction n with
  | zero => rfl
  | succ n ih =>
    show ck_ci ((ck_S f n + f n : Nat) : Int) (ck_sI g n + g n)
    rw [Int.natCast_add]
    exact ck_ci_add (ih (fun i hi => h i (by omega))) (h n (by omega))
def ck_vv (d : Nat) : Int32 := if d * 7651 % 7681 ≤ 3840 then nI (d * 7651 % 7681) else nI (d * 7651 % 7681) - 7681
theorem ck_vv_v {d : Nat} {v : Int32} (h : ck_ci ((d * 7651 % 7681 : Nat) : Int) v.toInt) (h1 : -3240 ≤ v.toInt) (h2 : v.toInt ≤ 3240) : ck_vv d = v := by
  have hr : d * 7651 % 7681 < 7681 := Nat.mod_lt _ (by decide)
  unfold ck_vv
  generalize d * 7651 % 7681 = r at *
  unfold ck_ci at h
  apply Int32.toInt_inj.mp
  by_cases e : r ≤ 3840
  · rw [if_pos e, nI_toInt (by omega)]
    omega
  · have e3 : (7681 : Int32).toInt = 7681 := by decide
    have e4 : (nI r).toInt = r := nI_toInt (by omega)
    rw [if_neg e, ck_tsub (by rw [e3, e4]; omega) (by rw [e3, e4]; omega), e3, e4]
    omega
theorem ck_D_v {P K : Nat → Int32} (hP : ck_PB P) (hK : ck_KB K) {s m x y : Nat} (hm : m ≤ 1) (hY1 : s * y + 3 - m < 16) (hX1 : s * x + 3 - m < 16) :
    ck_vv (ck_D P K (16 * (s * y + 3 - m) + (s * x + 3 - m))) = ck_cv P K s m x y := by
  obtain ⟨e, b1, b2⟩ := ck_cv_b hP hK s m x y
  refine ck_vv_v ?_ b1 b2
  have g := ck_D_g P K (Y := s * y + 3 - m) hX1
  rw [ck_N_v P K 0 hm rfl rfl hY1 hX1, ck_N_v P K 1 hm rfl rfl hY1 hX1] at g
  have eS : ck_S (ck_M P K s m x y) 18 = 0 + ck_M P K s m x y 0 + ck_M P K s m x y 1 + ck_M P K s m x y 2 + ck_M P K s m x y 3 + ck_M P K s m x y 4 + ck_M P K s m x y 5 + ck_M P K s m x y 6 + ck_M P K s m x y 7 + ck_M P K s m x y 8 + ck_M P K s m x y 9 + ck_M P K s m x y 10 + ck_M P K s m x y 11 + ck_M P K s m x y 12 + ck_M P K s m x y 13 + ck_M P K s m x y 14 + ck_M P K s m x y 15 + ck_M P K s m x y 16 + ck_M P K s m x y 17 := rfl
  have g2 : ck_cg (ck_D P K (16 * (s * y + 3 - m) + (s * x + 3 - m))) (256 * ck_S (ck_M P K s m x y) 18) := by
    refine ck_cg_t g ?_
    rw [eS]
    simp only [Nat.mul_zero, Nat.mul_one, Nat.zero_add, Nat.reduceAdd]
    refine (congrArg (fun z => ck_cg _ z) ?_).mp (ck_cg_r _)
    omega
  have g3 : ck_cg (ck_D P K (16 * (s * y + 3 - m) + (s * x + 3 - m)) * 7651 % 7681) (ck_S (ck_M P K s m x y) 18) := by
    refine ck_cg_t (ck_cg_mod _) (ck_cg_t (ck_cg_mul g2 (ck_cg_r 7651)) ?_)
    rw [Nat.mul_right_comm]
    refine ck_cg_t (ck_cg_mul (b := 1) (show ck_cg (256 * 7651) 1 from by unfold ck_cg; decide) (ck_cg_r _)) ?_
    rw [Nat.one_mul]
    exact ck_cg_r _
  rw [e]
  exact Eq.trans (ck_ci_n g3) (ck_ci_S (fun k _ => ck_ci_m))
end
section
def ck_tw1 (V : Nat → Nat → Int32) (y x : Nat) (t : Nat → Int32) : Nat → Int32 := upd t (8 * y + x) (V y x)
def ck_tw2 (V : Nat → Nat → Int32) (w y : Nat) (t : Nat → Int32) : Nat → Int32 := ck_it (ck_tw1 V y) w t
theorem ck_tw_v (V : Nat → Nat → Int32) {w : Nat} (hw : w ≤ 8) (t : Nat → Int32) (j : Nat) : ck_it (ck_tw2 V w) w t j = if j % 8 < w ∧ j / 8 < w then V (j / 8) (j % 8) else t j := by
  refine ck_itI (fun y (u : Nat → Int32) => ∀ j, u j = if j % 8 < w ∧ j / 8 < y then V (j / 8) (j % 8) else t j) ?_ ?_ j
  · intro j
    rw [if_neg (by omega)]
  · intro y u hy hu
    have h2 : ∀ j, ck_tw2 V w y u j = if j % 8 < w ∧ (j / 8 < y ∨ (j / 8 = y ∧ j % 8 < w)) then V (j / 8) (j % 8) else t j := by
      refine ck_itI (fun x (u : Nat → Int32) => ∀ j, u j = if j % 8 < w ∧ (j / 8 < y ∨ (j / 8 = y ∧ j % 8 < x)) then V (j / 8) (j % 8) else t j) ?_ ?_
      · intro j
        rw [hu j]
        by_cases e : j % 8 < w ∧ j / 8 < y
        · rw [if_pos e, if_pos (by omega)]
        · rw [if_neg e, if_neg (by omega)]
      · intro x u hx hu j
        show upd u (8 * y + x) (V y x) j = _
        by_cases e : j = 8 * y + x
        · rw [if_pos (by omega), e, pk_us, show (8 * y + x) / 8 = y by omega, show (8 * y + x) % 8 = x by omega]
        · rw [pk_un e, hu j]
          by_cases e2 : j % 8 < w ∧ (j / 8 < y ∨ (j / 8 = y ∧ j % 8 < x))
          · rw [if_pos e2, if_pos (by omega)]
          · rw [if_neg e2, if_neg (by omega)]
    intro j
    show ck_tw2 V w y u j = _
    rw [h2 j]
    by_cases e2 : j % 8 < w ∧ (j / 8 < y ∨ (j / 8 = y ∧ j % 8 < w))
    · rw [if_pos e2, if_pos (by omega)]
    · rw [if_neg e2, if_neg (by omega)]
def ck_V (P K : Nat → Int32) (s m : Nat) : Nat → Nat → Int32 := fun y x => ck_cv P K s m x y
theorem ck_trans_v (P K : Nat → Int32) (s m : Nat) {w : Nat} (hw : w ≤ 8) (O : Nat → Int32) : ck_it (ck_tw2 (ck_V P K s m) w) w (ck_ze O) = ck_out P K s m w O := by
  funext j
  rw [ck_tw_v _ hw]
  unfold ck_out
  by_cases h : j % 8 < w ∧ j / 8 < w
  · rw [if_pos h, if_pos (show j < 64 ∧ j % 8 < w ∧ j / 8 < w by omega)]
    rfl
  · rw [if_neg h, if_neg (show ¬ (j < 64 ∧ j % 8 < w ∧ j / 8 < w) by omega)]
theorem ck_ifi {s m y x : Nat} (hm : m ≤ 1) : (((16 : Int32) * (((nI s * nI y) + 3) - nI m)) + (nI s * nI x) + 3) - nI m = nI (16 * (s * y + 3 - m) + (s * x + 3 - m)) := by
  rw [pk_mul, pk_mul, ck_p3, pk_sub (by omega), show (16 : Int32) * nI (s * y + 3 - m) = nI (16 * (s * y + 3 - m)) from pk_mul 16 _, nI_add, ck_p3, pk_sub (by omega)]
  exact congrArg nI (by omega)
section
variable {f1 f2 f3 f4 : Int32} {a1 a2 a3 a4 a5 a6 a7 a8 a9 a10 a11 a12 a13 a14 : Nat → Int32}
variable {post : Int32 → Prop} {poss : Int32 → St1 → Prop} {posu : St1 → Prop}
theorem ck_f87 {J : Int32 → (Nat → Int32) → (Nat → Int32) → (Nat → Int32) → (Nat → Int32) → (Nat → Int32) → (Nat → Int32) → (Nat → Int32) → (Nat → Int32) → (Nat → Int32) → (Nat → Int32) → (Nat → Int32) → (Nat → Int32) → (Nat → Int32) → (Nat → Int32) → Prop} {s m w y : Nat} {D : Nat → Nat} {V : Nat → Nat → Int32} (hm : m ≤ 1) (hw : w ≤ 8) (hy : y < w) (h8 : ck_pl a8 D)
    (hv : ∀ x, x < w → 16 * (s * y + 3 - m) + (s * x + 3 - m) < 256 ∧ ck_vv (D (16 * (s * y + 3 - m) + (s * x + 3 - m))) = V y x) (H : J (nI (y + 1)) a1 a2 (ck_tw2 V w y a3) a4 a5 a6 a7 a8 a9 a10 a11 a12 a13 a14) : ∃ n, wX_moveByTransforms_87 posu J 7651 (nI y) (nI s) (nI m) f3 (nI w) n 0 a1 a2 a3 a4 a5 a6 a7 a8 a9 a10 a11 a12 a13 a14 := by
  refine ck_loopF (fun n i t => wX_moveByTransforms_87 posu J 7651 (nI y) (nI s) (nI m) f3 (nI w) n (nI i) a1 a2 t a4 a5 a6 a7 a8 a9 a10 a11 a12 a13 a14) (ck_tw1 V y) w a3 (fun n => pk_le w w (fun _ => nm_r (nI_1 y) H) (fun z => absurd z (by omega))) ?_
  intro n i t hi h
  refine pk_le w i (fun z => absurd z (by omega)) (fun _ => nm_r (ck_ifi hm) ?_)
  obtain ⟨v1, v2⟩ := hv i hi
  obtain ⟨b1, e1⟩ := h8 _ v1
  rw [nI_clamp (by omega), e1, show ∀ d, nI d * 7651 = nI (d * 7651) from fun d => pk_mul d 7651, ck_rem (by omega), ck_i8, nI_clamp (by omega)]
  refine ⟨vp_in_nI v1 (by omega), by decide, nm_e ?_⟩
  have hr : D (16 * (s * y + 3 - m) + (s * i + 3 - m)) * 7651 % 7681 < 7681 := Nat.mod_lt _ (by decide)
  unfold ck_vv at v2
  unfold ck_tw1 at h
  refine pk_le (D (16 * (s * y + 3 - m) + (s * i + 3 - m)) * 7651 % 7681) 3840 (fun z => ⟨vp_in_nI (by omega) (by omega), nm_e (nm_r (nI_1 i) ?_)⟩) (fun z => ⟨vp_in_nI (by omega) (by omega), nm_e (nm_r (nI_1 i) ?_)⟩)
  · rw [if_pos z] at v2
    rw [v2]
    exact h
  · rw [if_neg (by omega)] at v2
    rw [v2]
    exact h
theorem ck_f77 {s m w : Nat} {D : Nat → Nat} {V : Nat → Nat → Int32} (hm : m ≤ 1) (hw : w ≤ 8) (h8 : ck_pl a8 D)
    (hv : ∀ y x, y < w → x < w → 16 * (s * y + 3 - m) + (s * x + 3 - m) < 256 ∧ ck_vv (D (16 * (s * y + 3 - m) + (s * x + 3 - m))) = V y x) (H : posu (nI s, nI m, f3, nI w, a1, a2, ck_it (ck_tw2 V w) w a3, a4, a5, a6, a7, a8, a9, a10, a11, a12, a13, a14)) : ∃ n, wX_moveByTransforms_77 posu 7651 (nI s) (nI m) f3 (nI w) n 0 a1 a2 a3 a4 a5 a6 a7 a8 a9 a10 a11 a12 a13 a14 :=
  ck_loopF (fun n i t => wX_moveByTransforms_77 posu 7651 (nI s) (nI m) f3 (nI w) n (nI i) a1 a2 t a4 a5 a6 a7 a8 a9 a10 a11 a12 a13 a14) (ck_tw2 V w) w a3 (fun n => pk_le w w (fun _ => H) (fun z => absurd z (by omega)))
    (fun n i t hi h => pk_le w i (fun z => absurd z (by omega)) (fun _ => ck_f87 hm hw hi h8 (fun x hx => hv i x hi hx) h))
theorem ck_f34 {s m w : Nat} {τ TB : Nat → Nat} {V : Nat → Nat → Int32} (hm : m ≤ 1) (hw : w ≤ 8) (h10 : ck_pl a10 τ) (hT : ck_tb16 a13 TB)
    (hv : ∀ y x, y < w → x < w → 16 * (s * y + 3 - m) + (s * x + 3 - m) < 256 ∧ ck_vv (ck_tf TB τ (16 * (s * y + 3 - m) + (s * x + 3 - m))) = V y x) (H : ∀ z8 z11, posu (nI s, nI m, f3, nI w, a1, a2, ck_it (ck_tw2 V w) w a3, a4, a5, a6, a7, z8, a9, a10, z11, a12, a13, a14)) : ∃ n, wX_moveByTransforms_34 posu (nI s) (nI m) f3 (nI w) n 0 a1 a2 a3 a4 a5 a6 a7 a8 a9 a10 a11 a12 a13 a14 := by
  refine pk_loop (fun n i t => wX_moveByTransforms_34 posu (nI s) (nI m) f3 (nI w) n (nI i) a1 a2 a3 a4 a5 a6 a7 t a9 a10 a11 a12 a13 a14) (fun i t => ∀ j, j < i → t j = a10 j) 256 0 a8 (by omega) (fun j hj => absurd hj (by omega)) ?_ ?_
  · intro n t ht
    exact pk_le 256 256 (fun _ => ck_transformw (p := τ) (fun j hj => by rw [ht j hj]; exact h10 j hj) (Or.inr ⟨by decide, hT⟩) (fun z8 z11 hz => ck_pow ck_pow_c (ck_f77 hm hw hz hv (H z8 z11)))) (fun z => absurd z (by omega))
  · intro n i t hi ht hw
    refine pk_le 256 i (fun z => absurd z (by omega)) (fun _ => ?_)
    rw [nI_clamp (by omega)]
    refine ⟨vp_in_nI (by omega) (by omega), vp_in_nI (by omega) (by omega), nm_e (nm_r (nI_1 i) (hw _ (fun j hj => ?_)))⟩
    by_cases e : j = i
    · subst e
      rw [pk_us]
    · rw [pk_un e]
      exact ht j (by omega)
theorem ck_transw {s m w : Nat} (hP : ck_PB a1) (hK : ck_KB a2) (hs : s = 1 ∨ s = 2) (hm : m ≤ 1) (hw : w = ck_wd s m) (h12 : a12 = ck_RT) (h13 : a13 = ck_BK)
    (H : ∀ z8 z9 z10 z11, posu (nI s, nI m, f3, nI w, a1, a2, ck_it (ck_tw2 (ck_V a1 a2 s m) w) w a3, a4, a5, a6, a7, z8, z9, z10, z11, a12, a13, a14)) : wpX_moveByTransforms posu (nI s, nI m, f3, nI w, a1, a2, a3, a4, a5, a6, a7, a8, a9, a10, a11, a12, a13, a14) := by
  have hw8 : w ≤ 8 := by rw [hw]; exact ck_wd8 hs hm
  have hR : ck_tb16 a12 ck_TR := by rw [h12]; exact ck_RT_t
  have hB : ck_tb16 a13 ck_TB := by rw [h13]; exact ck_BK_t
  have hb : ∀ y, y < w → s * y + 3 - m < 16 := by
    intro y hy
    unfold ck_wd at hw
    rcases hs with rfl | rfl
    · omega
    · rw [if_neg (by decide)] at hw
      omega
  refine pk_loop (fun n i t => wX_moveByTransforms_2 posu (nI s) (nI m) f3 (nI w) n (nI i) a1 a2 a3 a4 a5 a6 a7 a8 a9 t a11 a12 a13 a14) (fun i t => ∀ j, j < i → t j = 0) 256 0 a10 (by omega) (fun j hj => absurd hj (by omega)) ?_ ?_
  · intro n t ht
    refine pk_le 256 256 (fun _ => ?_) (fun z => absurd z (by omega))
    refine ck_addTransw (c := 0) (τ := fun _ => 0) hP hK (by decide) hR (fun j hj => ⟨(show (0 : Nat) < 7681 by decide), ht j hj⟩) (fun z8 z9 z10 z11 hz => ?_)
    refine ck_addTransw (c := 1) hP hK (by decide) hR hz (fun z8 z9 z10 z11 hz => ?_)
    refine ck_f34 hm hw8 hz hB (fun y x hy hx => ⟨?_, ck_D_v hP hK hm (hb y hy) (hb x hx)⟩) (fun z8 z11 => H z8 z9 z10 z11)
    have h1 := hb y hy
    have h2 := hb x hx
    omega
  · intro n i t hi ht hw
    refine pk_le 256 i (fun z => absurd z (by omega)) (fun _ => ?_)
    rw [nI_clamp (by omega)]
    refine ⟨vp_in_nI (by omega) (by omega), nm_e (nm_r (nI_1 i) (hw _ (fun j hj => ?_)))⟩
    by_cases e : j = i
    · subst e
      rw [pk_us]
    · rw [pk_un e]
      exact ht j (by omega)
def ck_zi (i : Nat) (t : Nat → Int32) : Nat → Int32 := upd t i 0
theorem ck_zi_v (O : Nat → Int32) : ck_it ck_zi 64 O = ck_ze O := by
  have h : ∀ j, ck_it ck_zi 64 O j = if j < 64 then 0 else O j := by
    refine ck_itI (fun i (u : Nat → Int32) => ∀ j, u j = if j < i then 0 else O j) ?_ ?_
    · intro j
      rw [if_neg (by omega)]
    · intro i u hi hu j
      show upd u i 0 j = _
      by_cases e : j = i
      · rw [if_pos (by omega), e, pk_us]
      · rw [pk_un e, hu j]
        by_cases e2 : j < i
        · rw [if_pos e2, if_pos (by omega)]
        · rw [if_neg e2, if_neg (by omega)]
  funext j
  exact h j
/-- a move, whichever way is chosen -/
theorem ck_m68 {s m z : Nat} (hP : ck_PB a1) (hK : ck_KB a2) (hs : s = 1 ∨ s = 2) (hm : m ≤ 1) (hz : z ≤ 3) (h12 : a12 = ck_RT) (h13 : a13 = ck_BK)
    (H : ∀ z4 z5 z6 z7 z8 z9 z10 z11 z14, poss (nI (ck_wd s m)) (nI s, nI m, f3, nI (ck_wd s m), a1, a2, ck_out a1 a2 s m (ck_wd s m) a3, z4, z5, z6, z7, z8, z9, z10, z11, a12, a13, z14)) : wX_move_68 poss (nI z) (nI s) (nI m) f3 (nI (ck_wd s m)) a1 a2 (ck_ze a3) a4 a5 a6 a7 a8 a9 a10 a11 a12 a13 a14 := by
  have hw8 : ck_wd s m ≤ 8 := ck_wd8 hs hm
  refine pk_eq z 2 (fun _ => ?_) (fun _ => ?_)
  · refine ck_transw hP hK hs hm rfl h12 h13 (fun z8 z9 z10 z11 => ?_)
    rw [ck_trans_v _ _ _ _ hw8]
    exact H _ _ _ _ _ _ _ _ _
  · refine ck_windowsw (by omega) hm hw8 ?_
    rw [ck_windows_v _ _ _ _ hw8]
    exact H _ _ _ _ _ _ _ _ _
theorem ck_m47 {s m z : Nat} (hP : ck_PB a1) (hK : ck_KB a2) (hs : s = 1 ∨ s = 2) (hm : m ≤ 1) (hz : z ≤ 3) (h12 : a12 = ck_RT) (h13 : a13 = ck_BK)
    (H : ∀ z4 z5 z6 z7 z8 z9 z10 z11 z14, poss (nI (ck_wd s m)) (nI s, nI m, f3, nI (ck_wd s m), a1, a2, ck_out a1 a2 s m (ck_wd s m) a3, z4, z5, z6, z7, z8, z9, z10, z11, a12, a13, z14)) : wX_move_47 poss (nI z) (nI s) (nI m) f3 (nI (ck_wd s m)) a1 a2 (ck_ze a3) a4 a5 a6 a7 a8 a9 a10 a11 a12 a13 a14 := by
  refine pk_eq z 1 (fun _ => pk_eq s 1 (fun s1 => ?_) (fun _ => ck_m68 hP hK hs hm hz h12 h13 H)) (fun _ => ck_m68 hP hK hs hm hz h12 h13 H)
  subst s1
  have hw : ck_wd 1 m = 2 * (3 + m) := by
    unfold ck_wd
    rw [if_pos rfl]
    omega
  refine ck_tilesw hP hK hm hw (by omega) (fun z4 z5 z6 z7 => ?_)
  rw [ck_tiles_v _ _ _ (by omega), ← hw]
  exact H _ _ _ _ _ _ _ _ _
theorem ck_movew {s m ch : Nat} (hP : ck_PB a1) (hK : ck_KB a2) (hs : s = 1 ∨ s = 2) (hm : m ≤ 1) (hch : ch ≤ 3) (h12 : a12 = ck_RT) (h13 : a13 = ck_BK)
    (H : ∀ z4 z5 z6 z7 z8 z9 z10 z11 z14, poss (nI (ck_wd s m)) (nI s, nI m, nI ch, nI (ck_wd s m), a1, a2, ck_out a1 a2 s m (ck_wd s m) a3, z4, z5, z6, z7, z8, z9, z10, z11, a12, a13, z14)) : wpX_move poss (nI s, nI m, nI ch, f4, a1, a2, a3, a4, a5, a6, a7, a8, a9, a10, a11, a12, a13, a14) := by
  unfold wpX_move
  refine ck_width hs hm ?_
  refine ck_loopF (fun n i t => wX_move_10 poss (nI s) (nI m) (nI ch) (nI (ck_wd s m)) n (nI i) a1 a2 t a4 a5 a6 a7 a8 a9 a10 a11 a12 a13 a14) ck_zi 64 a3 (fun n => pk_le 64 64 (fun _ => ?_) (fun z => absurd z (by omega))) ?_
  · rw [ck_zi_v]
    exact pk_eq ch 0 (fun _ => ck_m47 hP hK hs hm (by omega) h12 h13 H) (fun _ => ck_m47 hP hK hs hm hch h12 h13 H)
  · intro n i t hi h
    refine pk_le 64 i (fun z => absurd z (by omega)) (fun _ => ?_)
    rw [nI_clamp (by omega)]
    exact ⟨vp_in_nI (by omega) (by omega), nm_e (nm_r (nI_1 i) h)⟩
end
end
section
def ck_I (s m ch w : Nat) (P K : Nat → Int32) : Prop := (s = 1 ∨ s = 2) ∧ m ≤ 1 ∧ ch ≤ 3 ∧ w ≤ 8 ∧ ck_PB P ∧ ck_KB K
theorem ck_PBu {P : Nat → Int32} {k : Nat} {v : Int32} (h : ck_PB P) (h1 : -20 ≤ v.toInt) (h2 : v.toInt ≤ 20) : ck_PB (upd P k v) := fun j hj => by
  by_cases e : j = k
  · subst e
    rw [pk_us]
    exact ⟨h1, h2⟩
  · rw [pk_un e]
    exact h j hj
theorem ck_KBu {P : Nat → Int32} {k : Nat} {v : Int32} (h : ck_KB P) (h1 : -9 ≤ v.toInt) (h2 : v.toInt ≤ 9) : ck_KB (upd P k v) := fun j hj => by
  by_cases e : j = k
  · subst e
    rw [pk_us]
    exact ⟨h1, h2⟩
  · rw [pk_un e]
    exact h j hj
theorem ck_PBf {P : Nat → Int32} (h : ck_PB P) (c : Nat) (A B D E : Int32) : ck_PB (ck_it (ck_f2 c A B D E) 8 P) :=
  ck_itok h (fun _ _ _ ht => ck_itok ht (fun _ _ _ hu => ck_PBu hu (ck_cl_b _).1 (ck_cl_b _).2))
theorem ck_PBt {P : Nat → Int32} (h : ck_PB P) (w : Nat) (O : Nat → Int32) (c : Nat) : ck_PB (ck_it (ck_tk2 w O c) 8 (0, P)).2 :=
  ck_itok (ok := fun t : Int32 × (Nat → Int32) => ck_PB t.2) h (fun _ _ _ ht => ck_itok (ok := fun t : Int32 × (Nat → Int32) => ck_PB t.2) ht (fun _ _ _ hu => ck_PBu hu (ck_cl_b _).1 (ck_cl_b _).2))
theorem ck_cA : ∀ a, a < 32 → ¬ nI a - 12 < (-20) ∧ ¬ 20 < nI a - 12 := by decide +kernel
theorem ck_cE : ∀ e, e < 4 → ¬ nI e - 1 < (-3) ∧ nI e - 1 ≤ 3 := by decide +kernel
theorem ck_cS : ∀ p, p < 16 → ∀ q, q < 16 → ¬ (100 * (nI p + 3) + nI q) + 3 < 0 ∧ ¬ 10 < ((100 * (nI p + 3) + nI q) + 3) / 100 - 10 ∧ (((100 * (nI p + 3) + nI q) + 3) - ((100 * (nI p + 3) + nI q) + 3) / 100 * 100) - 10 ≤ 10 := by decide +kernel
theorem ck_cV : ∀ v, v < 32 → -20 ≤ (nI v - 12).toInt ∧ (nI v - 12).toInt ≤ 20 := by decide +kernel
theorem ck_cK : ∀ v, v < 16 → -9 ≤ (nI v - 7).toInt ∧ (nI v - 7).toInt ≤ 9 := by decide +kernel
/-- one turn: the new picture, whatever the scratch holds -/
def ck_T (s m ch w : Nat) (P K O : Nat → Int32) (op x : Int32) (s' m' ch' w' : Nat) (P' K' O' : Nat → Int32) : Prop :=
  ∀ (poss : Int32 → St1 → Prop) (z4 z5 z6 z7 z8 z9 z10 z11 z14 : Nat → Int32), (∀ r y4 y5 y6 y7 y8 y9 y10 y11 y14, poss r (nI s', nI m', nI ch', nI w', P', K', O', y4, y5, y6, y7, y8, y9, y10, y11, ck_RT, ck_BK, y14)) → wpL_turn poss (nI s, nI m, nI ch, nI w, P, K, O, z4, z5, z6, z7, z8, z9, z10, z11, ck_RT, ck_BK, z14) op x
theorem ck_turn {s m ch w : Nat} {P K : Nat → Int32} (h : ck_I s m ch w P K) (O : Nat → Int32) (op x : Int32) : ∃ s' m' ch' w' P' K' O', ck_I s' m' ch' w' P' K'
    ∧ (op &&& 31 = 17 ∨ op &&& 31 = 18 → 1 + (x &&& 1) = nI s' ∧ (x >>> ((1 : Int32) &&& 31)) &&& 1 = nI m') ∧ (¬ (op &&& 31 = 17 ∨ op &&& 31 = 18) → s' = s ∧ m' = m)
    ∧ ck_T s m ch w P K O op x s' m' ch' w' P' K' O' := by
  obtain ⟨o, ho, eo⟩ := pk_andE op (m := 31) 5 (by decide)
  obtain ⟨h1, h2, h3, h4, h5, h6⟩ := h
  have n17 : o ≠ 17 → o ≠ 18 → ¬ (op &&& 31 = 17 ∨ op &&& 31 = 18) := fun a b z => by
    rw [eo] at z
    rcases z with z | z
    · exact a ((nI_eq (by omega) (by omega)).mp z)
    · exact b ((nI_eq (by omega) (by omega)).mp z)
  have ho' : o < 32 := ho
  by_cases c1 : o < 5
  · obtain ⟨j, hj, ej⟩ := pk_andE x (m := 127) 7 (by decide)
    obtain ⟨v, hv, ev⟩ := pk_andE (x >>> ((7 : Int32) &&& 31)) (m := 31) 5 (by decide)
    have hb := ck_cV v hv
    refine ⟨s, m, ch, w, upd P j (nI v - 12), K, O, ⟨h1, h2, h3, h4, ck_PBu h5 hb.1 hb.2, h6⟩, fun z => absurd z (n17 (by omega) (by omega)), fun _ => ⟨rfl, rfl⟩, ?_⟩
    intro poss z4 z5 z6 z7 z8 z9 z10 z11 z14 H
    refine nm_r eo (pk_le 5 o (fun z => absurd z (by omega)) (fun _ => ?_))
    rw [ej, ev]
    exact ck_putw hj hb.1 hb.2 (H _ _ _ _ _ _ _ _ _ _)
  by_cases c2 : o < 8
  · obtain ⟨c, hc, ec⟩ := pk_andE x (m := 1) 1 (by decide)
    obtain ⟨a, ha, ea⟩ := pk_andE (x >>> ((1 : Int32) &&& 31)) (m := 31) 5 (by decide)
    obtain ⟨p, hp, ep⟩ := pk_andE (x >>> ((6 : Int32) &&& 31)) (m := 15) 4 (by decide)
    obtain ⟨q, hq, eq⟩ := pk_andE (x >>> ((10 : Int32) &&& 31)) (m := 15) 4 (by decide)
    obtain ⟨e, he, ee⟩ := pk_andE (x >>> ((14 : Int32) &&& 31)) (m := 3) 2 (by decide)
    obtain ⟨s1, s2, s3⟩ := ck_cS p hp q hq
    refine ⟨s, m, ch, w, _, K, O, ⟨h1, h2, h3, h4, ck_PBf h5 c (nI a - 12) (((100 * (nI p + 3) + nI q) + 3) / 100 - 10) ((((100 * (nI p + 3) + nI q) + 3) - ((100 * (nI p + 3) + nI q) + 3) / 100 * 100) - 10) (nI e - 1), h6⟩, fun z => absurd z (n17 (by omega) (by omega)), fun _ => ⟨rfl, rfl⟩, ?_⟩
    intro poss z4 z5 z6 z7 z8 z9 z10 z11 z14 H
    refine nm_r eo (pk_le 5 o (fun _ => pk_le 8 o (fun z => absurd z (by omega)) (fun _ => ?_)) (fun z => absurd z (by omega)))
    rw [ec, ea, ep, eq, ee]
    exact ck_fillw hc (ck_cA a ha).1 (ck_cA a ha).2 (ck_cE e he).1 (ck_cE e he).2 s1 s2 s3 (H _ _ _ _ _ _ _ _ _ _)
  by_cases c3 : o < 17
  · obtain ⟨j, hj, ej⟩ := pk_andE x (m := 31) 5 (by decide)
    obtain ⟨v, hv, ev⟩ := pk_andE (x >>> ((5 : Int32) &&& 31)) (m := 15) 4 (by decide)
    have hb := ck_cK v hv
    have hj' : j < 32 := hj
    refine ⟨s, m, ch, w, P, upd K (j % 18) (nI v - 7), O, ⟨h1, h2, h3, h4, h5, ck_KBu h6 hb.1 hb.2⟩, fun z => absurd z (n17 (by omega) (by omega)), fun _ => ⟨rfl, rfl⟩, ?_⟩
    intro poss z4 z5 z6 z7 z8 z9 z10 z11 z14 H
    refine nm_r eo (pk_le 5 o (fun _ => pk_le 8 o (fun _ => pk_le 17 o (fun z => absurd z (by omega)) (fun _ => ⟨by decide, ?_⟩)) (fun z => absurd z (by omega))) (fun z => absurd z (by omega)))
    rw [ej, ev, show nI j - nI j / 18 * 18 = nI (j % 18) from pk_rem (d := 18) (by omega) (by omega) (by omega)]
    exact ck_kerw (by omega) hb.1 hb.2 (H _ _ _ _ _ _ _ _ _ _)
  by_cases c4 : o < 19
  · obtain ⟨a, ha, ea⟩ := pk_andE x (m := 1) 1 (by decide)
    obtain ⟨b, hb, eb⟩ := pk_andE (x >>> ((1 : Int32) &&& 31)) (m := 1) 1 (by decide)
    have ha' : a < 2 := ha
    have hb' : b < 2 := hb
    have e1 : 1 + (x &&& 1) = nI (1 + a) := by rw [ea]; exact nI_add 1 a
    have z17 : op &&& 31 = 17 ∨ op &&& 31 = 18 := by
      rw [eo]
      rcases (show o = 17 ∨ o = 18 by omega) with rfl | rfl
      · exact Or.inl rfl
      · exact Or.inr rfl
    refine ⟨1 + a, b, ch, w, P, K, O, ⟨by omega, by omega, h3, h4, h5, h6⟩, fun _ => ⟨e1, eb⟩, fun z => absurd z17 z, ?_⟩
    intro poss z4 z5 z6 z7 z8 z9 z10 z11 z14 H
    refine nm_r eo (pk_le 5 o (fun _ => pk_le 8 o (fun _ => pk_le 17 o (fun _ => pk_le 19 o (fun z => absurd z (by omega)) (fun _ => ?_)) (fun z => absurd z (by omega))) (fun z => absurd z (by omega))) (fun z => absurd z (by omega)))
    rw [e1, eb]
    exact ck_shapew (by omega) (by omega) (H _ _ _ _ _ _ _ _ _ _)
  by_cases c5 : o < 24
  · refine ⟨s, m, ch, ck_wd s m, P, K, ck_out P K s m (ck_wd s m) O, ⟨h1, h2, h3, ck_wd8 h1 h2, h5, h6⟩, fun z => absurd z (n17 (by omega) (by omega)), fun _ => ⟨rfl, rfl⟩, ?_⟩
    · intro poss z4 z5 z6 z7 z8 z9 z10 z11 z14 H
      refine nm_r eo (pk_le 5 o (fun _ => pk_le 8 o (fun _ => pk_le 17 o (fun _ => pk_le 19 o (fun _ => pk_le 24 o (fun z => absurd z (by omega)) (fun _ => ?_)) (fun z => absurd z (by omega))) (fun z => absurd z (by omega))) (fun z => absurd z (by omega))) (fun z => absurd z (by omega)))
      exact ck_movew h5 h6 h1 h2 h3 rfl rfl (fun y4 y5 y6 y7 y8 y9 y10 y11 y14 => H _ _ _ _ _ _ _ _ _ _)
  by_cases c6 : o = 24
  · refine ⟨s, m, ch, w, P, K, (ck_it (ck_fl2 w) w (0, O)).2, ⟨h1, h2, h3, h4, h5, h6⟩, fun z => absurd z (n17 (by omega) (by omega)), fun _ => ⟨rfl, rfl⟩, ?_⟩
    · intro poss z4 z5 z6 z7 z8 z9 z10 z11 z14 H
      refine nm_r eo (pk_le 5 o (fun _ => pk_le 8 o (fun _ => pk_le 17 o (fun _ => pk_le 19 o (fun _ => pk_le 24 o (fun _ => pk_eq o 24 (fun _ => ?_) (fun z => absurd c6 z)) (fun z => absurd z (by omega))) (fun z => absurd z (by omega))) (fun z => absurd z (by omega))) (fun z => absurd z (by omega))) (fun z => absurd z (by omega)))
      exact ck_floorw h4 (H _ _ _ _ _ _ _ _ _ _)
  by_cases c7 : o < 27
  · refine ⟨s, m, ch, w / 2, P, K, ck_it (ck_th2 (w / 2)) (w / 2) O, ⟨h1, h2, h3, by omega, h5, h6⟩, fun z => absurd z (n17 (by omega) (by omega)), fun _ => ⟨rfl, rfl⟩, ?_⟩
    · intro poss z4 z5 z6 z7 z8 z9 z10 z11 z14 H
      refine nm_r eo (pk_le 5 o (fun _ => pk_le 8 o (fun _ => pk_le 17 o (fun _ => pk_le 19 o (fun _ => pk_le 24 o (fun _ => pk_eq o 24 (fun z => absurd z c6) (fun _ => pk_le 27 o (fun z => absurd z (by omega)) (fun _ => ?_))) (fun z => absurd z (by omega))) (fun z => absurd z (by omega))) (fun z => absurd z (by omega))) (fun z => absurd z (by omega))) (fun z => absurd z (by omega)))
      exact ck_thinw h4 (H _ _ _ _ _ _ _ _ _ _)
  by_cases c8 : o = 27
  · obtain ⟨d, hd, ed⟩ := pk_andE x (m := 15) 4 (by decide)
    have hd' : d < 16 := hd
    refine ⟨s, m, ch, w, P, K, ck_it (ck_dv (nI (1 + d))) 64 O, ⟨h1, h2, h3, h4, h5, h6⟩, fun z => absurd z (n17 (by omega) (by omega)), fun _ => ⟨rfl, rfl⟩, ?_⟩
    intro poss z4 z5 z6 z7 z8 z9 z10 z11 z14 H
    refine nm_r eo (pk_le 5 o (fun _ => pk_le 8 o (fun _ => pk_le 17 o (fun _ => pk_le 19 o (fun _ => pk_le 24 o (fun _ => pk_eq o 24 (fun z => absurd z c6) (fun _ => pk_le 27 o (fun _ => pk_eq o 27 (fun _ => ?_) (fun z => absurd c8 z)) (fun z => absurd z (by omega)))) (fun z => absurd z (by omega))) (fun z => absurd z (by omega))) (fun z => absurd z (by omega))) (fun z => absurd z (by omega))) (fun z => absurd z (by omega)))
    rw [ed, show (1 : Int32) + nI d = nI (1 + d) from nI_add 1 d]
    exact ck_dividew (by omega) (by omega) (H _ _ _ _ _ _ _ _ _ _)
  by_cases c9 : o < 30
  · obtain ⟨c, hc, ec⟩ := pk_andE x (m := 1) 1 (by decide)
    refine ⟨s, m, ch, w, _, K, O, ⟨h1, h2, h3, h4, ck_PBt h5 w O c, h6⟩, fun z => absurd z (n17 (by omega) (by omega)), fun _ => ⟨rfl, rfl⟩, ?_⟩
    intro poss z4 z5 z6 z7 z8 z9 z10 z11 z14 H
    refine nm_r eo (pk_le 5 o (fun _ => pk_le 8 o (fun _ => pk_le 17 o (fun _ => pk_le 19 o (fun _ => pk_le 24 o (fun _ => pk_eq o 24 (fun z => absurd z c6) (fun _ => pk_le 27 o (fun _ => pk_eq o 27 (fun z => absurd z c8) (fun _ => pk_le 30 o (fun z => absurd z (by omega)) (fun _ => ?_))) (fun z => absurd z (by omega)))) (fun z => absurd z (by omega))) (fun z => absurd z (by omega))) (fun z => absurd z (by omega))) (fun z => absurd z (by omega))) (fun z => absurd z (by omega)))
    rw [ec]
    exact ck_takew h4 hc (H _ _ _ _ _ _ _ _ _ _)
  · obtain ⟨c, hc, ec⟩ := pk_andE x (m := 3) 2 (by decide)
    have hc' : c < 4 := hc
    refine ⟨s, m, c, w, P, K, O, ⟨h1, h2, by omega, h4, h5, h6⟩, fun z => absurd z (n17 (by omega) (by omega)), fun _ => ⟨rfl, rfl⟩, ?_⟩
    intro poss z4 z5 z6 z7 z8 z9 z10 z11 z14 H
    refine nm_r eo (pk_le 5 o (fun _ => pk_le 8 o (fun _ => pk_le 17 o (fun _ => pk_le 19 o (fun _ => pk_le 24 o (fun _ => pk_eq o 24 (fun z => absurd z c6) (fun _ => pk_le 27 o (fun _ => pk_eq o 27 (fun z => absurd z c8) (fun _ => pk_le 30 o (fun _ => ?_) (fun z => absurd z (by omega)))) (fun z => absurd z (by omega)))) (fun z => absurd z (by omega))) (fun z => absurd z (by omega))) (fun z => absurd z (by omega))) (fun z => absurd z (by omega))) (fun z => absurd z (by omega)))
    rw [ec]
    exact ck_way (by omega) (H _ _ _ _ _ _ _ _ _ _)
end
section
/-! floor and take: what the last checks rest on -/
def ck_mx (v : Int32) : Int32 := if 0 ≤ v then v else 0
theorem ck_mx_p (v : Int32) : 0 ≤ ck_mx v := by
  unfold ck_mx
  by_cases h : 0 ≤ v
  · rw [if_pos h]; exact h
  · rw [if_neg h]; decide
def ck_cn1 (O : Nat → Int32) (y x : Nat) (t : Int32) : Int32 := if 0 ≤ O (8 * y + x) then t else t + 1
def ck_cn2 (O : Nat → Int32) (w y : Nat) (t : Int32) : Int32 := ck_it (ck_cn1 O y) w t
theorem ck_fl_v {w : Nat} (hw : w ≤ 8) (O : Nat → Int32) : (ck_it (ck_fl2 w) w (0, O)).1 = ck_it (ck_cn2 O w) w 0 ∧ ∀ j, (ck_it (ck_fl2 w) w (0, O)).2 j = if j % 8 < w ∧ j / 8 < w then ck_mx (O j) else O j := by
  refine ck_itI (fun y (t : Int32 × (Nat → Int32)) => t.1 = ck_it (ck_cn2 O w) y 0 ∧ ∀ j, t.2 j = if j % 8 < w ∧ j / 8 < y then ck_mx (O j) else O j) ⟨rfl, fun j => ?_⟩ ?_
  · rw [if_neg (by omega)]
  · intro y t hy ht
    have h2 : (ck_fl2 w y t).1 = ck_it (ck_cn1 O y) w t.1 ∧ ∀ j, (ck_fl2 w y t).2 j = if j % 8 < w ∧ (j / 8 < y ∨ (j / 8 = y ∧ j % 8 < w)) then ck_mx (O j) else O j := by
      refine ck_itI (fun x (u : Int32 × (Nat → Int32)) => u.1 = ck_it (ck_cn1 O y) x t.1 ∧ ∀ j, u.2 j = if j % 8 < w ∧ (j / 8 < y ∨ (j / 8 = y ∧ j % 8 < x)) then ck_mx (O j) else O j) ⟨rfl, fun j => ?_⟩ ?_
      · rw [ht.2 j]
        by_cases e : j % 8 < w ∧ j / 8 < y
        · rw [if_pos e, if_pos (by omega)]
        · rw [if_neg e, if_neg (by omega)]
      · intro x u hx hu
        have e0 : u.2 (8 * y + x) = O (8 * y + x) := by rw [hu.2, if_neg (by omega)]
        have e5 : ck_it (ck_cn1 O y) (x + 1) t.1 = if 0 ≤ O (8 * y + x) then ck_it (ck_cn1 O y) x t.1 else ck_it (ck_cn1 O y) x t.1 + 1 := rfl
        rw [e5]
        by_cases hb : 0 ≤ O (8 * y + x)
        · have e : ck_fl1 y x u = u := if_pos (by rw [e0]; exact hb)
          rw [e, if_pos hb]
          refine ⟨hu.1, fun j => ?_⟩
          rw [hu.2 j]
          by_cases e1 : j = 8 * y + x
          · have e2 : ck_mx (O j) = O j := if_pos (by rw [e1]; exact hb)
            rw [if_neg (by omega), if_pos (by omega), e2]
          · by_cases e2 : j % 8 < w ∧ (j / 8 < y ∨ (j / 8 = y ∧ j % 8 < x))
            · rw [if_pos e2, if_pos (by omega)]
            · rw [if_neg e2, if_neg (by omega)]
        · have e : ck_fl1 y x u = (u.1 + 1, upd u.2 (8 * y + x) 0) := if_neg (by rw [e0]; exact hb)
          rw [e, if_neg hb]
          refine ⟨?_, fun j => ?_⟩
          · show u.1 + 1 = _
            rw [hu.1]
          · show upd u.2 (8 * y + x) 0 j = _
            by_cases e1 : j = 8 * y + x
            · have e2 : ck_mx (O j) = 0 := if_neg (by rw [e1]; exact hb)
              rw [if_pos (by omega), e2, e1, pk_us]
            · rw [pk_un e1, hu.2 j]
              by_cases e2 : j % 8 < w ∧ (j / 8 < y ∨ (j / 8 = y ∧ j % 8 < x))
              · rw [if_pos e2, if_pos (by omega)]
              · rw [if_neg e2, if_neg (by omega)]
    refine ⟨?_, fun j => ?_⟩
    · rw [h2.1, ht.1]
      rfl
    · rw [h2.2 j]
      by_cases e2 : j % 8 < w ∧ (j / 8 < y ∨ (j / 8 = y ∧ j % 8 < w))
      · rw [if_pos e2, if_pos (by omega)]
      · rw [if_neg e2, if_neg (by omega)]
theorem ck_cn_0 {w : Nat} {O : Nat → Int32} (h : ∀ y x, y < w → x < w → 0 ≤ O (8 * y + x)) : ck_it (ck_cn2 O w) w 0 = 0 :=
  ck_itok (ok := fun t : Int32 => t = 0) rfl (fun y t hy ht => ck_itok (ok := fun t : Int32 => t = 0) ht (fun x u hx hu => by
    have e : ck_cn1 O y x u = u := if_pos (h y x hy hx)
    rw [e]; exact hu))
/-- the second floor finds nothing, and leaves nothing below zero -/
theorem ck_fl_2 {w : Nat} (hw : w ≤ 8) (O : Nat → Int32) : (ck_it (ck_fl2 w) w (0, (ck_it (ck_fl2 w) w (0, O)).2)).1 = 0 := by
  rw [(ck_fl_v hw _).1]
  refine ck_cn_0 (fun y x hy hx => ?_)
  rw [(ck_fl_v hw O).2, if_pos (by omega)]
  exact ck_mx_p _
theorem ck_fl_3 {w : Nat} (hw : w ≤ 8) (O : Nat → Int32) {x y : Nat} (hx : x < 8) : 0 ≤ ck_re w (ck_it (ck_fl2 w) w (0, O)).2 x y := by
  unfold ck_re
  by_cases h : x < w ∧ y < w
  · rw [if_pos h, (ck_fl_v hw _).2, if_pos (by omega)]
    exact ck_mx_p _
  · rw [if_neg h]
    decide
/-! counting in one loop and in two -/
theorem ck_it_add {σ : Type} (f : Nat → σ → σ) (a b : Nat) (s : σ) : ck_it f (a + b) s = ck_it (fun i => f (a + i)) b (ck_it f a s) := by
  induction b with
  | zero => rfl
  | succ b ih =>
    show f (a + b) (ck_it f (a + b) s) = f (a + b) (ck_it (fun i => f (a + i)) b (ck_it f a s))
    rw [ih]
theorem ck_it_2 {σ : Type} (f : Nat → σ → σ) (y : Nat) (s : σ) : ck_it f (8 * y) s = ck_it (fun y t => ck_it (fun x => f (8 * y + x)) 8 t) y s := by
  induction y with
  | zero => rfl
  | succ y ih =>
    rw [show 8 * (y + 1) = 8 * y + 8 by omega, ck_it_add, ih]
    rfl
theorem ck_it_cut {σ : Type} {f : Nat → σ → σ} {w n : Nat} (hw : w ≤ n) (h : ∀ i t, w ≤ i → i < n → f i t = t) (s : σ) : ck_it f n s = ck_it f w s := by
  induction n with
  | zero =>
    have : w = 0 := by omega
    rw [this]
  | succ n ih =>
    by_cases e : w = n + 1
    · rw [e]
    · show f n (ck_it f n s) = _
      rw [h n _ (by omega) (by omega)]
      exact ih (by omega) (fun i t h1 h2 => h i t h1 (by omega))
theorem ck_it_congr {σ : Type} {f g : Nat → σ → σ} {n : Nat} (h : ∀ i t, i < n → f i t = g i t) (s : σ) : ck_it f n s = ck_it g n s := by
  induction n with
  | zero => rfl
  | succ n ih =>
    show f n (ck_it f n s) = g n (ck_it g n s)
    rw [ih (fun i t hi => h i t (by omega)), h n _ (by omega)]
def ck_ng (w : Nat) (O : Nat → Int32) (i : Nat) (t : Int32) : Int32 := if 0 ≤ ck_re w O (i % 8) (i / 8) then t else t + 1
theorem ck_ng_v {w : Nat} (hw : w ≤ 8) (O : Nat → Int32) : ck_it (ck_ng w O) 64 0 = ck_it (ck_cn2 O w) w 0 := by
  rw [show (64 : Nat) = 8 * 8 from rfl, ck_it_2]
  have h1 : ∀ y x t, y < 8 → x < 8 → ck_ng w O (8 * y + x) t = if x < w ∧ y < w then ck_cn1 O y x t else t := by
    intro y x t hy hx
    unfold ck_ng ck_re ck_cn1
    rw [show (8 * y + x) % 8 = x by omega, show (8 * y + x) / 8 = y by omega]
    by_cases h : x < w ∧ y < w
    · rw [if_pos h, if_pos h]
    · rw [if_neg h, if_neg h, if_pos (by decide)]
  rw [ck_it_cut hw ?_]
  · refine ck_it_congr (fun y t hy => ?_) 0
    rw [ck_it_cut hw ?_]
    · refine ck_it_congr (fun x t hx => ?_) t
      rw [h1 y x t (by omega) (by omega), if_pos ⟨hx, hy⟩]
    · intro x t h2 h3
      rw [h1 y x t (by omega) h3, if_neg (by omega)]
  · intro y t h2 h3
    exact ck_itok (ok := fun u => u = t) rfl (fun x u hx hu => by
      try dsimp only
      rw [h1 y x u h3 hx, if_neg (by omega)]
      exact hu)
/-! the second take changes nothing -/
theorem ck_tk_v (w : Nat) (O P : Nat → Int32) (c : Nat) : ∀ y x, y < 8 → x < 8 → (ck_it (ck_tk2 w O c) 8 (0, P)).2 (64 * c + 8 * y + x) = ck_cl (ck_re w O x y) := by
  have h : ∀ Y X, (Y < 8 ∨ (Y = 8 ∧ X < 0)) → X < 8 → (ck_it (ck_tk2 w O c) 8 (0, P)).2 (64 * c + 8 * Y + X) = ck_cl (ck_re w O X Y) := by
    refine ck_itI (fun y (t : Int32 × (Nat → Int32)) => ∀ Y X, (Y < y ∨ (Y = y ∧ X < 0)) → X < 8 → t.2 (64 * c + 8 * Y + X) = ck_cl (ck_re w O X Y)) (fun Y X h => absurd h (by omega)) ?_
    intro y t hy ht
    have h2 : ∀ Y X, (Y < y ∨ (Y = y ∧ X < 8)) → X < 8 → (ck_tk2 w O c y t).2 (64 * c + 8 * Y + X) = ck_cl (ck_re w O X Y) := by
      refine ck_itI (fun x (u : Int32 × (Nat → Int32)) => ∀ Y X, (Y < y ∨ (Y = y ∧ X < x)) → X < 8 → u.2 (64 * c + 8 * Y + X) = ck_cl (ck_re w O X Y)) ht ?_
      intro x u hx hu Y X h3 h4
      show upd u.2 (64 * c + 8 * y + x) (ck_cl (ck_re w O x y)) (64 * c + 8 * Y + X) = _
      by_cases e : Y = y ∧ X = x
      · obtain ⟨rfl, rfl⟩ := e
        rw [pk_us]
      · rw [pk_un (by omega)]
        exact hu Y X (by omega) h4
    exact fun Y X h3 h4 => h2 Y X (by omega) h4
  exact fun y x hy hx => h y x (Or.inl hy) hx
theorem ck_tk_2 {w : Nat} {O P : Nat → Int32} {c : Nat} (h : ∀ y x, y < 8 → x < 8 → P (64 * c + 8 * y + x) = ck_cl (ck_re w O x y)) : (ck_it (ck_tk2 w O c) 8 (0, P)).1 = 0 := by
  refine (ck_itok (ok := fun t : Int32 × (Nat → Int32) => t.1 = 0 ∧ ∀ y x, y < 8 → x < 8 → t.2 (64 * c + 8 * y + x) = ck_cl (ck_re w O x y)) ⟨rfl, h⟩ (fun y t hy ht => ck_itok (ok := fun t : Int32 × (Nat → Int32) => t.1 = 0 ∧ ∀ y x, y < 8 → x < 8 → t.2 (64 * c + 8 * y + x) = ck_cl (ck_re w O x y)) ht (fun x u hx hu => ?_))).1
  refine ⟨?_, fun Y X hY hX => ?_⟩
  · show (if u.2 (64 * c + 8 * y + x) = ck_cl (ck_re w O x y) then u.1 else u.1 + 1) = 0
    rw [if_pos (hu.2 y x hy hx)]
    exact hu.1
  · show upd u.2 (64 * c + 8 * y + x) (ck_cl (ck_re w O x y)) (64 * c + 8 * Y + X) = _
    by_cases e : Y = y ∧ X = x
    · obtain ⟨rfl, rfl⟩ := e
      rw [pk_us]
    · rw [pk_un (by omega)]
      exact hu.2 Y X hY hX
end
section
theorem ck_and7 {i : Nat} (h : i < 64) : nI i &&& 7 = nI (i % 8) := pk_andN (by omega) 3 (by decide)
theorem ck_shr3 {i : Nat} (h : i < 64) : nI i >>> ((3 : Int32) &&& 31) = nI (i / 8) := pk_shrN (by omega) _ 3 (by decide)
section
variable {f1 f2 f3 f4 : Int32} {a1 a2 a3 a4 a5 a6 a7 a8 a9 a10 a11 a12 a13 a14 : Nat → Int32} {bf1 bf2 bf3 bf4 : Int32} {ba1 ba2 ba3 ba4 ba5 ba6 ba7 ba8 ba9 ba10 ba11 ba12 ba13 ba14 : Nat → Int32}
variable {post : Int32 → Prop} {poss : Int32 → St1 → Prop} {posu : St1 → Prop}
theorem ck_widthw (H : post f4) : wpX_width post (f1, f2, f3, f4, a1, a2, a3, a4, a5, a6, a7, a8, a9, a10, a11, a12, a13, a14) := H
theorem ck_equalw {w : Nat} (hw : w ≤ 8) (H : post 1) : wpL_equal post (f1, f2, f3, nI w, a1, a2, a3, a4, a5, a6, a7, a8, a9, a10, a11, a12, a13, a14, bf1, bf2, bf3, nI w, a1, ba2, a3, ba4, ba5, ba6, ba7, ba8, ba9, ba10, ba11, ba12, ba13, ba14) := by
  refine pk_loop (σ := Unit) (fun n i _ => wL_equal_2 post f1 f2 f3 (nI w) a1 a2 a3 a4 a5 a6 a7 a8 a9 a10 a11 a12 a13 a14 bf1 bf2 bf3 (nI w) a1 ba2 a3 ba4 ba5 ba6 ba7 ba8 ba9 ba10 ba11 ba12 ba13 ba14 n (nI i)) (fun _ _ => True) 64 0 () (by omega) trivial ?_ ?_
  · intro n _ _
    exact pk_le 64 64 (fun _ => ck_widthw (ck_widthw (br_t rfl (ck_sumw hw (ck_sumw hw (br_t rfl (ck_peakw hw (ck_peakw hw (br_t rfl H))))))))) (fun z => absurd z (by omega))
  · intro n i _ hi _ hn
    refine pk_le 64 i (fun z => absurd z (by omega)) (fun _ => ?_)
    rw [ck_and7 hi, ck_shr3 hi, show (64 : Int32) + nI i = nI (64 + i) from nI_add 64 i]
    exact ck_resw hw (by omega) (by omega) (ck_resw hw (by omega) (by omega) (br_t rfl (ck_pixel (by omega) (ck_pixel (by omega) (br_t rfl (ck_pixel (by omega) (ck_pixel (by omega) (br_t rfl (nm_r (nI_1 i) (hn () trivial))))))))))
theorem ck_lkerw {j : Nat} (hj : j < 18) (hK : ck_KB a2) (H : poss (a2 j) (f1, f2, f3, f4, a1, a2, a3, a4, a5, a6, a7, a8, a9, a10, a11, a12, a13, a14)) : wpL_kernel poss (f1, f2, f3, f4, a1, a2, a3, a4, a5, a6, a7, a8, a9, a10, a11, a12, a13, a14) (nI j) := by
  unfold wpL_kernel
  refine ck_kerw hj (by decide) (by decide) (ck_kerw hj (hK j hj).1 (hK j hj).2 ?_)
  have e : upd (upd a2 j 0) j (a2 j) = a2 := by
    funext q
    by_cases h : q = j
    · rw [h, pk_us]
    · rw [pk_un h, pk_un h]
  rw [e]
  exact H
theorem ck_productw {s m x y : Nat} (hs : s ≤ 2) (hm : m ≤ 1) (hx : x < 8) (hy : y < 8) (hK : ck_KB a2) (H : poss (ck_cv a1 a2 s m x y) (f1, f2, f3, f4, a1, a2, a3, a4, a5, a6, a7, a8, a9, a10, a11, a12, a13, a14)) : wpL_product poss (f1, f2, f3, f4, a1, a2, a3, a4, a5, a6, a7, a8, a9, a10, a11, a12, a13, a14) (nI s) (nI m) (nI x) (nI y) := by
  refine pk_loop (fun n i t => wL_product_6 poss (nI s) (nI m) (nI x) (nI y) n t (nI i) f1 f2 f3 f4 a1 a2 a3 a4 a5 a6 a7 a8 a9 a10 a11 a12 a13 a14) (fun i t => t = ck_s3 (ck_tm a1 a2 s m x y) i) 18 0 0 (by omega) rfl ?_ ?_
  · intro n t ht
    subst ht
    exact pk_le 18 18 (fun _ => H) (fun z => absurd z (by omega))
  · intro n k t hk ht hw
    subst ht
    have hsx : s * x ≤ 2 * 7 := Nat.mul_le_mul hs (by omega)
    have hsy : s * y ≤ 2 * 7 := Nat.mul_le_mul hs (by omega)
    have nx : wL_product_6 poss (nI s) (nI m) (nI x) (nI y) n (ck_s3 (ck_tm a1 a2 s m x y) k + ck_tm a1 a2 s m x y k) (nI (k + 1)) f1 f2 f3 f4 a1 a2 a3 a4 a5 a6 a7 a8 a9 a10 a11 a12 a13 a14 := hw _ rfl
    have ex : ((nI s * nI x) + (nI k - nI k / 3 * 3)) - nI m = nI (s * x + k % 3) - nI m := by
      rw [show nI k - nI k / 3 * 3 = nI (k % 3) from pk_rem (d := 3) (by omega) (by omega) (by omega), pk_mul, nI_add]
    have ey : ((nI s * nI y) + ((nI k - nI k / 9 * 9) / 3)) - nI m = nI (s * y + k % 9 / 3) - nI m := by
      rw [show nI k - nI k / 9 * 9 = nI (k % 9) from pk_rem (d := 9) (by omega) (by omega) (by omega), show nI (k % 9) / 3 = nI (k % 9 / 3) from pk_div (d := 3) (by omega) (by omega) (by omega), pk_mul, nI_add]
    have h0 : ¬ (m ≤ s * x + k % 3 ∧ s * x + k % 3 < 8 + m ∧ m ≤ s * y + k % 9 / 3 ∧ s * y + k % 9 / 3 < 8 + m) → wL_product_6 poss (nI s) (nI m) (nI x) (nI y) n (ck_s3 (ck_tm a1 a2 s m x y) k) (nI (k + 1)) f1 f2 f3 f4 a1 a2 a3 a4 a5 a6 a7 a8 a9 a10 a11 a12 a13 a14 := fun z => by
      have e : ck_tm a1 a2 s m x y k = 0 := by
        unfold ck_tm ck_at
        rw [if_neg z, Int32.mul_zero]
      rw [e, Int32.add_zero] at nx
      exact nx
    refine pk_le 18 k (fun z => absurd z (by omega)) (fun _ => ck_lkerw hk hK ⟨by decide, nm_r ex ⟨by decide, by decide, nm_r ey ?_⟩⟩)
    by_cases h1 : s * x + k % 3 < m
    · exact br_t (pk_sneg (by omega) h1) (br_t rfl (nm_r (nI_1 k) (h0 (by omega))))
    · rw [pk_sub (a := s * x + k % 3) (b := m) (by omega)]
      refine br_f (nI_pos (by omega)) (pk_le 8 (s * x + k % 3 - m) (fun z => br_t rfl (nm_r (nI_1 k) (h0 (by omega)))) (fun z => ?_))
      by_cases h2 : s * y + k % 9 / 3 < m
      · exact br_t (pk_sneg (by omega) h2) (br_t rfl (nm_r (nI_1 k) (h0 (by omega))))
      · rw [pk_sub (a := s * y + k % 9 / 3) (b := m) (by omega)]
        refine br_f (nI_pos (by omega)) (pk_le 8 (s * y + k % 9 / 3 - m) (fun z2 => br_t rfl (nm_r (nI_1 k) (h0 (by omega)))) (fun z2 => br_f (by decide) ⟨by decide, ?_⟩))
        rw [show nI k / 9 = nI (k / 9) from pk_div (d := 9) (by omega) (by omega) (by omega), ck_i64]
        have e : ck_tm a1 a2 s m x y k = a2 k * a1 (64 * (k / 9) + 8 * (s * y + k % 9 / 3 - m) + (s * x + k % 3 - m)) := by
          unfold ck_tm ck_at
          rw [if_pos (by omega)]
        rw [e] at nx
        exact ck_pixel (by omega) (nm_e (nm_r (nI_1 k) nx))
end
end
section
section
variable {cf1 cf2 cf3 cf4 : Int32} {ca1 ca2 ca3 ca4 ca5 ca6 ca7 ca8 ca9 ca10 ca11 ca12 ca13 ca14 : Nat → Int32} {df1 df2 df3 df4 : Int32} {da1 da2 da3 da4 da5 da6 da7 da8 da9 da10 da11 da12 da13 da14 : Nat → Int32} {ef1 ef2 ef3 ef4 : Int32} {ea1 ea2 ea3 ea4 ea5 ea6 ea7 ea8 ea9 ea10 ea11 ea12 ea13 ea14 : Nat → Int32}
variable {post : Int32 → Prop} {L : Nat} {xs : Nat → Int32} {kc ks : Nat}
theorem ck_l298 {w : Nat} {x7 x8 : Int32} (hw : w ≤ 8) (hd : ∀ x y, x < 8 → 0 ≤ ck_re w da3 x y) (h7 : x7 = ck_it (ck_ng w ca3) 64 0) (h8 : x8 = 0) (H : post 1) : ∃ n, wL_law_298 post L xs x7 x8 kc ks cf1 cf2 cf3 (nI w) ca1 ca2 ca3 ca4 ca5 ca6 ca7 ca8 ca9 ca10 ca11 ca12 ca13 ca14 df1 df2 df3 (nI w) da1 da2 da3 da4 da5 da6 da7 da8 da9 da10 da11 da12 da13 da14 ef1 ef2 ef3 (nI w) ea1 ea2 ea3 ea4 ea5 ea6 ea7 ea8 ea9 ea10 ea11 ea12 ea13 ea14 n 0 0 := by
  refine ck_loopF (fun n i t => wL_law_298 post L xs x7 x8 kc ks cf1 cf2 cf3 (nI w) ca1 ca2 ca3 ca4 ca5 ca6 ca7 ca8 ca9 ca10 ca11 ca12 ca13 ca14 df1 df2 df3 (nI w) da1 da2 da3 da4 da5 da6 da7 da8 da9 da10 da11 da12 da13 da14 ef1 ef2 ef3 (nI w) ea1 ea2 ea3 ea4 ea5 ea6 ea7 ea8 ea9 ea10 ea11 ea12 ea13 ea14 n t (nI i)) (ck_ng w ca3) 64 0 ?_ ?_
  · intro n
    exact pk_le 64 64 (fun _ => ck_takew (c := 1) hw (by decide) (ck_takew (c := 1) hw (by decide) (br_t h7 (br_t h8 (br_t (ck_tk_2 (ck_tk_v w ea3 ea1 1)) H))))) (fun z => absurd z (by omega))
  · intro n i t hi h
    have r330 : ∀ z0, wL_law_298 post L xs x7 x8 kc ks cf1 cf2 cf3 (nI w) ca1 ca2 ca3 ca4 ca5 ca6 ca7 ca8 ca9 ca10 ca11 ca12 ca13 ca14 df1 df2 df3 (nI w) da1 da2 da3 da4 da5 da6 da7 da8 da9 da10 da11 da12 da13 da14 ef1 ef2 ef3 (nI w) ea1 ea2 ea3 ea4 ea5 ea6 ea7 ea8 ea9 ea10 ea11 ea12 ea13 ea14 n z0 (nI (i + 1)) → wL_law_330 post L xs (wL_law_298 post L xs x7 x8 kc ks cf1 cf2 cf3 (nI w) ca1 ca2 ca3 ca4 ca5 ca6 ca7 ca8 ca9 ca10 ca11 ca12 ca13 ca14 df1 df2 df3 (nI w) da1 da2 da3 da4 da5 da6 da7 da8 da9 da10 da11 da12 da13 da14 ef1 ef2 ef3 (nI w) ea1 ea2 ea3 ea4 ea5 ea6 ea7 ea8 ea9 ea10 ea11 ea12 ea13 ea14 n) x7 x8 (nI i) z0 kc ks cf1 cf2 cf3 (nI w) ca1 ca2 ca3 ca4 ca5 ca6 ca7 ca8 ca9 ca10 ca11 ca12 ca13 ca14 df1 df2 df3 (nI w) da1 da2 da3 da4 da5 da6 da7 da8 da9 da10 da11 da12 da13 da14 ef1 ef2 ef3 (nI w) ea1 ea2 ea3 ea4 ea5 ea6 ea7 ea8 ea9 ea10 ea11 ea12 ea13 ea14 := fun z0 hz => by
      unfold wL_law_330
      rw [ck_and7 hi, ck_shr3 hi]
      exact ck_resw hw (by omega) (by omega) (br_t (hd _ _ (by omega)) (nm_r (nI_1 i) hz))
    refine pk_le 64 i (fun z => absurd z (by omega)) (fun _ => ?_)
    rw [ck_and7 hi, ck_shr3 hi]
    unfold ck_ng at h
    refine ck_resw hw (by omega) (by omega) (br_c (fun hb => r330 _ ?_) (fun hb => r330 _ ?_))
    · rw [if_pos hb] at h
      exact h
    · rw [if_neg hb] at h
      exact h
theorem ck_l207 {s m w : Nat} (hs : s ≤ 2) (hm : m ≤ 1) (hw : w ≤ 8) (hK : ck_KB ca2) (hO : ∀ x y, x < w → y < w → ca3 (8 * y + x) = ck_cv ca1 ca2 s m x y) (H : post 1) : ∃ n, wL_law_207 post L xs (nI s) (nI m) (nI w) kc ks n 0 cf1 cf2 cf3 (nI w) ca1 ca2 ca3 ca4 ca5 ca6 ca7 ca8 ca9 ca10 ca11 ca12 ca13 ca14 df1 df2 df3 (nI w) da1 da2 ca3 da4 da5 da6 da7 da8 da9 da10 da11 da12 da13 da14 ef1 ef2 ef3 (nI w) ea1 ea2 ea3 ea4 ea5 ea6 ea7 ea8 ea9 ea10 ea11 ea12 ea13 ea14 := by
  refine pk_loop (σ := Unit) (fun n i _ => wL_law_207 post L xs (nI s) (nI m) (nI w) kc ks n (nI i) cf1 cf2 cf3 (nI w) ca1 ca2 ca3 ca4 ca5 ca6 ca7 ca8 ca9 ca10 ca11 ca12 ca13 ca14 df1 df2 df3 (nI w) da1 da2 ca3 da4 da5 da6 da7 da8 da9 da10 da11 da12 da13 da14 ef1 ef2 ef3 (nI w) ea1 ea2 ea3 ea4 ea5 ea6 ea7 ea8 ea9 ea10 ea11 ea12 ea13 ea14) (fun _ _ => True) 64 0 () (by omega) trivial ?_ ?_
  · intro n _ _
    refine pk_le 64 64 (fun _ => ck_floorw hw (ck_floorw hw (ck_l298 hw (fun x y hx => ck_fl_3 hw _ hx) ?_ (ck_fl_2 hw _) H))) (fun z => absurd z (by omega))
    rw [(ck_fl_v hw _).1, ck_ng_v hw]
  · intro n i _ hi _ hn
    have nx := hn () trivial
    have r257 : ∀ z0, ck_re w ca3 (i % 8) (i / 8) = z0 → wL_law_257 post L xs (wL_law_207 post L xs (nI s) (nI m) (nI w) kc ks n) (nI s) (nI m) (nI w) (nI i) (nI (i % 8)) (nI (i / 8)) z0 kc ks cf1 cf2 cf3 (nI w) ca1 ca2 ca3 ca4 ca5 ca6 ca7 ca8 ca9 ca10 ca11 ca12 ca13 ca14 df1 df2 df3 (nI w) da1 da2 ca3 da4 da5 da6 da7 da8 da9 da10 da11 da12 da13 da14 ef1 ef2 ef3 (nI w) ea1 ea2 ea3 ea4 ea5 ea6 ea7 ea8 ea9 ea10 ea11 ea12 ea13 ea14 := fun z0 hz =>
      ck_resw hw (by omega) (by omega) (br_t hz (nm_r (nI_1 i) nx))
    refine pk_le 64 i (fun z => absurd z (by omega)) (fun _ => nm_r (ck_and7 hi) (nm_r (ck_shr3 hi) (pk_le w (i % 8) (fun z => ?_) (fun z => pk_le w (i / 8) (fun z2 => ?_) (fun z2 => ?_)))))
    · exact r257 0 (if_neg (by omega))
    · exact r257 0 (if_neg (by omega))
    · refine ck_productw hs hm (by omega) (by omega) hK (r257 _ ?_)
      have e : ck_re w ca3 (i % 8) (i / 8) = ca3 (8 * (i / 8) + i % 8) := if_pos ⟨z, z2⟩
      rw [e]
      exact hO _ _ z z2
end
section
variable {post : Int32 → Prop} {L : Nat} {xs : Nat → Int32} {kc ks : Nat}
/-- behind the script: the three ways, and the checks -/
theorem ck_tail {s m ch w k n : Nat} {P K : Nat → Int32} (h : ck_I s m ch w P K) (O : Nat → Int32) (hL : L ≤ 260) (hk : L ≤ k + 1) (hk2 : k ≤ 1000) (H : post 1) (u4 u5 u6 u7 u8 u9 u10 u11 u14 v4 v5 v6 v7 v8 v9 v10 v11 v14 t4 t5 t6 t7 t8 t9 t10 t11 t14 : Nat → Int32) : wL_law_33 post L xs kc ks (n + 1) (nI s) (nI m) (nI k) (nI s) (nI m) (nI ch) (nI w) P K O u4 u5 u6 u7 u8 u9 u10 u11 ck_RT ck_BK u14 (nI s) (nI m) (nI ch) (nI w) P K O v4 v5 v6 v7 v8 v9 v10 v11 ck_RT ck_BK v14 (nI s) (nI m) (nI ch) (nI w) P K O t4 t5 t6 t7 t8 t9 t10 t11 ck_RT ck_BK t14 := by
  obtain ⟨h1, h2, h3, h4, h5, h6⟩ := h
  have hw8 := ck_wd8 h1 h2
  refine pk_le L (k + 1) (fun _ => ?_) (fun z => absurd z (by omega)) rfl (nI_1 k)
  refine ck_way (n := 1) (by decide) (ck_way (n := 2) (by decide) (ck_way (n := 3) (by decide) ?_))
  refine ck_movew (ch := 1) h5 h6 h1 h2 (by decide) rfl rfl (fun u4 u5 u6 u7 u8 u9 u10 u11 u14 => ?_)
  refine ck_movew (ch := 2) h5 h6 h1 h2 (by decide) rfl rfl (fun v4 v5 v6 v7 v8 v9 v10 v11 v14 => ?_)
  refine ck_movew (ch := 3) h5 h6 h1 h2 (by decide) rfl rfl (fun t4 t5 t6 t7 t8 t9 t10 t11 t14 => ?_)
  refine ck_equalw hw8 (br_f (by decide) (ck_equalw hw8 (br_f (by decide) ?_)))
  refine ck_l207 (by omega) h2 hw8 h6 (fun x y hx hy => ?_) H
  have e1 : (8 * y + x) % 8 = x := by omega
  have e2 : (8 * y + x) / 8 = y := by omega
  unfold ck_out
  rw [e1, e2, if_pos (by omega)]
theorem ck_l33 (hL : L ≤ 260) (H : post 1) : ∀ (n k s m ch w : Nat) (P K O u4 u5 u6 u7 u8 u9 u10 u11 u14 v4 v5 v6 v7 v8 v9 v10 v11 v14 t4 t5 t6 t7 t8 t9 t10 t11 t14 : Nat → Int32), k ≤ 1000 → L ≤ k + 2 * n + 1 → ck_I s m ch w P K → wL_law_33 post L xs kc ks (n + 1) (nI s) (nI m) (nI k) (nI s) (nI m) (nI ch) (nI w) P K O u4 u5 u6 u7 u8 u9 u10 u11 ck_RT ck_BK u14 (nI s) (nI m) (nI ch) (nI w) P K O v4 v5 v6 v7 v8 v9 v10 v11 ck_RT ck_BK v14 (nI s) (nI m) (nI ch) (nI w) P K O t4 t5 t6 t7 t8 t9 t10 t11 ck_RT ck_BK t14
  | 0, k, s, m, ch, w, P, K, O, u4, u5, u6, u7, u8, u9, u10, u11, u14, v4, v5, v6, v7, v8, v9, v10, v11, v14, t4, t5, t6, t7, t8, t9, t10, t11, t14, hk, hn, hI => ck_tail hI O hL (by omega) hk H _ _ _ _ _ _ _ _ _ _ _ _ _ _ _ _ _ _ _ _ _ _ _ _ _ _ _
  | n + 1, k, s, m, ch, w, P, K, O, u4, u5, u6, u7, u8, u9, u10, u11, u14, v4, v5, v6, v7, v8, v9, v10, v11, v14, t4, t5, t6, t7, t8, t9, t10, t11, t14, hk, hn, hI => by
    by_cases hx : L ≤ k + 1
    · exact ck_tail hI O hL hx hk H _ _ _ _ _ _ _ _ _ _ _ _ _ _ _ _ _ _ _ _ _ _ _ _ _ _ _
    · obtain ⟨s', m', ch', w', P', K', O', hI', hy, hno, T⟩ := ck_turn hI O (xs k) (xs (k + 1))
      have nx := fun y4 y5 y6 y7 y8 y9 y10 y11 y14 x4 x5 x6 x7 x8 x9 x10 x11 x14 r4 r5 r6 r7 r8 r9 r10 r11 r14 => ck_l33 hL H n (k + 2) s' m' ch' w' P' K' O' y4 y5 y6 y7 y8 y9 y10 y11 y14 x4 x5 x6 x7 x8 x9 x10 x11 x14 r4 r5 r6 r7 r8 r9 r10 r11 r14 (by omega) (by omega) hI'
      refine pk_le L (k + 1) (fun z => absurd z (by omega)) (fun _ => ?_) rfl (nI_1 k)
      rw [nI_1, nI_clamp (n := k) (by omega), nI_clamp (n := k + 1) (by omega)]
      refine ⟨vp_in_nI (by omega) (by omega), nm_e ⟨vp_in_nI (by omega) (by omega), nm_e ⟨vp_in_nI (by omega) (by omega), T _ _ _ _ _ _ _ _ _ _ (fun r y4 y5 y6 y7 y8 y9 y10 y11 y14 => ⟨vp_in_nI (by omega) (by omega), T _ _ _ _ _ _ _ _ _ _ (fun r2 x4 x5 x6 x7 x8 x9 x10 x11 x14 => ⟨vp_in_nI (by omega) (by omega), T _ _ _ _ _ _ _ _ _ _ (fun r3 r4 r5 r6 r7 r8 r9 r10 r11 r14 => ?_)⟩)⟩)⟩⟩⟩
      have nx2 : ∀ a b, a = nI s' → b = nI m' → wL_law_33 post L xs kc ks (n + 1) a b (nI (k + 2)) (nI s') (nI m') (nI ch') (nI w') P' K' O' y4 y5 y6 y7 y8 y9 y10 y11 ck_RT ck_BK y14 (nI s') (nI m') (nI ch') (nI w') P' K' O' x4 x5 x6 x7 x8 x9 x10 x11 ck_RT ck_BK x14 (nI s') (nI m') (nI ch') (nI w') P' K' O' r4 r5 r6 r7 r8 r9 r10 r11 ck_RT ck_BK r14 := fun a b ha hb => by
        subst ha hb
        exact nx y4 y5 y6 y7 y8 y9 y10 y11 y14 x4 x5 x6 x7 x8 x9 x10 x11 x14 r4 r5 r6 r7 r8 r9 r10 r11 r14
      by_cases h17 : xs k &&& 31 = 17
      · obtain ⟨e1, e2⟩ := hy (Or.inl h17)
        exact br_t h17 (br_t h17 (nm_r e2 (nm_r (nI_add k 2) (nx2 _ _ e1 rfl))))
      · by_cases h18 : xs k &&& 31 = 18
        · obtain ⟨e1, e2⟩ := hy (Or.inr h18)
          exact br_f h17 (br_t h18 (br_f h17 (br_t h18 (nm_r e2 (nm_r (nI_add k 2) (nx2 _ _ e1 rfl))))))
        · obtain ⟨e1, e2⟩ := hno (fun z => z.elim h17 h18)
          exact br_f h17 (br_f h18 (br_f h17 (br_f h18 (nm_r (nI_add k 2) (nx2 _ _ (by rw [e1]) (by rw [e2]))))))
end
end
section
theorem ck_I0 : ck_I 1 1 0 0 (fun _ => 0) (fun _ => 0) :=
  ⟨Or.inl rfl, by decide, by decide, by decide, fun _ _ => ⟨(by decide : (-20 : Int) ≤ (0 : Int32).toInt), (by decide : (0 : Int32).toInt ≤ 20)⟩, fun _ _ => ⟨(by decide : (-9 : Int) ≤ (0 : Int32).toInt), (by decide : (0 : Int32).toInt ≤ 9)⟩⟩
theorem i_vc (xs : Nat → Int32) (L : Nat) (hL : L ≤ 260) : wpL_law (fun r => r = 1) L xs := by
  refine ⟨14, 2242, by omega, by omega, ck_initw ⟨by omega, by omega, 14, 2242, by omega, by omega, ck_initw ⟨by omega, by omega, 14, 2242, by omega, by omega, ck_initw ⟨L + 1, ?_⟩⟩⟩⟩
  exact ck_l33 (post := fun r => r = 1) hL rfl L 0 1 1 0 0 (fun _ => 0) (fun _ => 0) (fun _ => 0) _ _ _ _ _ _ _ _ _ _ _ _ _ _ _ _ _ _ _ _ _ _ _ _ _ _ _ (by omega) (by omega) ck_I0
end
