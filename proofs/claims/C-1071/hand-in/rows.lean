section
/-! the field of five: closed facts -/
theorem f5_ac : ∀ a b c : Fin 5, a + b + c = a + (b + c) := by decide +kernel
theorem f5_cm : ∀ a b : Fin 5, a + b = b + a := by decide +kernel
theorem f5_mas : ∀ a b c : Fin 5, a * b * c = a * (b * c) := by decide +kernel
theorem f5_mcm : ∀ a b : Fin 5, a * b = b * a := by decide +kernel
theorem f5_ld : ∀ a b c : Fin 5, a * (b + c) = a * b + a * c := by decide +kernel
theorem f5_rd : ∀ a b c : Fin 5, (a + b) * c = a * c + b * c := by decide +kernel
theorem f5_m0 : ∀ a : Fin 5, a * 0 = 0 := by decide +kernel
theorem f5_0m : ∀ a : Fin 5, 0 * a = 0 := by decide +kernel
theorem f5_m1 : ∀ a : Fin 5, a * 1 = a := by decide +kernel
theorem f5_1m : ∀ a : Fin 5, 1 * a = a := by decide +kernel
theorem f5_a0 : ∀ a : Fin 5, a + 0 = a := by decide +kernel
theorem f5_0a : ∀ a : Fin 5, 0 + a = a := by decide +kernel
theorem f5_na : ∀ a : Fin 5, -a + a = 0 := by decide +kernel
theorem f5_nm : ∀ a b : Fin 5, -a * b = -(a * b) := by decide +kernel
theorem f5_sb : ∀ a b : Fin 5, a - b = a + -b := by decide +kernel
theorem f5_dom : ∀ a b : Fin 5, a * b = 0 → a = 0 ∨ b = 0 := by decide +kernel
theorem f5_inv : ∀ a : Fin 5, a ≠ 0 → a * (a * a * a) = 1 := by decide +kernel
theorem f5_inv0 : ∀ a : Fin 5, a ≠ 0 → a * a * a ≠ 0 := by decide +kernel
theorem f5_4 : ∀ a b c d : Fin 5, a + b + (c + d) = a + c + (b + d) := by decide +kernel

/-! finite sums -/
def sm_s (h : Nat → Fin 5) : Nat → Fin 5
  | 0 => 0
  | n + 1 => sm_s h n + h n

theorem sm_congr {f g : Nat → Fin 5} : ∀ n, (∀ i, i < n → f i = g i) → sm_s f n = sm_s g n
  | 0, _ => rfl
  | n + 1, h => by
    show sm_s f n + f n = sm_s g n + g n
    rw [sm_congr n (fun i hi => h i (by omega)), h n (by omega)]

theorem sm_zero {f : Nat → Fin 5} (n : Nat) (h : ∀ i, i < n → f i = 0) : sm_s f n = 0 := by
  induction n with
  | zero => rfl
  | succ n ih =>
    show sm_s f n + f n = 0
    rw [ih (fun i hi => h i (by omega)), h n (by omega)]; rfl

theorem sm_add (f g : Nat → Fin 5) (n : Nat) : sm_s (fun i => f i + g i) n = sm_s f n + sm_s g n := by
  induction n with
  | zero => rfl
  | succ n ih =>
    show sm_s (fun i => f i + g i) n + (f n + g n) = sm_s f n + f n + (sm_s g n + g n)
    rw [ih, f5_4]

theorem sm_mul (c : Fin 5) (f : Nat → Fin 5) (n : Nat) : sm_s (fun i => c * f i) n = c * sm_s f n := by
  induction n with
  | zero => exact (f5_m0 c).symm
  | succ n ih =>
    show sm_s (fun i => c * f i) n + c * f n = c * (sm_s f n + f n)
    rw [ih, f5_ld]

theorem sm_mulr (c : Fin 5) (f : Nat → Fin 5) (n : Nat) : sm_s (fun i => f i * c) n = sm_s f n * c := by
  rw [f5_mcm, ← sm_mul]; exact sm_congr n (fun i _ => f5_mcm _ _)

theorem sm_first (f : Nat → Fin 5) (n : Nat) : sm_s f (n + 1) = f 0 + sm_s (fun i => f (i + 1)) n := by
  induction n with
  | zero => show 0 + f 0 = f 0 + 0; rw [f5_0a, f5_a0]
  | succ n ih =>
    show sm_s f (n + 1) + f (n + 1) = f 0 + (sm_s (fun i => f (i + 1)) n + f (n + 1))
    rw [ih, f5_ac]

theorem sm_rev (f : Nat → Fin 5) (n : Nat) : sm_s f n = sm_s (fun i => f (n - 1 - i)) n := by
  induction n with
  | zero => rfl
  | succ n ih =>
    rw [sm_first (fun i => f (n + 1 - 1 - i)) n]
    show sm_s f n + f n = f (n + 1 - 1 - 0) + sm_s (fun i => f (n + 1 - 1 - (i + 1))) n
    rw [ih, f5_cm]
    have e : sm_s (fun i => f (n - 1 - i)) n = sm_s (fun i => f (n + 1 - 1 - (i + 1))) n :=
      sm_congr n (fun i hi => by
        show f (n - 1 - i) = f (n + 1 - 1 - (i + 1))
        rw [show n + 1 - 1 - (i + 1) = n - 1 - i by omega])
    rw [e]
    rfl

theorem sm_one {f : Nat → Fin 5} {n k : Nat} (hk : k < n) (h : ∀ i, i < n → i ≠ k → f i = 0) : sm_s f n = f k := by
  induction n with
  | zero => omega
  | succ n ih =>
    show sm_s f n + f n = f k
    by_cases e : k = n
    · rw [sm_zero n (fun i hi => h i (by omega) (by omega)), ← e, f5_0a]
    · rw [ih (by omega) (fun i hi hne => h i (by omega) hne), h n (by omega) (by omega), f5_a0]

/-- the sum over a triangle, by rows and by diagonals -/
theorem sm_tri (F : Nat → Nat → Fin 5) (N : Nat) :
    sm_s (fun i => sm_s (fun j => F j (i - j)) (i + 1)) N = sm_s (fun j => sm_s (fun k => F j k) (N - j)) N := by
  induction N with
  | zero => rfl
  | succ N ih =>
    show sm_s (fun i => sm_s (fun j => F j (i - j)) (i + 1)) N + sm_s (fun j => F j (N - j)) (N + 1)
      = sm_s (fun j => sm_s (fun k => F j k) (N + 1 - j)) N + sm_s (fun k => F N k) (N + 1 - N)
    rw [ih]
    have e : sm_s (fun j => sm_s (fun k => F j k) (N + 1 - j)) N
        = sm_s (fun j => sm_s (fun k => F j k) (N - j) + F j (N - j)) N :=
      sm_congr N (fun j hj => by
        show sm_s (fun k => F j k) (N + 1 - j) = sm_s (fun k => F j k) (N - j) + F j (N - j)
        rw [show N + 1 - j = (N - j) + 1 by omega]; rfl)
    rw [e, sm_add, show N + 1 - N = 0 + 1 by omega]
    show sm_s (fun j => sm_s (fun k => F j k) (N - j)) N + (sm_s (fun j => F j (N - j)) N + F N (N - N))
      = sm_s (fun j => sm_s (fun k => F j k) (N - j)) N + sm_s (fun j => F j (N - j)) N + (0 + F N 0)
    rw [Nat.sub_self, f5_0a, f5_ac]

/-- the product of two rows of numbers -/
def cv (f g : Nat → Fin 5) (n : Nat) : Fin 5 := sm_s (fun i => f i * g (n - i)) (n + 1)

theorem cv_congr {f g f' g' : Nat → Fin 5} (n : Nat) (hf : ∀ i, i ≤ n → f i = f' i) (hg : ∀ i, i ≤ n → g i = g' i) : cv f g n = cv f' g' n :=
  sm_congr (n + 1) (fun i hi => by
    show f i * g (n - i) = f' i * g' (n - i)
    rw [hf i (by omega), hg (n - i) (by omega)])

theorem cv_comm (f g : Nat → Fin 5) (n : Nat) : cv f g n = cv g f n := by
  unfold cv
  rw [sm_rev]
  exact sm_congr (n + 1) (fun i hi => by
    show f (n + 1 - 1 - i) * g (n - (n + 1 - 1 - i)) = g i * f (n - i)
    rw [f5_mcm, show n - (n + 1 - 1 - i) = i by omega, show n + 1 - 1 - i = n - i by omega])

theorem cv_add (f g h : Nat → Fin 5) (n : Nat) : cv f (fun k => g k + h k) n = cv f g n + cv f h n := by
  unfold cv
  rw [← sm_add]
  exact sm_congr (n + 1) (fun i _ => f5_ld _ _ _)

theorem cv_assoc (f g h : Nat → Fin 5) (n : Nat) : cv (cv f g) h n = cv f (cv g h) n := by
  have e1 : cv (cv f g) h n = sm_s (fun i => sm_s (fun j => f j * g (i - j) * h (n - (j + (i - j)))) (i + 1)) (n + 1) :=
    sm_congr (n + 1) (fun i hi => by
      show sm_s (fun j => f j * g (i - j)) (i + 1) * h (n - i) = _
      rw [← sm_mulr]
      exact sm_congr (i + 1) (fun j hj => by
        show f j * g (i - j) * h (n - i) = f j * g (i - j) * h (n - (j + (i - j)))
        rw [show j + (i - j) = i by omega]))
  have e2 : cv f (cv g h) n = sm_s (fun j => sm_s (fun k => f j * g k * h (n - (j + k))) (n + 1 - j)) (n + 1) :=
    sm_congr (n + 1) (fun j hj => by
      show f j * sm_s (fun k => g k * h (n - j - k)) (n - j + 1) = _
      rw [← sm_mul, show n + 1 - j = n - j + 1 by omega]
      exact sm_congr (n - j + 1) (fun k hk => by
        show f j * (g k * h (n - j - k)) = f j * g k * h (n - (j + k))
        rw [f5_mas, show n - (j + k) = n - j - k by omega]))
  rw [e1, e2]
  exact sm_tri (fun j k => f j * g k * h (n - (j + k))) (n + 1)

theorem cv_c (x : Fin 5) (g : Nat → Fin 5) (n : Nat) : cv (fun k => if k = 0 then x else 0) g n = x * g n := by
  unfold cv
  rw [sm_one (k := 0) (by omega) (fun i _ hi => by show (if i = 0 then x else 0) * g (n - i) = 0; rw [if_neg hi, f5_0m])]
  show (if 0 = 0 then x else 0) * g (n - 0) = x * g n
  rw [if_pos rfl, Nat.sub_zero]

theorem cv_0 (f g : Nat → Fin 5) (d e : Nat) (hf : ∀ n, d ≤ n → f n = 0) (hg : ∀ n, e ≤ n → g n = 0) : ∀ n, d + e ≤ n → cv f g n = 0 := by
  intro n hn
  refine sm_zero (n + 1) (fun i hi => ?_)
  show f i * g (n - i) = 0
  by_cases h : d ≤ i
  · rw [hf i h, f5_0m]
  · rw [hg (n - i) (by omega), f5_m0]

/-! polynomials -/
def Po : Type := {f : Nat → Fin 5 // ∃ d, ∀ n, d ≤ n → f n = 0}
def po_co (a : Po) (n : Nat) : Fin 5 := a.1 n
theorem po_ext {a b : Po} (h : ∀ n, a.1 n = b.1 n) : a = b := Subtype.ext (funext h)
def po_add (a b : Po) : Po := ⟨fun n => a.1 n + b.1 n, by
  obtain ⟨d, hd⟩ := a.2
  obtain ⟨e, he⟩ := b.2
  exact ⟨d + e, fun n h => by
    show a.1 n + b.1 n = 0
    rw [hd n (by omega), he n (by omega)]; rfl⟩⟩
def po_neg (a : Po) : Po := ⟨fun n => -a.1 n, by
  obtain ⟨d, hd⟩ := a.2
  exact ⟨d, fun n h => by
    show -a.1 n = 0
    rw [hd n h]; rfl⟩⟩
def po_mul (a b : Po) : Po := ⟨cv a.1 b.1, by
  obtain ⟨d, hd⟩ := a.2
  obtain ⟨e, he⟩ := b.2
  exact ⟨d + e, cv_0 _ _ d e hd he⟩⟩
def po_c (x : Fin 5) : Po := ⟨fun n => if n = 0 then x else 0, 1, fun n h => if_neg (by omega)⟩
def po_pow (a : Po) : Nat → Po
  | 0 => po_c 1
  | n + 1 => po_mul (po_pow a n) a
def po_i (i : Int) : Fin 5 := match i with
  | .ofNat n => Fin.ofNat 5 n
  | .negSucc n => -Fin.ofNat 5 (n + 1)
theorem po_i_neg (i : Int) : po_i (-i) = -po_i i := by
  have nn : ∀ x : Fin 5, x = -(-x) := by decide +kernel
  match i with
  | .ofNat 0 => rfl
  | .ofNat (n + 1) => rfl
  | .negSucc n => exact nn _
theorem po_addc (m n : Nat) : Fin.ofNat 5 (m + n) = Fin.ofNat 5 m + Fin.ofNat 5 n := by
  apply Fin.ext
  show (m + n) % 5 = (m % 5 + n % 5) % 5
  omega
theorem po_mul_comm (a b : Po) : po_mul a b = po_mul b a := po_ext (fun n => cv_comm _ _ n)
theorem po_one_mul (a : Po) : po_mul (po_c 1) a = a := po_ext (fun n => by
  show cv (fun k => if k = 0 then 1 else 0) a.1 n = a.1 n
  rw [cv_c, f5_1m])
theorem po_zero_mul (a : Po) : po_mul (po_c 0) a = po_c 0 := po_ext (fun n => by
  show cv (fun k => if k = 0 then 0 else 0) a.1 n = if n = 0 then 0 else 0
  rw [cv_c, f5_0m]; split <;> rfl)
theorem po_left (a b c : Po) : po_mul a (po_add b c) = po_add (po_mul a b) (po_mul a c) := po_ext (fun n => cv_add _ _ _ n)

def po_ring : Lean.Grind.CommRing Po where
  add := po_add
  mul := po_mul
  natCast := ⟨fun n => po_c (Fin.ofNat 5 n)⟩
  ofNat := fun n => ⟨po_c (Fin.ofNat 5 n)⟩
  nsmul := ⟨fun n a => po_mul (po_c (Fin.ofNat 5 n)) a⟩
  npow := ⟨po_pow⟩
  add_zero := fun a => po_ext (fun n => by
    show a.1 n + (if n = 0 then 0 else 0) = a.1 n
    split <;> exact f5_a0 _)
  add_comm := fun a b => po_ext (fun n => f5_cm _ _)
  add_assoc := fun a b c => po_ext (fun n => f5_ac _ _ _)
  mul_assoc := fun a b c => po_ext (fun n => cv_assoc _ _ _ n)
  mul_comm := po_mul_comm
  mul_one := fun a => (po_mul_comm _ _).trans (po_one_mul a)
  one_mul := po_one_mul
  left_distrib := po_left
  right_distrib := fun a b c => by
    show po_mul (po_add a b) c = po_add (po_mul a c) (po_mul b c)
    rw [po_mul_comm, po_left, po_mul_comm c a, po_mul_comm c b]
  zero_mul := po_zero_mul
  mul_zero := fun a => (po_mul_comm _ _).trans (po_zero_mul a)
  pow_zero := fun a => rfl
  pow_succ := fun a n => rfl
  ofNat_succ := fun m => po_ext (fun n => by
    show (if n = 0 then Fin.ofNat 5 (m + 1) else 0) = (if n = 0 then Fin.ofNat 5 m else 0) + (if n = 0 then Fin.ofNat 5 1 else 0)
    split
    · exact po_addc m 1
    · rfl)
  ofNat_eq_natCast := fun n => rfl
  nsmul_eq_natCast_mul := fun n a => rfl
  neg := po_neg
  sub := fun a b => po_add a (po_neg b)
  intCast := ⟨fun i => po_c (po_i i)⟩
  zsmul := ⟨fun i a => po_mul (po_c (po_i i)) a⟩
  neg_add_cancel := fun a => po_ext (fun n => by
    show -a.1 n + a.1 n = if n = 0 then 0 else 0
    rw [f5_na]; split <;> rfl)
  sub_eq_add_neg := fun a b => rfl
  neg_zsmul := fun i a => po_ext (fun n => by
    show cv (fun k => if k = 0 then po_i (-i) else 0) a.1 n = -cv (fun k => if k = 0 then po_i i else 0) a.1 n
    rw [cv_c, cv_c, po_i_neg, f5_nm])
  zsmul_natCast_eq_nsmul := fun n a => rfl
  intCast_ofNat := fun n => rfl
  intCast_neg := fun i => po_ext (fun n => by
    show (if n = 0 then po_i (-i) else 0) = -(if n = 0 then po_i i else 0)
    rw [po_i_neg]; split <;> rfl)

/-- what is used of the ring of polynomials: numbers at the powers, and the operations by them -/
def PL {R : Type} [Lean.Grind.CommRing R] (co : R → Nat → Fin 5) : Prop :=
  (∀ a b : R, (∀ n, co a n = co b n) → a = b) ∧
  (∀ (a b : R) n, co (a + b) n = co a n + co b n) ∧
  (∀ (a b : R) n, co (a * b) n = cv (co a) (co b) n) ∧
  (∀ n, co (0 : R) n = 0) ∧
  (∀ n, co (1 : R) n = if n = 0 then 1 else 0) ∧
  (∀ (a : R) n, co (-a) n = -co a n) ∧
  (∀ a : R, ∃ d, ∀ n, d ≤ n → co a n = 0) ∧
  (∀ (f : Nat → Fin 5) (d : Nat), ∃ a : R, ∀ n, co a n = if n < d then f n else 0)

theorem po_PL : @PL Po po_ring po_co :=
  ⟨fun _ _ h => po_ext h, fun _ _ _ => rfl, fun _ _ _ => rfl, fun n => by
    show (if n = 0 then (0 : Fin 5) else 0) = 0
    split <;> rfl, fun n => rfl, fun _ _ => rfl, fun a => a.2,
   fun f d => ⟨⟨fun n => if n < d then f n else 0, d, fun n h => if_neg (by omega)⟩, fun n => rfl⟩⟩
end
section
/-! divisors and coprime pairs in any ring -/
def Dv {R : Type} [Lean.Grind.CommRing R] (a b : R) : Prop := ∃ c, b = c * a
def Cp {R : Type} [Lean.Grind.CommRing R] (a b : R) : Prop := ∃ s t, s * a + t * b = 1

theorem dv_rfl {R : Type} [Lean.Grind.CommRing R] (a : R) : Dv a a := ⟨1, by grind⟩
theorem dv_0 {R : Type} [Lean.Grind.CommRing R] (a : R) : Dv a 0 := ⟨0, by grind⟩
theorem dv_1 {R : Type} [Lean.Grind.CommRing R] (a : R) : Dv 1 a := ⟨a, by grind⟩
theorem dv_trans {R : Type} [Lean.Grind.CommRing R] {a b c : R} (h : Dv a b) (g : Dv b c) : Dv a c := by
  obtain ⟨x, hx⟩ := h
  obtain ⟨y, hy⟩ := g
  exact ⟨y * x, by grind⟩
theorem dv_mul {R : Type} [Lean.Grind.CommRing R] {a b : R} (c : R) (h : Dv a b) : Dv a (c * b) := by
  obtain ⟨x, hx⟩ := h
  exact ⟨c * x, by grind⟩
theorem dv_mulr {R : Type} [Lean.Grind.CommRing R] {a b : R} (c : R) (h : Dv a b) : Dv a (b * c) := by
  obtain ⟨x, hx⟩ := h
  exact ⟨c * x, by grind⟩
theorem dv_l {R : Type} [Lean.Grind.CommRing R] (a b : R) : Dv a (a * b) := ⟨b, by grind⟩
theorem dv_r {R : Type} [Lean.Grind.CommRing R] (a b : R) : Dv b (a * b) := ⟨a, rfl⟩
theorem dv_add {R : Type} [Lean.Grind.CommRing R] {a b c : R} (h : Dv a b) (g : Dv a c) : Dv a (b + c) := by
  obtain ⟨x, hx⟩ := h
  obtain ⟨y, hy⟩ := g
  exact ⟨x + y, by grind⟩
theorem dv_sub {R : Type} [Lean.Grind.CommRing R] {a b c : R} (h : Dv a b) (g : Dv a c) : Dv a (b - c) := by
  obtain ⟨x, hx⟩ := h
  obtain ⟨y, hy⟩ := g
  exact ⟨x - y, by grind⟩
theorem dv_neg {R : Type} [Lean.Grind.CommRing R] {a b : R} (h : Dv a b) : Dv a (-b) := by
  obtain ⟨x, hx⟩ := h
  exact ⟨-x, by grind⟩
theorem dv_mm {R : Type} [Lean.Grind.CommRing R] {a b c d : R} (h : Dv a b) (g : Dv c d) : Dv (a * c) (b * d) := by
  obtain ⟨x, hx⟩ := h
  obtain ⟨y, hy⟩ := g
  exact ⟨x * y, by grind⟩
theorem dv_pow {R : Type} [Lean.Grind.CommRing R] {a b : R} (h : Dv a b) (n : Nat) : Dv (a ^ n) (b ^ n) := by
  induction n with
  | zero => rw [Lean.Grind.Semiring.pow_zero, Lean.Grind.Semiring.pow_zero]; exact dv_rfl 1
  | succ n ih => rw [Lean.Grind.Semiring.pow_succ, Lean.Grind.Semiring.pow_succ]; exact dv_mm ih h
theorem dv_pow_le {R : Type} [Lean.Grind.CommRing R] (a : R) {m n : Nat} (h : m ≤ n) : Dv (a ^ m) (a ^ n) := by
  obtain ⟨k, rfl⟩ := Nat.exists_eq_add_of_le h
  rw [Lean.Grind.Semiring.pow_add]; exact dv_l _ _
theorem dv_pow1 {R : Type} [Lean.Grind.CommRing R] (a : R) {n : Nat} (h : 1 ≤ n) : Dv a (a ^ n) := by
  have := dv_pow_le a h
  rwa [Lean.Grind.Semiring.pow_one] at this

theorem cp_symm {R : Type} [Lean.Grind.CommRing R] {a b : R} (h : Cp a b) : Cp b a := by
  obtain ⟨s, t, e⟩ := h
  exact ⟨t, s, by grind⟩
theorem cp_1 {R : Type} [Lean.Grind.CommRing R] (a : R) : Cp a 1 := ⟨0, 1, by grind⟩
theorem cp_dv {R : Type} [Lean.Grind.CommRing R] {a b c : R} (h : Cp a b) (g : Dv a (b * c)) : Dv a c := by
  obtain ⟨s, t, e⟩ := h
  obtain ⟨x, hx⟩ := g
  refine ⟨s * c + t * x, ?_⟩
  have : c = (s * a + t * b) * c := by rw [e]; grind
  grind
theorem cp_mul {R : Type} [Lean.Grind.CommRing R] {a b c : R} (h : Cp a b) (g : Cp a c) : Cp a (b * c) := by
  obtain ⟨s, t, e⟩ := h
  obtain ⟨s', t', e'⟩ := g
  refine ⟨s * s' * a + s * t' * c + t * b * s', t * t', ?_⟩
  have : (s * a + t * b) * (s' * a + t' * c) = 1 := by rw [e, e']; grind
  grind
theorem cp_pow {R : Type} [Lean.Grind.CommRing R] {a b : R} (h : Cp a b) (n : Nat) : Cp a (b ^ n) := by
  induction n with
  | zero => rw [Lean.Grind.Semiring.pow_zero]; exact cp_1 a
  | succ n ih => rw [Lean.Grind.Semiring.pow_succ]; exact cp_mul ih h
theorem cp_pp {R : Type} [Lean.Grind.CommRing R] {a b : R} (h : Cp a b) (m n : Nat) : Cp (a ^ m) (b ^ n) :=
  cp_pow (cp_symm (cp_pow (cp_symm h) m)) n
theorem cp_d {R : Type} [Lean.Grind.CommRing R] {a b c : R} (h : Cp a b) (g : Dv c a) : Cp c b := by
  obtain ⟨s, t, e⟩ := h
  obtain ⟨x, hx⟩ := g
  exact ⟨s * x, t, by grind⟩
theorem cp_d2 {R : Type} [Lean.Grind.CommRing R] {a b c : R} (h : Cp a b) (g : Dv c b) : Cp a c := cp_symm (cp_d (cp_symm h) g)
theorem cp_md {R : Type} [Lean.Grind.CommRing R] {a b c : R} (h : Cp a b) (g : Dv a c) (g' : Dv b c) : Dv (a * b) c := by
  obtain ⟨x, hx⟩ := g
  have : Dv b (a * x) := by rw [show a * x = c by grind]; exact g'
  obtain ⟨y, hy⟩ := cp_dv (cp_symm h) this
  exact ⟨y, by grind⟩
/-- the rest does not matter -/
theorem cp_mod {R : Type} [Lean.Grind.CommRing R] {a b c : R} (h : Cp a b) (g : Dv a (b - c)) : Cp a c := by
  obtain ⟨s, t, e⟩ := h
  obtain ⟨x, hx⟩ := g
  exact ⟨s + t * x, t, by grind⟩
theorem cp_u {R : Type} [Lean.Grind.CommRing R] {a b : R} (h : ∃ c, c * a = 1) : Cp a b := by
  obtain ⟨c, hc⟩ := h
  exact ⟨c, 0, by grind⟩

/-! the numbers at the powers -/
theorem pl_ext {R : Type} [Lean.Grind.CommRing R] {co : R → Nat → Fin 5} (H : PL co) {a b : R} (h : ∀ n, co a n = co b n) : a = b := H.1 a b h
theorem pl_add {R : Type} [Lean.Grind.CommRing R] {co : R → Nat → Fin 5} (H : PL co) (a b : R) (n : Nat) : co (a + b) n = co a n + co b n := H.2.1 a b n
theorem pl_mul {R : Type} [Lean.Grind.CommRing R] {co : R → Nat → Fin 5} (H : PL co) (a b : R) (n : Nat) : co (a * b) n = cv (co a) (co b) n := H.2.2.1 a b n
theorem pl_0 {R : Type} [Lean.Grind.CommRing R] {co : R → Nat → Fin 5} (H : PL co) (n : Nat) : co (0 : R) n = 0 := H.2.2.2.1 n
theorem pl_1 {R : Type} [Lean.Grind.CommRing R] {co : R → Nat → Fin 5} (H : PL co) (n : Nat) : co (1 : R) n = if n = 0 then 1 else 0 := H.2.2.2.2.1 n
theorem pl_neg {R : Type} [Lean.Grind.CommRing R] {co : R → Nat → Fin 5} (H : PL co) (a : R) (n : Nat) : co (-a) n = -co a n := H.2.2.2.2.2.1 a n
theorem pl_fin {R : Type} [Lean.Grind.CommRing R] {co : R → Nat → Fin 5} (H : PL co) (a : R) : ∃ d, ∀ n, d ≤ n → co a n = 0 := H.2.2.2.2.2.2.1 a
theorem pl_mk {R : Type} [Lean.Grind.CommRing R] {co : R → Nat → Fin 5} (H : PL co) (f : Nat → Fin 5) (d : Nat) : ∃ a : R, ∀ n, co a n = if n < d then f n else 0 := H.2.2.2.2.2.2.2 f d
theorem pl_sub {R : Type} [Lean.Grind.CommRing R] {co : R → Nat → Fin 5} (H : PL co) (a b : R) (n : Nat) : co (a - b) n = co a n - co b n := by
  rw [Lean.Grind.Ring.sub_eq_add_neg, pl_add H, pl_neg H, f5_sb]

theorem ln_ex (f : Nat → Fin 5) (h : ∃ d, ∀ n, d ≤ n → f n = 0) : ∃ d, (∀ n, d ≤ n → f n = 0) ∧ (d = 0 ∨ f (d - 1) ≠ 0) := by
  obtain ⟨d, hd⟩ := h
  induction d with
  | zero => exact ⟨0, hd, Or.inl rfl⟩
  | succ d ih =>
    by_cases e : f d = 0
    · refine ih (fun n hn => ?_)
      by_cases e' : n = d
      · rw [e']; exact e
      · exact hd n (by omega)
    · exact ⟨d + 1, hd, Or.inr e⟩

/-- one more than the degree; 0 of 0 -/
noncomputable def dl {R : Type} (co : R → Nat → Fin 5) (a : R) : Nat :=
  Classical.epsilon (fun d => (∀ n, d ≤ n → co a n = 0) ∧ (d = 0 ∨ co a (d - 1) ≠ 0))

theorem dl_spec {R : Type} [Lean.Grind.CommRing R] {co : R → Nat → Fin 5} (H : PL co) (a : R) : (∀ n, dl co a ≤ n → co a n = 0) ∧ (dl co a = 0 ∨ co a (dl co a - 1) ≠ 0) :=
  Classical.epsilon_spec (ln_ex (co a) (pl_fin H a))
theorem dl_hi {R : Type} [Lean.Grind.CommRing R] {co : R → Nat → Fin 5} (H : PL co) {a : R} {n : Nat} (h : dl co a ≤ n) : co a n = 0 := (dl_spec H a).1 n h
theorem dl_lead {R : Type} [Lean.Grind.CommRing R] {co : R → Nat → Fin 5} (H : PL co) {a : R} (h : dl co a ≠ 0) : co a (dl co a - 1) ≠ 0 := (dl_spec H a).2.resolve_left h
theorem dl_le {R : Type} [Lean.Grind.CommRing R] {co : R → Nat → Fin 5} (H : PL co) {a : R} {d : Nat} (h : ∀ n, d ≤ n → co a n = 0) : dl co a ≤ d := by
  by_cases e : dl co a ≤ d
  · exact e
  · exact absurd (h (dl co a - 1) (by omega)) (dl_lead H (by omega))
theorem dl_gt {R : Type} [Lean.Grind.CommRing R] {co : R → Nat → Fin 5} (H : PL co) {a : R} {n : Nat} (h : co a n ≠ 0) : n < dl co a := by
  by_cases e : n < dl co a
  · exact e
  · exact absurd (dl_hi H (by omega)) h
theorem dl_uniq {R : Type} [Lean.Grind.CommRing R] {co : R → Nat → Fin 5} (H : PL co) {a : R} {d : Nat} (h : ∀ n, d ≤ n → co a n = 0) (h1 : d = 0 ∨ co a (d - 1) ≠ 0) : dl co a = d := by
  have h2 := dl_le H h
  rcases h1 with h1 | h1
  · omega
  · have := dl_gt H h1
    omega
theorem dl_0 {R : Type} [Lean.Grind.CommRing R] {co : R → Nat → Fin 5} (H : PL co) : dl co (0 : R) = 0 := dl_uniq H (fun n _ => pl_0 H n) (Or.inl rfl)
theorem dl_eq0 {R : Type} [Lean.Grind.CommRing R] {co : R → Nat → Fin 5} (H : PL co) {a : R} (h : dl co a = 0) : a = 0 := pl_ext H (fun n => by
  rw [pl_0 H]; exact dl_hi H (by omega))
theorem dl_ne {R : Type} [Lean.Grind.CommRing R] {co : R → Nat → Fin 5} (H : PL co) {a : R} (h : a ≠ 0) : 1 ≤ dl co a := by
  by_cases e : dl co a = 0
  · exact absurd (dl_eq0 H e) h
  · omega
theorem dl_nz {R : Type} [Lean.Grind.CommRing R] {co : R → Nat → Fin 5} (H : PL co) {a : R} (h : 1 ≤ dl co a) : a ≠ 0 := by
  intro e
  rw [e, dl_0 H] at h
  omega
theorem dl_1 {R : Type} [Lean.Grind.CommRing R] {co : R → Nat → Fin 5} (H : PL co) : dl co (1 : R) = 1 := by
  refine dl_uniq H (fun n hn => ?_) (Or.inr ?_)
  · rw [pl_1 H, if_neg (by omega)]
  · rw [pl_1 H]; decide
theorem dl_add {R : Type} [Lean.Grind.CommRing R] {co : R → Nat → Fin 5} (H : PL co) {a b : R} {n : Nat} (ha : dl co a ≤ n) (hb : dl co b ≤ n) : dl co (a + b) ≤ n :=
  dl_le H (fun k hk => by rw [pl_add H, dl_hi H (by omega), dl_hi H (by omega)]; rfl)
theorem dl_neg {R : Type} [Lean.Grind.CommRing R] {co : R → Nat → Fin 5} (H : PL co) (a : R) : dl co (-a) = dl co a := by
  refine dl_uniq H (fun n hn => ?_) ?_
  · rw [pl_neg H, dl_hi H hn]; rfl
  · by_cases e : dl co a = 0
    · exact Or.inl e
    · refine Or.inr ?_
      rw [pl_neg H]
      have : ∀ x : Fin 5, x ≠ 0 → -x ≠ 0 := by decide
      exact this _ (dl_lead H e)
theorem dl_sub {R : Type} [Lean.Grind.CommRing R] {co : R → Nat → Fin 5} (H : PL co) {a b : R} {n : Nat} (ha : dl co a ≤ n) (hb : dl co b ≤ n) : dl co (a - b) ≤ n := by
  rw [Lean.Grind.Ring.sub_eq_add_neg]
  exact dl_add H ha (by rw [dl_neg H]; exact hb)

theorem cv_top (f g : Nat → Fin 5) (d e : Nat) (hf : ∀ n, d < n → f n = 0) (hg : ∀ n, e < n → g n = 0) : cv f g (d + e) = f d * g e ∧ ∀ n, d + e < n → cv f g n = 0 := by
  constructor
  · unfold cv
    rw [sm_one (k := d) (by omega) (fun i hi hne => ?_)]
    · show f d * g (d + e - d) = f d * g e
      rw [show d + e - d = e by omega]
    · show f i * g (d + e - i) = 0
      by_cases h : d < i
      · rw [hf i h, f5_0m]
      · rw [hg (d + e - i) (by omega), f5_m0]
  · intro n hn
    refine sm_zero (n + 1) (fun i hi => ?_)
    show f i * g (n - i) = 0
    by_cases h : d < i
    · rw [hf i h, f5_0m]
    · rw [hg (n - i) (by omega), f5_m0]

/-- the number at the highest power -/
noncomputable def ld {R : Type} (co : R → Nat → Fin 5) (a : R) : Fin 5 := co a (dl co a - 1)

theorem ld_ne {R : Type} [Lean.Grind.CommRing R] {co : R → Nat → Fin 5} (H : PL co) {a : R} (h : a ≠ 0) : ld co a ≠ 0 := dl_lead H (by have := dl_ne H h; omega)
theorem dl_mul_ld {R : Type} [Lean.Grind.CommRing R] {co : R → Nat → Fin 5} (H : PL co) {a b : R} (ha : a ≠ 0) (hb : b ≠ 0) : dl co (a * b) = dl co a + dl co b - 1 ∧ ld co (a * b) = ld co a * ld co b := by
  have h1 := dl_ne H ha
  have h2 := dl_ne H hb
  have t := cv_top (co a) (co b) (dl co a - 1) (dl co b - 1) (fun n hn => dl_hi H (by omega)) (fun n hn => dl_hi H (by omega))
  have n1 := ld_ne H ha
  have n2 := ld_ne H hb
  have e : dl co a - 1 + (dl co b - 1) = dl co a + dl co b - 1 - 1 := by omega
  have nz : co a (dl co a - 1) * co b (dl co b - 1) ≠ 0 := fun z => (f5_dom _ _ z).elim n1 n2
  have d : dl co (a * b) = dl co a + dl co b - 1 := by
    refine dl_uniq H (fun n hn => ?_) (Or.inr ?_)
    · rw [pl_mul H]; exact t.2 n (by omega)
    · rw [pl_mul H, ← e, t.1]; exact nz
  refine ⟨d, ?_⟩
  unfold ld
  rw [pl_mul H, d, ← e, t.1]
theorem dl_mul {R : Type} [Lean.Grind.CommRing R] {co : R → Nat → Fin 5} (H : PL co) {a b : R} (ha : a ≠ 0) (hb : b ≠ 0) : dl co (a * b) = dl co a + dl co b - 1 := (dl_mul_ld H ha hb).1
theorem ld_mul {R : Type} [Lean.Grind.CommRing R] {co : R → Nat → Fin 5} (H : PL co) {a b : R} (ha : a ≠ 0) (hb : b ≠ 0) : ld co (a * b) = ld co a * ld co b := (dl_mul_ld H ha hb).2
theorem mul_nz {R : Type} [Lean.Grind.CommRing R] {co : R → Nat → Fin 5} (H : PL co) {a b : R} (ha : a ≠ 0) (hb : b ≠ 0) : a * b ≠ 0 := by
  refine dl_nz H ?_
  rw [dl_mul H ha hb]
  have h1 := dl_ne H ha
  have h2 := dl_ne H hb
  omega
theorem mul_dom {R : Type} [Lean.Grind.CommRing R] {co : R → Nat → Fin 5} (H : PL co) {a b : R} (h : a * b = 0) : a = 0 ∨ b = 0 := by
  by_cases ha : a = 0
  · exact Or.inl ha
  · by_cases hb : b = 0
    · exact Or.inr hb
    · exact absurd h (mul_nz H ha hb)
theorem mul_can {R : Type} [Lean.Grind.CommRing R] {co : R → Nat → Fin 5} (H : PL co) {a b c : R} (hc : c ≠ 0) (h : c * a = c * b) : a = b := by
  have : c * (a - b) = 0 := by grind
  rcases mul_dom H this with e | e
  · exact absurd e hc
  · grind
theorem mul_l {R : Type} [Lean.Grind.CommRing R] {co : R → Nat → Fin 5} (H : PL co) {a b : R} (h : a * b ≠ 0) : a ≠ 0 := by
  intro e; apply h; rw [e]; grind
theorem mul_r {R : Type} [Lean.Grind.CommRing R] {co : R → Nat → Fin 5} (H : PL co) {a b : R} (h : a * b ≠ 0) : b ≠ 0 := by
  intro e; apply h; rw [e]; grind
theorem dl_mul_le {R : Type} [Lean.Grind.CommRing R] {co : R → Nat → Fin 5} (H : PL co) (a b : R) : dl co (a * b) ≤ dl co a + dl co b - 1 := by
  by_cases ha : a = 0
  · rw [ha, show (0 : R) * b = 0 by grind, dl_0 H]; omega
  · by_cases hb : b = 0
    · rw [hb, show a * (0 : R) = 0 by grind, dl_0 H]; omega
    · rw [dl_mul H ha hb]; omega
theorem one_nz {R : Type} [Lean.Grind.CommRing R] {co : R → Nat → Fin 5} (H : PL co) : (1 : R) ≠ 0 := dl_nz H (by rw [dl_1 H]; exact Nat.le_refl 1)
theorem pow_nz {R : Type} [Lean.Grind.CommRing R] {co : R → Nat → Fin 5} (H : PL co) {a : R} (ha : a ≠ 0) (n : Nat) : a ^ n ≠ 0 := by
  induction n with
  | zero => rw [Lean.Grind.Semiring.pow_zero]; exact one_nz H
  | succ n ih => rw [Lean.Grind.Semiring.pow_succ]; exact mul_nz H ih ha
theorem dl_pow {R : Type} [Lean.Grind.CommRing R] {co : R → Nat → Fin 5} (H : PL co) {a : R} (ha : a ≠ 0) (n : Nat) : dl co (a ^ n) = n * (dl co a - 1) + 1 := by
  induction n with
  | zero => rw [Lean.Grind.Semiring.pow_zero, dl_1 H]; omega
  | succ n ih =>
    rw [Lean.Grind.Semiring.pow_succ, dl_mul H (pow_nz H ha n) ha, ih]
    have := dl_ne H ha
    rw [Nat.add_mul]
    omega
theorem dv_dl {R : Type} [Lean.Grind.CommRing R] {co : R → Nat → Fin 5} (H : PL co) {a b : R} (h : Dv a b) (hb : b ≠ 0) : dl co a ≤ dl co b := by
  obtain ⟨c, rfl⟩ := h
  have h1 := mul_l H hb
  have h2 := mul_r H hb
  rw [dl_mul H h1 h2]
  have := dl_ne H h1
  omega
theorem dv_nz {R : Type} [Lean.Grind.CommRing R] {co : R → Nat → Fin 5} (H : PL co) {a b : R} (h : Dv a b) (hb : b ≠ 0) : a ≠ 0 := by
  obtain ⟨c, rfl⟩ := h
  exact mul_r H hb
theorem dv_small {R : Type} [Lean.Grind.CommRing R] {co : R → Nat → Fin 5} (H : PL co) {a b : R} (h : Dv a b) (g : dl co b < dl co a) : b = 0 := by
  by_cases e : b = 0
  · exact e
  · have := dv_dl H h e
    omega

/-! monomials, constants, polynomials by their numbers -/
noncomputable def mo {R : Type} [Lean.Grind.CommRing R] (co : R → Nat → Fin 5) (x : Fin 5) (k : Nat) : R := @Classical.epsilon R ⟨0⟩ (fun a => ∀ n, co a n = if n = k then x else 0)
noncomputable def mkp {R : Type} [Lean.Grind.CommRing R] (co : R → Nat → Fin 5) (f : Nat → Fin 5) (d : Nat) : R := @Classical.epsilon R ⟨0⟩ (fun a => ∀ n, co a n = if n < d then f n else 0)
theorem mk_co {R : Type} [Lean.Grind.CommRing R] {co : R → Nat → Fin 5} (H : PL co) (f : Nat → Fin 5) (d n : Nat) : co (mkp co f d) n = if n < d then f n else 0 :=
  @Classical.epsilon_spec_aux R ⟨0⟩ (fun a => ∀ n, co a n = if n < d then f n else 0) (pl_mk H f d) n
theorem mo_co {R : Type} [Lean.Grind.CommRing R] {co : R → Nat → Fin 5} (H : PL co) (x : Fin 5) (k n : Nat) : co (mo co x k) n = if n = k then x else 0 := by
  have e : ∃ a : R, ∀ n, co a n = if n = k then x else 0 := by
    obtain ⟨a, ha⟩ := pl_mk H (fun n => if n = k then x else 0) (k + 1)
    refine ⟨a, fun n => ?_⟩
    rw [ha]
    by_cases h : n < k + 1
    · rw [if_pos h]
    · rw [if_neg h, if_neg (by omega)]
  exact @Classical.epsilon_spec_aux R ⟨0⟩ (fun a => ∀ n, co a n = if n = k then x else 0) e n
theorem co_mo {R : Type} [Lean.Grind.CommRing R] {co : R → Nat → Fin 5} (H : PL co) (x : Fin 5) (k : Nat) (a : R) (n : Nat) : co (mo co x k * a) n = if k ≤ n then x * co a (n - k) else 0 := by
  rw [pl_mul H]
  unfold cv
  by_cases h : k ≤ n
  · rw [if_pos h, sm_one (k := k) (by omega) (fun i hi hne => ?_)]
    · show co (mo co x k) k * co a (n - k) = _
      rw [mo_co H, if_pos rfl]
    · show co (mo co x k) i * co a (n - i) = 0
      rw [mo_co H, if_neg hne, f5_0m]
  · rw [if_neg h]
    refine sm_zero (n + 1) (fun i hi => ?_)
    show co (mo co x k) i * co a (n - i) = 0
    rw [mo_co H, if_neg (by omega), f5_0m]
theorem co_c {R : Type} [Lean.Grind.CommRing R] {co : R → Nat → Fin 5} (H : PL co) (x : Fin 5) (a : R) (n : Nat) : co (mo co x 0 * a) n = x * co a n := by
  rw [co_mo H, if_pos (Nat.zero_le n), Nat.sub_zero]
theorem dl_mo {R : Type} [Lean.Grind.CommRing R] {co : R → Nat → Fin 5} (H : PL co) {x : Fin 5} (hx : x ≠ 0) (k : Nat) : dl co (mo co x k) = k + 1 := by
  refine dl_uniq H (fun n hn => ?_) (Or.inr ?_)
  · rw [mo_co H, if_neg (by omega)]
  · rw [mo_co H, Nat.add_sub_cancel, if_pos rfl]; exact hx
theorem mo_nz {R : Type} [Lean.Grind.CommRing R] {co : R → Nat → Fin 5} (H : PL co) {x : Fin 5} (hx : x ≠ 0) (k : Nat) : mo co x k ≠ 0 := dl_nz H (by rw [dl_mo H hx]; omega)
theorem mo_1 {R : Type} [Lean.Grind.CommRing R] {co : R → Nat → Fin 5} (H : PL co) : mo co 1 0 = (1 : R) := pl_ext H (fun n => by rw [mo_co H, pl_1 H])
theorem mo_0 {R : Type} [Lean.Grind.CommRing R] {co : R → Nat → Fin 5} (H : PL co) (k : Nat) : mo co 0 k = (0 : R) := pl_ext H (fun n => by
  rw [mo_co H, pl_0 H]; split <;> rfl)
theorem mo_mul {R : Type} [Lean.Grind.CommRing R] {co : R → Nat → Fin 5} (H : PL co) (x y : Fin 5) (j k : Nat) : mo co x j * mo co y k = mo co (x * y) (j + k) := pl_ext H (fun n => by
  rw [co_mo H, mo_co H, mo_co H]
  by_cases h : j ≤ n
  · by_cases e : n - j = k
    · rw [if_pos h, if_pos e, if_pos (by omega)]
    · rw [if_pos h, if_neg e, if_neg (by omega), f5_m0]
  · rw [if_neg h, if_neg (by omega)])
theorem mo_add {R : Type} [Lean.Grind.CommRing R] {co : R → Nat → Fin 5} (H : PL co) (x y : Fin 5) (k : Nat) : mo co x k + mo co y k = mo co (x + y) k := pl_ext H (fun n => by
  rw [pl_add H, mo_co H, mo_co H, mo_co H]
  split <;> rfl)
theorem dl_c1 {R : Type} [Lean.Grind.CommRing R] {co : R → Nat → Fin 5} (H : PL co) {a : R} (h : dl co a ≤ 1) : a = mo co (co a 0) 0 := pl_ext H (fun n => by
  rw [mo_co H]
  by_cases e : n = 0
  · rw [if_pos e, e]
  · rw [if_neg e]; exact dl_hi H (by omega))
theorem dl_c {R : Type} [Lean.Grind.CommRing R] {co : R → Nat → Fin 5} (H : PL co) (x : Fin 5) : dl co (mo co x 0) ≤ 1 := dl_le H (fun n hn => by rw [mo_co H, if_neg (by omega)])
/-- the units -/
theorem un_dl {R : Type} [Lean.Grind.CommRing R] {co : R → Nat → Fin 5} (H : PL co) {a : R} (h : dl co a = 1) : ∃ b, b * a = 1 := by
  have e := dl_c1 H (a := a) (by omega)
  have n := dl_lead H (a := a) (by omega)
  rw [h] at n
  have n' : co a 0 ≠ 0 := n
  generalize co a 0 = x at e n'
  refine ⟨mo co (x * x * x) 0, ?_⟩
  rw [e, mo_mul H, f5_mcm, f5_inv _ n', mo_1 H]
theorem dl_un {R : Type} [Lean.Grind.CommRing R] {co : R → Nat → Fin 5} (H : PL co) {a b : R} (h : b * a = 1) : dl co a = 1 := by
  have n : b * a ≠ 0 := by rw [h]; exact one_nz H
  have e := dl_mul H (mul_l H n) (mul_r H n)
  rw [h, dl_1 H] at e
  have h1 := dl_ne H (mul_l H n)
  have h2 := dl_ne H (mul_r H n)
  omega
theorem un_dv {R : Type} [Lean.Grind.CommRing R] {co : R → Nat → Fin 5} (H : PL co) {a b : R} (h : dl co a = 1) : Dv a b := by
  obtain ⟨c, hc⟩ := un_dl H h
  exact ⟨b * c, by grind⟩
theorem dl_unm {R : Type} [Lean.Grind.CommRing R] {co : R → Nat → Fin 5} (H : PL co) {a b : R} (h : dl co a = 1) : dl co (a * b) = dl co b := by
  by_cases e : b = 0
  · rw [e, show a * (0 : R) = 0 by grind]
  · rw [dl_mul H (dl_nz H (by omega)) e, h]; omega

/-! division with a rest -/
theorem dv_ex {R : Type} [Lean.Grind.CommRing R] {co : R → Nat → Fin 5} (H : PL co) {b : R} (hb : b ≠ 0) : ∀ (n : Nat) (a : R), dl co a ≤ n → ∃ q r, a = q * b + r ∧ dl co r < dl co b := by
  have h1 := dl_ne H hb
  intro n
  induction n with
  | zero => intro a ha; exact ⟨0, a, by grind, by omega⟩
  | succ n ih =>
    intro a ha
    by_cases h : dl co a < dl co b
    · exact ⟨0, a, by grind, h⟩
    · have n1 := ld_ne H hb
      let f := ld co a * (ld co b * ld co b * ld co b)
      let k := dl co a - dl co b
      have hd : dl co (a - mo co f k * b) ≤ n := by
        refine dl_le H (fun j hj => ?_)
        rw [pl_sub H, co_mo H]
        by_cases e : j = dl co a - 1
        · rw [if_pos (by omega), show j - k = dl co b - 1 by omega, e]
          show ld co a - ld co a * (ld co b * ld co b * ld co b) * ld co b = 0
          have : ∀ x y : Fin 5, y ≠ 0 → x - x * (y * y * y) * y = 0 := by decide
          exact this _ _ n1
        · rw [dl_hi H (a := a) (by omega), if_pos (by omega), dl_hi H (a := b) (by omega), f5_m0]; rfl
      obtain ⟨q, r, e, hr⟩ := ih _ hd
      exact ⟨q + mo co f k, r, by grind, hr⟩
theorem dv_un {R : Type} [Lean.Grind.CommRing R] {co : R → Nat → Fin 5} (H : PL co) {b q r q' r' : R} (h : q * b + r = q' * b + r') (hr : dl co r < dl co b) (hr' : dl co r' < dl co b) : q = q' ∧ r = r' := by
  have e : (q - q') * b = r' - r := by grind
  have hb : b ≠ 0 := dl_nz H (by omega)
  by_cases z : q - q' = 0
  · have : q = q' := by grind
    refine ⟨this, ?_⟩
    rw [this] at h
    grind
  · exfalso
    have d := dl_mul H z hb
    rw [e] at d
    have d2 : dl co (r' - r) ≤ dl co b - 1 := dl_sub H (by omega) (by omega)
    have := dl_ne H z
    omega

noncomputable def qo {R : Type} [Lean.Grind.CommRing R] (co : R → Nat → Fin 5) (a b : R) : R := @Classical.epsilon R ⟨0⟩ (fun q => ∃ r, a = q * b + r ∧ dl co r < dl co b)
noncomputable def rm {R : Type} [Lean.Grind.CommRing R] (co : R → Nat → Fin 5) (a b : R) : R := a - qo co a b * b
theorem qr_spec {R : Type} [Lean.Grind.CommRing R] {co : R → Nat → Fin 5} (H : PL co) (a : R) {b : R} (hb : b ≠ 0) : a = qo co a b * b + rm co a b ∧ dl co (rm co a b) < dl co b := by
  obtain ⟨q, r, e, hr⟩ := dv_ex H hb (dl co a) a (Nat.le_refl _)
  obtain ⟨r', e', hr'⟩ := @Classical.epsilon_spec_aux R ⟨0⟩ (fun q => ∃ r, a = q * b + r ∧ dl co r < dl co b) ⟨q, r, e, hr⟩
  have e'' : a = qo co a b * b + r' := e'
  have : rm co a b = r' := by
    unfold rm
    generalize qo co a b = z at e''
    grind
  rw [this]
  exact ⟨e'', hr'⟩
theorem qr_un {R : Type} [Lean.Grind.CommRing R] {co : R → Nat → Fin 5} (H : PL co) {a b q r : R} (e : a = q * b + r) (hr : dl co r < dl co b) : qo co a b = q ∧ rm co a b = r := by
  have hb : b ≠ 0 := dl_nz H (by omega)
  have s := qr_spec H a hb
  exact dv_un H (s.1.symm.trans e) s.2 hr
theorem rm_small {R : Type} [Lean.Grind.CommRing R] {co : R → Nat → Fin 5} (H : PL co) {a b : R} (h : dl co a < dl co b) : rm co a b = a ∧ qo co a b = 0 := by
  have := qr_un H (a := a) (b := b) (q := 0) (r := a) (by grind) h
  exact ⟨this.2, this.1⟩
theorem rm_dv {R : Type} [Lean.Grind.CommRing R] {co : R → Nat → Fin 5} (H : PL co) {a b : R} (hb : b ≠ 0) : rm co a b = 0 ↔ Dv b a := by
  constructor
  · intro h
    have s := (qr_spec H a hb).1
    rw [h] at s
    exact ⟨qo co a b, by grind⟩
  · intro h
    obtain ⟨c, e⟩ := h
    exact (qr_un H (a := a) (b := b) (q := c) (r := 0) (by grind) (by rw [dl_0 H]; exact dl_ne H hb)).2
theorem rm_sub {R : Type} [Lean.Grind.CommRing R] {co : R → Nat → Fin 5} (H : PL co) (a : R) {b : R} (hb : b ≠ 0) : Dv b (a - rm co a b) := by
  have s := (qr_spec H a hb).1
  exact ⟨qo co a b, by grind⟩
theorem qo_mul {R : Type} [Lean.Grind.CommRing R] {co : R → Nat → Fin 5} (H : PL co) {a b : R} (hb : b ≠ 0) : qo co (a * b) b = a :=
  (qr_un H (a := a * b) (b := b) (q := a) (r := 0) (by grind) (by rw [dl_0 H]; exact dl_ne H hb)).1
end
section
/-! common divisors, irreducible polynomials -/
theorem gc_ex {R : Type} [Lean.Grind.CommRing R] {co : R → Nat → Fin 5} (H : PL co) : ∀ (n : Nat) (a b : R), dl co b ≤ n → ∃ g s t u v, g = s * a + t * b ∧ a = u * g ∧ b = v * g := by
  intro n
  induction n with
  | zero =>
    intro a b hb
    have e := dl_eq0 H (a := b) (by omega)
    exact ⟨a, 1, 0, 1, 0, by grind, by grind, by grind⟩
  | succ n ih =>
    intro a b hb
    by_cases z : b = 0
    · exact ⟨a, 1, 0, 1, 0, by grind, by grind, by grind⟩
    · have s := qr_spec H a z
      obtain ⟨g, x, y, u, v, e1, e2, e3⟩ := ih b (rm co a b) (by omega)
      exact ⟨g, y, x - y * qo co a b, qo co a b * u + v, u, by grind, by grind, e2⟩

def Mo {R : Type} (co : R → Nat → Fin 5) (a : R) : Prop := ld co a = 1
def Ir {R : Type} [Lean.Grind.CommRing R] (co : R → Nat → Fin 5) (f : R) : Prop := 2 ≤ dl co f ∧ ∀ a b : R, f = a * b → dl co a = 1 ∨ dl co b = 1

theorem mo_ne {R : Type} [Lean.Grind.CommRing R] {co : R → Nat → Fin 5} (H : PL co) {a : R} (h : Mo co a) : a ≠ 0 := by
  intro e
  have h' : co a (dl co a - 1) = 1 := h
  rw [e, pl_0 H] at h'
  exact absurd h' (by decide)
theorem ir_nz {R : Type} [Lean.Grind.CommRing R] {co : R → Nat → Fin 5} (H : PL co) {f : R} (h : Ir co f) : f ≠ 0 := dl_nz H (by have := h.1; omega)
theorem mo_one {R : Type} [Lean.Grind.CommRing R] {co : R → Nat → Fin 5} (H : PL co) : Mo co (1 : R) := by
  show co (1 : R) (dl co (1 : R) - 1) = 1
  rw [dl_1 H, pl_1 H]; rfl
theorem mo_mm {R : Type} [Lean.Grind.CommRing R] {co : R → Nat → Fin 5} (H : PL co) {a b : R} (ha : Mo co a) (hb : Mo co b) : Mo co (a * b) := by
  show ld co (a * b) = 1
  rw [ld_mul H (mo_ne H ha) (mo_ne H hb), show ld co a = 1 from ha, show ld co b = 1 from hb]; rfl
theorem mo_pow {R : Type} [Lean.Grind.CommRing R] {co : R → Nat → Fin 5} (H : PL co) {a : R} (ha : Mo co a) (n : Nat) : Mo co (a ^ n) := by
  induction n with
  | zero => rw [Lean.Grind.Semiring.pow_zero]; exact mo_one H
  | succ n ih => rw [Lean.Grind.Semiring.pow_succ]; exact mo_mm H ih ha
theorem mo_quo {R : Type} [Lean.Grind.CommRing R] {co : R → Nat → Fin 5} (H : PL co) {a b : R} (ha : Mo co (a * b)) (hb : Mo co b) : Mo co a := by
  have n := mo_ne H ha
  have e := ld_mul H (mul_l H n) (mul_r H n)
  rw [show ld co (a * b) = 1 from ha, show ld co b = 1 from hb, f5_m1] at e
  exact e.symm
theorem mo_dl1 {R : Type} [Lean.Grind.CommRing R] {co : R → Nat → Fin 5} (H : PL co) {a : R} (ha : Mo co a) (h : dl co a ≤ 1) : a = 1 := by
  have e : co a (dl co a - 1) = 1 := ha
  rw [show dl co a - 1 = 0 by omega] at e
  rw [dl_c1 H h, e, mo_1 H]
theorem ld_c {R : Type} [Lean.Grind.CommRing R] {co : R → Nat → Fin 5} (H : PL co) {x : Fin 5} (hx : x ≠ 0) (a : R) : ld co (mo co x 0 * a) = x * ld co a := by
  unfold ld
  rw [dl_unm H (dl_mo H hx 0), co_c H]
/-- made monic -/
theorem mo_mak {R : Type} [Lean.Grind.CommRing R] {co : R → Nat → Fin 5} (H : PL co) {a : R} (ha : a ≠ 0) : Mo co (mo co (ld co a * ld co a * ld co a) 0 * a) := by
  have n := ld_ne H ha
  show ld co _ = 1
  rw [ld_c H (f5_inv0 _ n), f5_mcm]
  exact f5_inv _ n
theorem dv_c {R : Type} [Lean.Grind.CommRing R] {co : R → Nat → Fin 5} (H : PL co) {a b : R} {x : Fin 5} (hx : x ≠ 0) (h : Dv (mo co x 0 * a) b) : Dv a b := dv_trans (dv_r _ _) h
theorem dv_c2 {R : Type} [Lean.Grind.CommRing R] {co : R → Nat → Fin 5} (H : PL co) {a b : R} {x : Fin 5} (hx : x ≠ 0) (h : Dv a b) : Dv (mo co x 0 * a) b := by
  obtain ⟨c, rfl⟩ := h
  have e : mo co (x * x * x) 0 * mo co x 0 = (1 : R) := by
    rw [mo_mul H, f5_mcm, f5_inv _ hx, mo_1 H]
  exact ⟨c * mo co (x * x * x) 0, by grind⟩
theorem dv_c3 {R : Type} [Lean.Grind.CommRing R] {co : R → Nat → Fin 5} (H : PL co) {a b : R} {x : Fin 5} (hx : x ≠ 0) (h : Dv a (mo co x 0 * b)) : Dv a b := by
  obtain ⟨c, hc⟩ := h
  have e : mo co (x * x * x) 0 * mo co x 0 = (1 : R) := by
    rw [mo_mul H, f5_mcm, f5_inv _ hx, mo_1 H]
  exact ⟨mo co (x * x * x) 0 * c, by grind⟩
theorem mo_eq {R : Type} [Lean.Grind.CommRing R] {co : R → Nat → Fin 5} (H : PL co) {a b : R} (ha : Mo co a) (hb : Mo co b) (h : Dv a b) (g : Dv b a) : a = b := by
  have na := mo_ne H ha
  have nb := mo_ne H hb
  have d1 := dv_dl H h nb
  have d2 := dv_dl H g na
  obtain ⟨c, rfl⟩ := h
  have e := dl_mul H (mul_l H nb) na
  have := dl_ne H na
  have := dl_ne H (mul_l H nb)
  have hc : Mo co c := mo_quo H hb ha
  rw [mo_dl1 H hc (by omega)]
  grind
theorem ir_cp {R : Type} [Lean.Grind.CommRing R] {co : R → Nat → Fin 5} (H : PL co) {f a : R} (hf : Ir co f) (h : ¬ Dv f a) : Cp f a := by
  obtain ⟨g, s, t, u, v, e1, e2, e3⟩ := gc_ex H (dl co a) f a (Nat.le_refl _)
  rcases hf.2 u g e2 with d | d
  · exfalso
    obtain ⟨w, hw⟩ := un_dl H d
    exact h ⟨v * w, by grind⟩
  · obtain ⟨w, hw⟩ := un_dl H d
    exact ⟨w * s, w * t, by grind⟩
theorem ir_pr {R : Type} [Lean.Grind.CommRing R] {co : R → Nat → Fin 5} (H : PL co) {f a b : R} (hf : Ir co f) (h : Dv f (a * b)) : Dv f a ∨ Dv f b := by
  by_cases e : Dv f a
  · exact Or.inl e
  · exact Or.inr (cp_dv (ir_cp H hf e) h)
theorem ir_pw {R : Type} [Lean.Grind.CommRing R] {co : R → Nat → Fin 5} (H : PL co) {f a : R} (hf : Ir co f) {n : Nat} (h : Dv f (a ^ n)) : Dv f a := by
  induction n with
  | zero =>
    rw [Lean.Grind.Semiring.pow_zero] at h
    have := dv_dl H h (one_nz H)
    rw [dl_1 H] at this
    have := hf.1
    omega
  | succ n ih =>
    rw [Lean.Grind.Semiring.pow_succ] at h
    rcases ir_pr H hf h with e | e
    · exact ih e
    · exact e
theorem ir_ex {R : Type} [Lean.Grind.CommRing R] {co : R → Nat → Fin 5} (H : PL co) : ∀ (n : Nat) (a : R), dl co a ≤ n → 2 ≤ dl co a → ∃ f, Ir co f ∧ Mo co f ∧ Dv f a := by
  intro n
  induction n with
  | zero => intro a h1 h2; omega
  | succ n ih =>
    intro a h1 h2
    have na : a ≠ 0 := dl_nz H (by omega)
    by_cases e : ∃ b c, a = b * c ∧ 2 ≤ dl co b ∧ 2 ≤ dl co c
    · obtain ⟨b, c, rfl, hb, hc⟩ := e
      have d := dl_mul H (dl_nz H (a := b) (by omega)) (dl_nz H (a := c) (by omega))
      obtain ⟨f, f1, f2, f3⟩ := ih b (by omega) hb
      exact ⟨f, f1, f2, dv_trans f3 (dv_l _ _)⟩
    · have n1 := ld_ne H na
      have n2 := f5_inv0 _ n1
      refine ⟨mo co (ld co a * ld co a * ld co a) 0 * a, ⟨?_, fun b c hbc => ?_⟩, mo_mak H na, dv_c2 H n2 (dv_rfl a)⟩
      · rw [dl_unm H (dl_mo H n2 0)]; exact h2
      · have e2 : mo co (ld co a) 0 * mo co (ld co a * ld co a * ld co a) 0 = (1 : R) := by
          rw [mo_mul H, f5_inv _ n1, mo_1 H]
        have e3 : a = (mo co (ld co a) 0 * b) * c := by grind
        have nz : (mo co (ld co a) 0 * b) * c ≠ 0 := by rw [← e3]; exact na
        have z1 := dl_ne H (mul_r H nz)
        have z2 := dl_ne H (mul_l H nz)
        have z3 := dl_unm H (b := b) (dl_mo H n1 0)
        by_cases z : dl co c = 1
        · exact Or.inr z
        · refine Or.inl ?_
          by_cases z' : dl co b = 1
          · exact z'
          · exact absurd ⟨_, _, e3, by omega, by omega⟩ e
theorem ir_ex' {R : Type} [Lean.Grind.CommRing R] {co : R → Nat → Fin 5} (H : PL co) {a : R} (h : 2 ≤ dl co a) : ∃ f, Ir co f ∧ Mo co f ∧ Dv f a := ir_ex H _ a (Nat.le_refl _) h
theorem ir_as {R : Type} [Lean.Grind.CommRing R] {co : R → Nat → Fin 5} (H : PL co) {f g : R} (hf : Ir co f) (hg : Ir co g) (mf : Mo co f) (mg : Mo co g) (h : Dv f g) : f = g := by
  refine mo_eq H mf mg h ?_
  obtain ⟨c, e⟩ := h
  rcases hg.2 c f e with d | d
  · obtain ⟨w, hw⟩ := un_dl H d
    exact ⟨w, by grind⟩
  · have := hf.1
    omega
theorem ir_cp2 {R : Type} [Lean.Grind.CommRing R] {co : R → Nat → Fin 5} (H : PL co) {f g : R} (hf : Ir co f) (hg : Ir co g) (mf : Mo co f) (mg : Mo co g) (h : f ≠ g) : Cp f g :=
  ir_cp H hf (fun d => h (ir_as H hf hg mf mg d))
theorem ir_com {R : Type} [Lean.Grind.CommRing R] {co : R → Nat → Fin 5} (H : PL co) {a b : R} (h : ¬ Cp a b) (n : b ≠ 0) : ∃ f, Ir co f ∧ Mo co f ∧ Dv f a ∧ Dv f b := by
  obtain ⟨g, s, t, u, v, e1, e2, e3⟩ := gc_ex H (dl co b) a b (Nat.le_refl _)
  have ng : g ≠ 0 := mul_r H (by rw [← e3]; exact n)
  have d := dl_ne H ng
  by_cases z : dl co g = 1
  · obtain ⟨w, hw⟩ := un_dl H z
    exact absurd ⟨w * s, w * t, by grind⟩ h
  · obtain ⟨f, f1, f2, f3⟩ := ir_ex' H (a := g) (by omega)
    exact ⟨f, f1, f2, dv_trans f3 ⟨u, e2⟩, dv_trans f3 ⟨v, e3⟩⟩
theorem ir_small {R : Type} [Lean.Grind.CommRing R] {co : R → Nat → Fin 5} (H : PL co) {f a : R} (hf : Ir co f) (ha : dl co a < dl co f) (n : a ≠ 0) : ¬ Dv f a := by
  intro h
  have := dv_dl H h n
  omega
/-- a polynomial of degree 1 is irreducible -/
theorem ir_lin {R : Type} [Lean.Grind.CommRing R] {co : R → Nat → Fin 5} (H : PL co) {f : R} (h : dl co f = 2) : Ir co f := by
  refine ⟨by omega, fun a b e => ?_⟩
  have nz : a * b ≠ 0 := by rw [← e]; exact dl_nz H (by omega)
  have d := dl_mul H (mul_l H nz) (mul_r H nz)
  have h1 := dl_ne H (mul_l H nz)
  have h2 := dl_ne H (mul_r H nz)
  rw [← e] at d
  omega

/-! lowest terms -/
def Lt {R : Type} [Lean.Grind.CommRing R] (co : R → Nat → Fin 5) (p q P Q : R) : Prop := Cp P Q ∧ Mo co Q ∧ p * Q = P * q
theorem lt_un {R : Type} [Lean.Grind.CommRing R] {co : R → Nat → Fin 5} (H : PL co) {p q P Q P' Q' : R} (hq : q ≠ 0) (h : Lt co p q P Q) (g : Lt co p q P' Q') : P = P' ∧ Q = Q' := by
  obtain ⟨c, m, e⟩ := h
  obtain ⟨c', m', e'⟩ := g
  have x : P * Q' = P' * Q := mul_can H hq (by grind)
  have d1 : Dv Q Q' := cp_dv (cp_symm c) (by rw [x]; exact dv_r _ _)
  have d2 : Dv Q' Q := cp_dv (cp_symm c') (by rw [← x]; exact dv_r _ _)
  have eQ := mo_eq H m m' d1 d2
  refine ⟨?_, eQ⟩
  rw [eQ] at x
  refine mul_can H (mo_ne H m') ?_
  grind
theorem lt_ex {R : Type} [Lean.Grind.CommRing R] {co : R → Nat → Fin 5} (H : PL co) (p : R) {q : R} (hq : q ≠ 0) : ∃ P Q, Lt co p q P Q := by
  obtain ⟨g, s, t, u, v, e1, e2, e3⟩ := gc_ex H (dl co q) p q (Nat.le_refl _)
  have nz : v * g ≠ 0 := by rw [← e3]; exact hq
  have nv := mul_l H nz
  have ng := mul_r H nz
  have n1 := f5_inv0 _ (ld_ne H nv)
  have c : s * u + t * v = 1 := mul_can H ng (by grind)
  have x : mo co (ld co v) 0 * mo co (ld co v * ld co v * ld co v) 0 = (1 : R) := by
    rw [mo_mul H, f5_inv _ (ld_ne H nv), mo_1 H]
  refine ⟨mo co (ld co v * ld co v * ld co v) 0 * u, mo co (ld co v * ld co v * ld co v) 0 * v, ⟨s * mo co (ld co v) 0, t * mo co (ld co v) 0, ?_⟩, mo_mak H nv, ?_⟩
  · grind
  · grind
theorem lt_dv {R : Type} [Lean.Grind.CommRing R] {co : R → Nat → Fin 5} (H : PL co) {p q P Q : R} (hq : q ≠ 0) (h : Lt co p q P Q) : ∃ h', q = h' * Q ∧ p = h' * P := by
  obtain ⟨c, m, e⟩ := h
  have d : Dv Q q := cp_dv (cp_symm c) (by rw [← e]; exact dv_r _ _)
  obtain ⟨w, hw⟩ := d
  refine ⟨w, hw, mul_can H (mo_ne H m) ?_⟩
  grind
theorem lt_dl {R : Type} [Lean.Grind.CommRing R] {co : R → Nat → Fin 5} (H : PL co) {p q P Q : R} (hq : q ≠ 0) (h : Lt co p q P Q) : dl co P ≤ dl co p ∧ dl co Q ≤ dl co q := by
  obtain ⟨w, hw, hp⟩ := lt_dv H hq h
  have nw : w ≠ 0 := mul_l H (b := Q) (by rw [← hw]; exact hq)
  have := dl_ne H nw
  constructor
  · by_cases z : P = 0
    · rw [z, dl_0 H]; omega
    · rw [hp, dl_mul H nw z]; omega
  · rw [hw, dl_mul H nw (mo_ne H h.2.1)]; omega

/-! how often an irreducible polynomial divides -/
def Vl {R : Type} [Lean.Grind.CommRing R] (f a : R) (m : Nat) : Prop := Dv (f ^ m) a ∧ ¬ Dv (f ^ (m + 1)) a
theorem vl_un {R : Type} [Lean.Grind.CommRing R] {f a : R} {m n : Nat} (h : Vl f a m) (g : Vl f a n) : m = n := by
  rcases Nat.lt_trichotomy m n with x | x | x
  · exact absurd (dv_trans (dv_pow_le f x) g.1) h.2
  · exact x
  · exact absurd (dv_trans (dv_pow_le f x) h.1) g.2
theorem vl_ex {R : Type} [Lean.Grind.CommRing R] {co : R → Nat → Fin 5} (H : PL co) {f a : R} (hf : 2 ≤ dl co f) (ha : a ≠ 0) : ∃ m, Vl f a m := by
  have nf : f ≠ 0 := dl_nz H (by omega)
  have k : ∀ n : Nat, (∃ m, Vl f a m) ∨ Dv (f ^ n) a := by
    intro n
    induction n with
    | zero => rw [Lean.Grind.Semiring.pow_zero]; exact Or.inr (dv_1 a)
    | succ n ih =>
      rcases ih with x | x
      · exact Or.inl x
      · by_cases y : Dv (f ^ (n + 1)) a
        · exact Or.inr y
        · exact Or.inl ⟨n, x, y⟩
  rcases k (dl co a) with x | x
  · exact x
  · have := dv_dl H x ha
    rw [dl_pow H nf] at this
    have h3 : dl co a * 1 ≤ dl co a * (dl co f - 1) := Nat.mul_le_mul_left _ (by omega)
    omega
theorem vl_fac {R : Type} [Lean.Grind.CommRing R] {co : R → Nat → Fin 5} (H : PL co) {f a : R} {m : Nat} (nf : f ≠ 0) (h : Vl f a m) : ∃ b, a = f ^ m * b ∧ ¬ Dv f b := by
  obtain ⟨⟨b, e⟩, g⟩ := h
  refine ⟨b, by grind, fun d => g ?_⟩
  rw [e, Lean.Grind.Semiring.pow_succ, show b * f ^ m = f ^ m * b by grind]
  exact dv_mm (dv_rfl _) d
theorem vl_mk {R : Type} [Lean.Grind.CommRing R] {co : R → Nat → Fin 5} (H : PL co) {f b : R} {m : Nat} (nf : f ≠ 0) (h : ¬ Dv f b) : Vl f (f ^ m * b) m := by
  refine ⟨dv_l _ _, fun d => h ?_⟩
  obtain ⟨c, e⟩ := d
  rw [Lean.Grind.Semiring.pow_succ] at e
  exact ⟨c, mul_can H (pow_nz H nf m) (by grind)⟩
theorem vl_mul {R : Type} [Lean.Grind.CommRing R] {co : R → Nat → Fin 5} (H : PL co) {f a b : R} {m n : Nat} (hf : Ir co f) (h : Vl f a m) (g : Vl f b n) : Vl f (a * b) (m + n) := by
  have nf := ir_nz H hf
  obtain ⟨c, e1, h1⟩ := vl_fac H nf h
  obtain ⟨d, e2, h2⟩ := vl_fac H nf g
  have : a * b = f ^ (m + n) * (c * d) := by rw [Lean.Grind.Semiring.pow_add]; grind
  rw [this]
  exact vl_mk H nf (fun x => (ir_pr H hf x).elim h1 h2)
theorem vl_0 {R : Type} [Lean.Grind.CommRing R] {f a : R} : Vl f a 0 ↔ ¬ Dv f a := by
  unfold Vl
  rw [Lean.Grind.Semiring.pow_zero, Nat.zero_add, Lean.Grind.Semiring.pow_one]
  exact ⟨fun h => h.2, fun h => ⟨dv_1 a, h⟩⟩
theorem vl_pos {R : Type} [Lean.Grind.CommRing R] {f a : R} {m : Nat} (h : Vl f a m) (d : Dv f a) : 1 ≤ m := by
  by_cases z : m = 0
  · rw [z] at h
    exact absurd d (vl_0.mp h)
  · omega
theorem vl_dv {R : Type} [Lean.Grind.CommRing R] {f a : R} {m : Nat} (h : Vl f a m) (hm : 1 ≤ m) : Dv f a := dv_trans (dv_pow1 f hm) h.1
theorem vl_le {R : Type} [Lean.Grind.CommRing R] {f a : R} {m n : Nat} (h : Vl f a m) (d : Dv (f ^ n) a) : n ≤ m := by
  by_cases z : n ≤ m
  · exact z
  · exact absurd (dv_trans (dv_pow_le f (by omega)) d) h.2
theorem vl_quo {R : Type} [Lean.Grind.CommRing R] {co : R → Nat → Fin 5} (H : PL co) {f a b : R} {m n : Nat} (hf : Ir co f) (nb : b ≠ 0) (na : a ≠ 0) (h : Vl f (a * b) m) (g : Vl f b n) : Vl f a (m - n) := by
  obtain ⟨k, hk⟩ := vl_ex H hf.1 na
  have := vl_un h (vl_mul H hf hk g)
  rw [show m - n = k by omega]
  exact hk
theorem vl_self {R : Type} [Lean.Grind.CommRing R] {co : R → Nat → Fin 5} (H : PL co) {f : R} (hf : Ir co f) (m : Nat) : Vl f (f ^ m) m := by
  have := vl_mk H (f := f) (b := 1) (m := m) (ir_nz H hf) (fun d => by
    have := dv_dl H d (one_nz H)
    rw [dl_1 H] at this
    have := hf.1
    omega)
  rwa [Lean.Grind.Semiring.mul_one] at this
theorem vl_c {R : Type} [Lean.Grind.CommRing R] {co : R → Nat → Fin 5} (H : PL co) {f a : R} {m : Nat} {x : Fin 5} (hx : x ≠ 0) : Vl f (mo co x 0 * a) m ↔ Vl f a m := by
  unfold Vl
  constructor
  · intro h
    exact ⟨dv_c3 H hx h.1, fun d => h.2 (dv_mul _ d)⟩
  · intro h
    exact ⟨dv_mul _ h.1, fun d => h.2 (dv_c3 H hx d)⟩
end
section
/-! the order of polynomials: by their numbers as digits -/
def nbs (f : Nat → Fin 5) : Nat → Nat
  | 0 => 0
  | n + 1 => nbs f n + (f n).val * 5 ^ n
theorem nbs_lt (f : Nat → Fin 5) (n : Nat) : nbs f n < 5 ^ n := by
  induction n with
  | zero => exact Nat.one_pos
  | succ n ih =>
    show nbs f n + (f n).val * 5 ^ n < 5 ^ (n + 1)
    have h : (f n).val ≤ 4 := by have := (f n).isLt; omega
    have h2 : (f n).val * 5 ^ n ≤ 4 * 5 ^ n := Nat.mul_le_mul_right _ h
    rw [Nat.pow_succ]
    omega
theorem nbs_cmp (f g : Nat → Fin 5) : ∀ (N k : Nat), k < N → (∀ j, k < j → j < N → f j = g j) → (f k).val < (g k).val → nbs f N < nbs g N := by
  intro N
  induction N with
  | zero => intro k hk; omega
  | succ N ih =>
    intro k hk he hl
    show nbs f N + (f N).val * 5 ^ N < nbs g N + (g N).val * 5 ^ N
    by_cases e : k = N
    · rw [e] at hl
      have a := nbs_lt f N
      have b : ((f N).val + 1) * 5 ^ N ≤ (g N).val * 5 ^ N := Nat.mul_le_mul_right _ hl
      rw [Nat.add_mul] at b
      omega
    · have a := ih k (by omega) (fun j h1 h2 => he j h1 (by omega)) hl
      rw [he N (by omega) (by omega)]
      omega
theorem nbs_inj (f g : Nat → Fin 5) : ∀ N, nbs f N = nbs g N → ∀ i, i < N → f i = g i := by
  intro N
  induction N with
  | zero => intro _ i hi; omega
  | succ N ih =>
    intro h i hi
    rcases Nat.lt_trichotomy (f N).val (g N).val with c | c | c
    · have := nbs_cmp f g (N + 1) N (by omega) (fun j h1 h2 => by omega) c
      omega
    · have h' : nbs f N + (f N).val * 5 ^ N = nbs g N + (g N).val * 5 ^ N := h
      rw [c] at h'
      by_cases e : i = N
      · rw [e]; exact Fin.ext c
      · exact ih (by omega) i (by omega)
    · have := nbs_cmp g f (N + 1) N (by omega) (fun j h1 h2 => by omega) c
      omega
theorem nbs_zero (f : Nat → Fin 5) (a : Nat) : ∀ b, a ≤ b → (∀ i, a ≤ i → i < b → f i = 0) → nbs f b = nbs f a := by
  intro b
  induction b with
  | zero => intro h _; rw [show a = 0 by omega]
  | succ b ih =>
    intro h hz
    by_cases e : a = b + 1
    · rw [e]
    · show nbs f b + (f b).val * 5 ^ b = nbs f a
      rw [ih (by omega) (fun i h1 h2 => hz i h1 (by omega)), hz b (by omega) (by omega)]
      show nbs f a + 0 * 5 ^ b = nbs f a
      omega
theorem nbs_congr {f g : Nat → Fin 5} : ∀ n, (∀ i, i < n → f i = g i) → nbs f n = nbs g n := by
  intro n
  induction n with
  | zero => intro _; rfl
  | succ n ih =>
    intro h
    show nbs f n + (f n).val * 5 ^ n = nbs g n + (g n).val * 5 ^ n
    rw [ih (fun i hi => h i (by omega)), h n (by omega)]

def nb {R : Type} (co : R → Nat → Fin 5) (a : R) : Nat := nbs (co a) 24
theorem nb_inj {R : Type} [Lean.Grind.CommRing R] {co : R → Nat → Fin 5} (H : PL co) {a b : R} (ha : dl co a ≤ 24) (hb : dl co b ≤ 24) (h : nb co a = nb co b) : a = b := pl_ext H (fun n => by
  by_cases e : n < 24
  · exact nbs_inj _ _ 24 h n e
  · rw [dl_hi H (a := a) (by omega), dl_hi H (a := b) (by omega)])
/-- of a monic polynomial of degree d the number lies in [5^d, 2 5^d) -/
theorem nb_mon {R : Type} [Lean.Grind.CommRing R] {co : R → Nat → Fin 5} (H : PL co) {a : R} {d : Nat} (h : dl co a = d + 1) (hd : d < 24) (hm : Mo co a) : nb co a = nbs (co a) d + 5 ^ d := by
  unfold nb
  rw [nbs_zero (co a) (d + 1) 24 (by omega) (fun i h1 h2 => dl_hi H (by omega))]
  show nbs (co a) d + (co a d).val * 5 ^ d = _
  have e : co a (dl co a - 1) = 1 := hm
  rw [h, Nat.add_sub_cancel] at e
  rw [e]
  show _ + 1 * 5 ^ d = _
  omega
theorem nb_deg {R : Type} [Lean.Grind.CommRing R] {co : R → Nat → Fin 5} (H : PL co) {a b : R} (ha : dl co a ≤ 24) (hb : dl co b ≤ 24) (h : dl co a < dl co b) : nb co a < nb co b := by
  refine nbs_cmp (co a) (co b) 24 (dl co b - 1) (by omega) (fun j h1 h2 => ?_) ?_
  · rw [dl_hi H (by omega), dl_hi H (by omega)]
  · rw [dl_hi H (a := a) (by omega)]
    have := dl_lead H (a := b) (by omega)
    have h3 : (co b (dl co b - 1)).val ≠ 0 := fun z => this (Fin.ext z)
    show 0 < _
    omega

/-! the factors of a polynomial: n of them, g i to the power e i, in order -/
def Fc {R : Type} [Lean.Grind.CommRing R] (co : R → Nat → Fin 5) (a : R) (n : Nat) (g : Nat → R) (e : Nat → Nat) : Prop :=
  (∀ i, i < n → Ir co (g i) ∧ Mo co (g i) ∧ 1 ≤ e i ∧ Vl (g i) a (e i)) ∧
  (∀ f, Ir co f → Mo co f → Dv f a → ∃ i, i < n ∧ g i = f) ∧
  (∀ i j, i < j → j < n → nb co (g i) < nb co (g j))

theorem so_un {R : Type} {key : R → Nat} {n n' : Nat} {g g' : Nat → R} (hs : ∀ i j, i < j → j < n → key (g i) < key (g j)) (hs' : ∀ i j, i < j → j < n' → key (g' i) < key (g' j)) (h : ∀ i, i < n → ∃ j, j < n' ∧ g' j = g i) (h' : ∀ i, i < n' → ∃ j, j < n ∧ g j = g' i) (inj : ∀ i j, i < n → j < n' → key (g i) = key (g' j) → g i = g' j) : ∀ k i, i < k → i < n → i < n' ∧ g i = g' i := by
  intro k
  induction k with
  | zero => intro i hi; omega
  | succ k ih =>
    intro i hi hn
    by_cases hk : i < k
    · exact ih i hk hn
    · obtain ⟨j, hj, ej⟩ := h i hn
      have hij : i ≤ j := by
        by_cases c : i ≤ j
        · exact c
        · have a := ih j (by omega) (by omega)
          have b := hs j i (by omega) hn
          rw [a.2, ej] at b
          omega
      have hi' : i < n' := by omega
      obtain ⟨l, hl, el⟩ := h' i hi'
      have hil : i ≤ l := by
        by_cases c : i ≤ l
        · exact c
        · have a := ih l (by omega) (by omega)
          have b := hs' l i (by omega) hi'
          rw [← a.2, el] at b
          omega
      have k1 : key (g' i) ≤ key (g' j) := by
        by_cases c : i = j
        · rw [c]; exact Nat.le_refl _
        · exact Nat.le_of_lt (hs' i j (by omega) hj)
      have k2 : key (g i) ≤ key (g l) := by
        by_cases c : i = l
        · rw [c]; exact Nat.le_refl _
        · exact Nat.le_of_lt (hs i l (by omega) hl)
      rw [ej] at k1
      rw [el] at k2
      exact ⟨hi', inj i i hn hi' (by omega)⟩

theorem fc_un {R : Type} [Lean.Grind.CommRing R] {co : R → Nat → Fin 5} (H : PL co) {a : R} {n n' : Nat} {g g' : Nat → R} {e e' : Nat → Nat} (ha : a ≠ 0) (hd : dl co a ≤ 24) (h : Fc co a n g e) (h' : Fc co a n' g' e') : n = n' ∧ ∀ i, i < n → g i = g' i ∧ e i = e' i := by
  have d : ∀ i, i < n → Dv (g i) a := fun i hi => vl_dv (h.1 i hi).2.2.2 (h.1 i hi).2.2.1
  have d' : ∀ i, i < n' → Dv (g' i) a := fun i hi => vl_dv (h'.1 i hi).2.2.2 (h'.1 i hi).2.2.1
  have i1 : ∀ i j, i < n → j < n' → nb co (g i) = nb co (g' j) → g i = g' j := fun i j hi hj e =>
    nb_inj H (Nat.le_trans (dv_dl H (d i hi) ha) hd) (Nat.le_trans (dv_dl H (d' j hj) ha) hd) e
  have A := so_un (key := nb co) h.2.2 h'.2.2 (fun i hi => h'.2.1 _ (h.1 i hi).1 (h.1 i hi).2.1 (d i hi)) (fun i hi => h.2.1 _ (h'.1 i hi).1 (h'.1 i hi).2.1 (d' i hi)) i1
  have B := so_un (key := nb co) h'.2.2 h.2.2 (fun i hi => h.2.1 _ (h'.1 i hi).1 (h'.1 i hi).2.1 (d' i hi)) (fun i hi => h'.2.1 _ (h.1 i hi).1 (h.1 i hi).2.1 (d i hi)) (fun i j hi hj e => (i1 j i hj hi e.symm).symm)
  have en : n = n' := by
    rcases Nat.lt_trichotomy n n' with c | c | c
    · have := B (n + 1) n (by omega) c
      omega
    · exact c
    · have := A (n' + 1) n' (by omega) c
      omega
  refine ⟨en, fun i hi => ?_⟩
  have x := A (i + 1) i (by omega) hi
  refine ⟨x.2, ?_⟩
  have v := (h.1 i hi).2.2.2
  rw [x.2] at v
  exact vl_un v (h'.1 i x.1).2.2.2

/-! products -/
def pd {R : Type} [Lean.Grind.CommRing R] (g : Nat → R) (e : Nat → Nat) : Nat → R
  | 0 => 1
  | n + 1 => pd g e n * g n ^ e n
def dgs (d e : Nat → Nat) : Nat → Nat
  | 0 => 0
  | n + 1 => dgs d e n + e n * d n
theorem pd_nz {R : Type} [Lean.Grind.CommRing R] {co : R → Nat → Fin 5} (H : PL co) {g : Nat → R} {e : Nat → Nat} : ∀ n, (∀ i, i < n → g i ≠ 0) → pd g e n ≠ 0 := by
  intro n
  induction n with
  | zero => intro _; exact one_nz H
  | succ n ih => intro h; exact mul_nz H (ih (fun i hi => h i (by omega))) (pow_nz H (h n (by omega)) _)
theorem pd_dl {R : Type} [Lean.Grind.CommRing R] {co : R → Nat → Fin 5} (H : PL co) {g : Nat → R} {e : Nat → Nat} : ∀ n, (∀ i, i < n → g i ≠ 0) → dl co (pd g e n) = dgs (fun i => dl co (g i) - 1) e n + 1 := by
  intro n
  induction n with
  | zero => intro _; exact dl_1 H
  | succ n ih =>
    intro h
    show dl co (pd g e n * g n ^ e n) = dgs _ e n + e n * (dl co (g n) - 1) + 1
    rw [dl_mul H (pd_nz H n (fun i hi => h i (by omega))) (pow_nz H (h n (by omega)) _), ih (fun i hi => h i (by omega)), dl_pow H (h n (by omega))]
    omega
theorem pd_cp {R : Type} [Lean.Grind.CommRing R] {co : R → Nat → Fin 5} (H : PL co) {f : R} {g : Nat → R} {e : Nat → Nat} : ∀ n, (∀ i, i < n → Cp f (g i)) → Cp f (pd g e n) := by
  intro n
  induction n with
  | zero => intro _; exact cp_1 f
  | succ n ih => intro h; exact cp_mul (ih (fun i hi => h i (by omega))) (cp_pow (h n (by omega)) _)
theorem pd_mo {R : Type} [Lean.Grind.CommRing R] {co : R → Nat → Fin 5} (H : PL co) {g : Nat → R} {e : Nat → Nat} : ∀ n, (∀ i, i < n → Mo co (g i)) → Mo co (pd g e n) := by
  intro n
  induction n with
  | zero => intro _; exact mo_one H
  | succ n ih => intro h; exact mo_mm H (ih (fun i hi => h i (by omega))) (mo_pow H (h n (by omega)) _)
theorem pd_in {R : Type} [Lean.Grind.CommRing R] {g : Nat → R} {e : Nat → Nat} : ∀ n i, i < n → Dv (g i ^ e i) (pd g e n) := by
  intro n
  induction n with
  | zero => intro i hi; omega
  | succ n ih =>
    intro i hi
    by_cases c : i = n
    · rw [c]; exact dv_r _ _
    · exact dv_trans (ih i (by omega)) (dv_l _ _)
theorem pd_dv {R : Type} [Lean.Grind.CommRing R] {co : R → Nat → Fin 5} (H : PL co) {a : R} {g : Nat → R} {e : Nat → Nat} : ∀ n, (∀ i j, i < n → j < n → i ≠ j → Cp (g i) (g j)) → (∀ i, i < n → Dv (g i ^ e i) a) → Dv (pd g e n) a := by
  intro n
  induction n with
  | zero => intro _ _; exact dv_1 a
  | succ n ih =>
    intro hc hd
    refine cp_md ?_ (ih (fun i j h1 h2 h3 => hc i j (by omega) (by omega) h3) (fun i hi => hd i (by omega))) (hd n (by omega))
    exact cp_symm (pd_cp H n (fun i hi => cp_symm (cp_pow (hc i n (by omega) (by omega) (by omega)) _)))
theorem dgs_ge (d e : Nat → Nat) : ∀ n, (∀ i, i < n → 1 ≤ e i ∧ 1 ≤ d i) → n ≤ dgs d e n := by
  intro n
  induction n with
  | zero => intro _; exact Nat.le_refl 0
  | succ n ih =>
    intro h
    have a := ih (fun i hi => h i (by omega))
    have b : 1 * 1 ≤ e n * d n := Nat.mul_le_mul (h n (by omega)).1 (h n (by omega)).2
    show n + 1 ≤ dgs d e n + e n * d n
    omega
/-- different irreducible divisors: not more of them than the degree -/
theorem ir_cnt {R : Type} [Lean.Grind.CommRing R] {co : R → Nat → Fin 5} (H : PL co) {a : R} (ha : a ≠ 0) {g : Nat → R} {n : Nat} (h : ∀ i, i < n → Ir co (g i) ∧ Mo co (g i) ∧ Dv (g i) a) (hne : ∀ i j, i < n → j < n → i ≠ j → g i ≠ g j) : n + 1 ≤ dl co a := by
  have d := pd_dv H (a := a) (g := g) (e := fun _ => 1) n (fun i j h1 h2 h3 => ir_cp2 H (h i h1).1 (h j h2).1 (h i h1).2.1 (h j h2).2.1 (hne i j h1 h2 h3)) (fun i hi => by
    show Dv (g i ^ 1) a
    rw [Lean.Grind.Semiring.pow_one]; exact (h i hi).2.2)
  have l := dv_dl H d ha
  rw [pd_dl H n (fun i hi => ir_nz H (h i hi).1)] at l
  have := dgs_ge (fun i => dl co (g i) - 1) (fun _ => 1) n (fun i hi => ⟨Nat.le_refl 1, by have := (h i hi).1.1; omega⟩)
  omega
theorem fc_ne {R : Type} [Lean.Grind.CommRing R] {co : R → Nat → Fin 5} (H : PL co) {a : R} {n : Nat} {g : Nat → R} {e : Nat → Nat} (h : Fc co a n g e) : ∀ i j, i < n → j < n → i ≠ j → g i ≠ g j := by
  intro i j hi hj hne x
  rcases Nat.lt_or_gt_of_ne hne with c | c
  · have := h.2.2 i j c hj
    rw [x] at this
    omega
  · have := h.2.2 j i c hi
    rw [x] at this
    omega
theorem fc_cp {R : Type} [Lean.Grind.CommRing R] {co : R → Nat → Fin 5} (H : PL co) {a : R} {n : Nat} {g : Nat → R} {e : Nat → Nat} (h : Fc co a n g e) : ∀ i j, i < n → j < n → i ≠ j → Cp (g i) (g j) := fun i j hi hj hne =>
  ir_cp2 H (h.1 i hi).1 (h.1 j hj).1 (h.1 i hi).2.1 (h.1 j hj).2.1 (fc_ne H h i j hi hj hne)
theorem fc_cnt {R : Type} [Lean.Grind.CommRing R] {co : R → Nat → Fin 5} (H : PL co) {a : R} (ha : a ≠ 0) {n : Nat} {g : Nat → R} {e : Nat → Nat} (h : Fc co a n g e) : n + 1 ≤ dl co a :=
  ir_cnt H ha (fun i hi => ⟨(h.1 i hi).1, (h.1 i hi).2.1, vl_dv (h.1 i hi).2.2.2 (h.1 i hi).2.2.1⟩) (fc_ne H h)
/-- a monic polynomial is the product of its factors -/
theorem fc_pd {R : Type} [Lean.Grind.CommRing R] {co : R → Nat → Fin 5} (H : PL co) {a : R} (ha : Mo co a) {n : Nat} {g : Nat → R} {e : Nat → Nat} (h : Fc co a n g e) : a = pd g e n := by
  have na := mo_ne H ha
  obtain ⟨u, hu⟩ := pd_dv H n (fc_cp H h) (fun i hi => (h.1 i hi).2.2.2.1)
  have mp : Mo co (pd g e n) := pd_mo H n (fun i hi => (h.1 i hi).2.1)
  have mu : Mo co u := mo_quo H (by rw [← hu]; exact ha) mp
  have du : dl co u ≤ 1 := by
    by_cases c : dl co u ≤ 1
    · exact c
    · exfalso
      obtain ⟨f, f1, f2, f3⟩ := ir_ex' H (a := u) (by omega)
      obtain ⟨i, hi, ei⟩ := h.2.1 f f1 f2 (by rw [hu]; exact dv_trans f3 (dv_l _ _))
      refine (h.1 i hi).2.2.2.2 ?_
      rw [Lean.Grind.Semiring.pow_succ, hu]
      have := dv_mm f3 (pd_in (g := g) (e := e) n i hi)
      rw [ei] at this ⊢
      rw [show f ^ e i * f = f * f ^ e i by grind]
      exact this
  rw [hu, mo_dl1 H mu du]
  grind
theorem fc_e {R : Type} [Lean.Grind.CommRing R] {co : R → Nat → Fin 5} (H : PL co) {a : R} (ha : a ≠ 0) (hd : dl co a ≤ 9) {n : Nat} {g : Nat → R} {e : Nat → Nat} (h : Fc co a n g e) {i : Nat} (hi : i < n) : e i * (dl co (g i) - 1) + 1 ≤ dl co a ∧ e i ≤ 8 ∧ 2 ≤ dl co (g i) ∧ dl co (g i) ≤ 9 := by
  have d := dv_dl H (h.1 i hi).2.2.2.1 ha
  have f := (h.1 i hi).1.1
  rw [dl_pow H (ir_nz H (h.1 i hi).1)] at d
  have k : e i * 1 ≤ e i * (dl co (g i) - 1) := Nat.mul_le_mul_left _ (by omega)
  have k2 : 1 * (dl co (g i) - 1) ≤ e i * (dl co (g i) - 1) := Nat.mul_le_mul_right _ (h.1 i hi).2.2.1
  exact ⟨d, by omega, f, by omega⟩
end
section
/-! five times anything is 0; fifth powers -/
theorem ch_5 {R : Type} [Lean.Grind.CommRing R] {co : R → Nat → Fin 5} (H : PL co) : (5 : R) = 0 := by
  have e : (1 : R) + 1 + 1 + 1 + 1 = 0 := pl_ext H (fun n => by
    rw [pl_add H, pl_add H, pl_add H, pl_add H, pl_1 H, pl_0 H]
    split <;> rfl)
  grind
theorem fr_add {R : Type} [Lean.Grind.CommRing R] {co : R → Nat → Fin 5} (H : PL co) (a b : R) : (a + b) ^ 5 = a ^ 5 + b ^ 5 := by
  have e : (a + b) ^ 5 = a ^ 5 + b ^ 5 + 5 * (a ^ 4 * b + 2 * a ^ 3 * b ^ 2 + 2 * a ^ 2 * b ^ 3 + a * b ^ 4) := by grind
  rw [e, ch_5 H]
  grind
theorem fr_sub {R : Type} [Lean.Grind.CommRing R] {co : R → Nat → Fin 5} (H : PL co) (a b : R) : (a - b) ^ 5 = a ^ 5 - b ^ 5 := by
  have e := fr_add H (a - b) b
  rw [show a - b + b = a by grind] at e
  grind
theorem fr_mo {R : Type} [Lean.Grind.CommRing R] {co : R → Nat → Fin 5} (H : PL co) (x : Fin 5) (k : Nat) : (mo co x k : R) ^ 5 = mo co x (5 * k) := by
  have e : (mo co x k : R) ^ 5 = mo co x k * mo co x k * mo co x k * mo co x k * mo co x k := by grind
  rw [e, mo_mul H, mo_mul H, mo_mul H, mo_mul H]
  have : ∀ x : Fin 5, x * x * x * x * x = x := by decide
  rw [this, show k + k + k + k + k = 5 * k by omega]
theorem fr_co {R : Type} [Lean.Grind.CommRing R] {co : R → Nat → Fin 5} (H : PL co) : ∀ (d : Nat) (a : R), dl co a ≤ d → ∀ n, co (a ^ 5) n = if n % 5 = 0 then co a (n / 5) else 0 := by
  intro d
  induction d with
  | zero =>
    intro a h n
    rw [dl_eq0 H (a := a) (by omega), show (0 : R) ^ 5 = 0 by grind, pl_0 H, pl_0 H]
    split <;> rfl
  | succ d ih =>
    intro a h n
    have hd : dl co (a - mo co (co a d) d) ≤ d := dl_le H (fun j hj => by
      rw [pl_sub H, mo_co H]
      by_cases e : j = d
      · rw [if_pos e, e]
        have : ∀ x : Fin 5, x - x = 0 := by decide
        exact this _
      · rw [if_neg e, dl_hi H (a := a) (by omega)]; rfl)
    have i := ih _ hd n
    rw [fr_sub H, fr_mo H, pl_sub H, mo_co H] at i
    have e1 : ∀ x y z : Fin 5, x - y = z → x = z + y := by decide
    rw [e1 _ _ _ i, pl_sub H, mo_co H]
    have e2 : ∀ x y : Fin 5, x - y + y = x := by decide
    by_cases e : n % 5 = 0
    · rw [if_pos e, if_pos e]
      by_cases f : n / 5 = d
      · rw [if_pos f, if_pos (by omega), e2]
      · rw [if_neg f, if_neg (by omega)]
        have e3 : ∀ x : Fin 5, x - 0 + 0 = x := by decide
        exact e3 _
    · rw [if_neg e, if_neg e, if_neg (by omega)]; rfl
theorem fr_co' {R : Type} [Lean.Grind.CommRing R] {co : R → Nat → Fin 5} (H : PL co) (a : R) (n : Nat) : co (a ^ 5) n = if n % 5 = 0 then co a (n / 5) else 0 := fr_co H (dl co a) a (Nat.le_refl _) n

/-! the derivative -/
noncomputable def de {R : Type} [Lean.Grind.CommRing R] (co : R → Nat → Fin 5) (a : R) : R := mkp co (fun n => Fin.ofNat 5 (n + 1) * co a (n + 1)) (dl co a)
theorem de_co {R : Type} [Lean.Grind.CommRing R] {co : R → Nat → Fin 5} (H : PL co) (a : R) (n : Nat) : co (de co a) n = Fin.ofNat 5 (n + 1) * co a (n + 1) := by
  unfold de
  rw [mk_co H]
  by_cases e : n < dl co a
  · rw [if_pos e]
  · rw [if_neg e, dl_hi H (a := a) (by omega), f5_m0]
theorem de_add {R : Type} [Lean.Grind.CommRing R] {co : R → Nat → Fin 5} (H : PL co) (a b : R) : de co (a + b) = de co a + de co b := pl_ext H (fun n => by
  rw [pl_add H, de_co H, de_co H, de_co H, pl_add H, f5_ld])
theorem de_mul {R : Type} [Lean.Grind.CommRing R] {co : R → Nat → Fin 5} (H : PL co) (a b : R) : de co (a * b) = de co a * b + a * de co b := pl_ext H (fun n => by
  rw [pl_add H, de_co H, pl_mul H, pl_mul H, pl_mul H]
  have k : ∀ i, i ≤ n + 1 → Fin.ofNat 5 (n + 1) = Fin.ofNat 5 i + Fin.ofNat 5 (n + 1 - i) := by
    intro i hi
    rw [← po_addc, show i + (n + 1 - i) = n + 1 by omega]
  have e : Fin.ofNat 5 (n + 1) * cv (co a) (co b) (n + 1) = sm_s (fun i => Fin.ofNat 5 i * co a i * co b (n + 1 - i)) (n + 2) + sm_s (fun i => co a i * (Fin.ofNat 5 (n + 1 - i) * co b (n + 1 - i))) (n + 2) := by
    unfold cv
    rw [← sm_mul, ← sm_add]
    refine sm_congr (n + 2) (fun i hi => ?_)
    show Fin.ofNat 5 (n + 1) * (co a i * co b (n + 1 - i)) = Fin.ofNat 5 i * co a i * co b (n + 1 - i) + co a i * (Fin.ofNat 5 (n + 1 - i) * co b (n + 1 - i))
    rw [k i (by omega)]
    have : ∀ x y u v : Fin 5, (x + y) * (u * v) = x * u * v + u * (y * v) := by decide +kernel
    exact this _ _ _ _
  rw [e]
  have e1 : sm_s (fun i => Fin.ofNat 5 i * co a i * co b (n + 1 - i)) (n + 2) = cv (co (de co a)) (co b) n := by
    rw [sm_first]
    show Fin.ofNat 5 0 * co a 0 * co b (n + 1 - 0) + _ = _
    rw [show Fin.ofNat 5 0 = (0 : Fin 5) from rfl, f5_0m, f5_0m, f5_0a]
    refine sm_congr (n + 1) (fun i hi => ?_)
    show Fin.ofNat 5 (i + 1) * co a (i + 1) * co b (n + 1 - (i + 1)) = co (de co a) i * co b (n - i)
    rw [de_co H, show n + 1 - (i + 1) = n - i by omega]
  have e2 : sm_s (fun i => co a i * (Fin.ofNat 5 (n + 1 - i) * co b (n + 1 - i))) (n + 2) = cv (co a) (co (de co b)) n := by
    show sm_s _ (n + 1) + co a (n + 1) * (Fin.ofNat 5 (n + 1 - (n + 1)) * co b (n + 1 - (n + 1))) = _
    rw [Nat.sub_self, show Fin.ofNat 5 0 = (0 : Fin 5) from rfl, f5_0m, f5_m0, f5_a0]
    refine sm_congr (n + 1) (fun i hi => ?_)
    show co a i * (Fin.ofNat 5 (n + 1 - i) * co b (n + 1 - i)) = co a i * co (de co b) (n - i)
    rw [de_co H, show n - i + 1 = n + 1 - i by omega]
  rw [e1, e2])
theorem de_1 {R : Type} [Lean.Grind.CommRing R] {co : R → Nat → Fin 5} (H : PL co) : de co (1 : R) = 0 := pl_ext H (fun n => by rw [de_co H, pl_1 H, pl_0 H, if_neg (by omega), f5_m0])
theorem de_pow {R : Type} [Lean.Grind.CommRing R] {co : R → Nat → Fin 5} (H : PL co) (f : R) (m : Nat) : de co (f ^ (m + 1)) = mo co (Fin.ofNat 5 (m + 1)) 0 * f ^ m * de co f := by
  induction m with
  | zero => rw [Lean.Grind.Semiring.pow_one, Lean.Grind.Semiring.pow_zero, show Fin.ofNat 5 (0 + 1) = (1 : Fin 5) from rfl, mo_1 H]; grind
  | succ m ih =>
    rw [Lean.Grind.Semiring.pow_succ, de_mul H, ih, po_addc (m + 1) 1, ← mo_add H, show Fin.ofNat 5 1 = (1 : Fin 5) from rfl, mo_1 H, Lean.Grind.Semiring.pow_succ]
    grind
theorem de_dl {R : Type} [Lean.Grind.CommRing R] {co : R → Nat → Fin 5} (H : PL co) (a : R) (n : Nat) (h : dl co a ≤ n + 1) : dl co (de co a) ≤ n := dl_le H (fun k hk => by
  rw [de_co H, dl_hi H (a := a) (by omega), f5_m0])
/-- what has derivative 0 is a fifth power -/
theorem de_root {R : Type} [Lean.Grind.CommRing R] {co : R → Nat → Fin 5} (H : PL co) {a : R} (h : de co a = 0) : mkp co (fun n => co a (5 * n)) (dl co a) ^ 5 = a := pl_ext H (fun n => by
  rw [fr_co' H, mk_co H]
  by_cases e : n % 5 = 0
  · rw [if_pos e]
    by_cases f : n / 5 < dl co a
    · rw [if_pos f, show 5 * (n / 5) = n by omega]
    · rw [if_neg f]; exact (dl_hi H (by omega)).symm
  · rw [if_neg e]
    have d := de_co H a (n - 1)
    rw [h, pl_0 H, show n - 1 + 1 = n by omega] at d
    rcases f5_dom _ _ d.symm with x | x
    · exfalso
      have : n % 5 = 0 := congrArg Fin.val x
      exact e this
    · exact x.symm)
theorem ir_sep {R : Type} [Lean.Grind.CommRing R] {co : R → Nat → Fin 5} (H : PL co) {f : R} (hf : Ir co f) : de co f ≠ 0 := by
  intro h
  have e := de_root H h
  generalize mkp co (fun n => co f (5 * n)) (dl co f) = g at e
  have nf := ir_nz H hf
  have ng : g ≠ 0 := by
    intro z
    rw [z] at e
    exact nf (by rw [← e]; grind)
  have d := dl_pow H ng 5
  rw [e] at d
  have := hf.1
  rcases hf.2 g (g ^ 4) (by rw [← e]; grind) with x | x
  · rw [x] at d; omega
  · rw [dl_pow H ng 4] at x
    omega
theorem ir_de {R : Type} [Lean.Grind.CommRing R] {co : R → Nat → Fin 5} (H : PL co) {f : R} (hf : Ir co f) : ¬ Dv f (de co f) := by
  intro h
  have d := de_dl H f (dl co f - 1) (by omega)
  have := hf.1
  exact ir_sep H hf (dv_small H h (by omega))

/-- a multiplicity that five divides lasts -/
theorem vl_de5 {R : Type} [Lean.Grind.CommRing R] {co : R → Nat → Fin 5} (H : PL co) {f a : R} {m : Nat} (hf : Ir co f) (h : Vl f a m) (h5 : m % 5 = 0) : Dv (f ^ m) (de co a) := by
  obtain ⟨b, e, _⟩ := vl_fac H (ir_nz H hf) h
  rw [e, de_mul H]
  by_cases z : m = 0
  · rw [z, Lean.Grind.Semiring.pow_zero]; exact dv_1 _
  · obtain ⟨k, rfl⟩ : ∃ k, m = k + 1 := ⟨m - 1, by omega⟩
    rw [de_pow H]
    have : Fin.ofNat 5 (k + 1) = (0 : Fin 5) := Fin.ext h5
    rw [this, mo_0 H]
    exact ⟨de co b, by grind⟩
theorem vl_den {R : Type} [Lean.Grind.CommRing R] {co : R → Nat → Fin 5} (H : PL co) {f a : R} {m : Nat} (hf : Ir co f) (h : Vl f a m) (h5 : m % 5 ≠ 0) : Vl f (de co a) (m - 1) := by
  have nf := ir_nz H hf
  obtain ⟨b, e, hb⟩ := vl_fac H nf h
  obtain ⟨k, rfl⟩ : ∃ k, m = k + 1 := ⟨m - 1, by omega⟩
  have nz : Fin.ofNat 5 (k + 1) ≠ (0 : Fin 5) := fun z => h5 (congrArg Fin.val z)
  have e2 : de co a = f ^ k * (mo co (Fin.ofNat 5 (k + 1)) 0 * (de co f * b) + f * de co b) := by
    rw [e, de_mul H, de_pow H, Lean.Grind.Semiring.pow_succ]
    grind
  rw [e2, Nat.add_sub_cancel]
  refine vl_mk H nf (fun d => ?_)
  have d2 : Dv f (mo co (Fin.ofNat 5 (k + 1)) 0 * (de co f * b)) := by
    have := dv_sub d (dv_l f (de co b))
    rwa [show mo co (Fin.ofNat 5 (k + 1)) 0 * (de co f * b) + f * de co b - f * de co b = mo co (Fin.ofNat 5 (k + 1)) 0 * (de co f * b) by grind] at this
  exact (ir_pr H hf (dv_c3 H nz d2)).elim (ir_de H hf) hb

/-! the greatest common divisor -/
def Gc {R : Type} [Lean.Grind.CommRing R] (co : R → Nat → Fin 5) (a b g : R) : Prop := Mo co g ∧ Dv g a ∧ Dv g b ∧ ∃ s t, g = s * a + t * b
theorem gc_vl {R : Type} [Lean.Grind.CommRing R] {co : R → Nat → Fin 5} (H : PL co) {f a b g : R} {m n : Nat} (hf : Ir co f) (h : Gc co a b g) (ha : Vl f a m) (hb : Vl f b n) : Vl f g (min m n) := by
  obtain ⟨mg, d1, d2, s, t, e⟩ := h
  constructor
  · rw [e]
    exact dv_add (dv_mul _ (dv_trans (dv_pow_le f (Nat.min_le_left m n)) ha.1)) (dv_mul _ (dv_trans (dv_pow_le f (Nat.min_le_right m n)) hb.1))
  · intro d
    rcases Nat.le_total m n with c | c
    · rw [Nat.min_eq_left c] at d
      exact ha.2 (dv_trans d d1)
    · rw [Nat.min_eq_right c] at d
      exact hb.2 (dv_trans d d2)
theorem gc_vl2 {R : Type} [Lean.Grind.CommRing R] {co : R → Nat → Fin 5} (H : PL co) {f a b g : R} {m : Nat} (hf : Ir co f) (h : Gc co a b g) (ha : Vl f a m) (hb : Dv (f ^ m) b) : Vl f g m := by
  obtain ⟨mg, d1, d2, s, t, e⟩ := h
  constructor
  · rw [e]
    exact dv_add (dv_mul _ ha.1) (dv_mul _ hb)
  · intro d
    exact ha.2 (dv_trans d d1)

/-! the parts without repeated factors: what the loop over the powers keeps -/
def Sq {R : Type} [Lean.Grind.CommRing R] (co : R → Nat → Fin 5) (a : R) (e : Nat) (A B : R) : Prop :=
  Mo co A ∧ Mo co B ∧ ∀ f, Ir co f → Mo co f → ∀ m, Vl f a m →
    (m % 5 ≠ 0 → e ≤ m → Vl f A 1 ∧ Vl f B (m - e)) ∧ (m % 5 ≠ 0 → m < e → Vl f A 0 ∧ Vl f B 0) ∧ (m % 5 = 0 → Vl f A 0 ∧ Vl f B m)
theorem sq_1 {R : Type} [Lean.Grind.CommRing R] {co : R → Nat → Fin 5} (H : PL co) {a B A : R} (ma : Mo co a) (hB : Gc co a (de co a) B) (hA : a = A * B) : Sq co a 1 A B := by
  have mB := hB.1
  have mA : Mo co A := mo_quo H (by rw [← hA]; exact ma) mB
  refine ⟨mA, mB, fun f hf _ m hv => ⟨fun h5 hm => ?_, fun h5 hm => ?_, fun h5 => ?_⟩⟩
  · have v := gc_vl H hf hB hv (vl_den H hf hv h5)
    rw [Nat.min_eq_right (by omega)] at v
    have w := vl_quo H (m := m) hf (mo_ne H mB) (mo_ne H mA) (by rw [← hA]; exact hv) v
    rw [show m - (m - 1) = 1 by omega] at w
    exact ⟨w, v⟩
  · exfalso
    have : m = 0 := by omega
    rw [this] at h5
    exact h5 rfl
  · have v := gc_vl2 H hf hB hv (vl_de5 H hf hv h5)
    have w := vl_quo H (m := m) hf (mo_ne H mB) (mo_ne H mA) (by rw [← hA]; exact hv) v
    rw [Nat.sub_self] at w
    exact ⟨w, v⟩
/-- one round: C the common part, S what is split now -/
theorem sq_s {R : Type} [Lean.Grind.CommRing R] {co : R → Nat → Fin 5} (H : PL co) {a A B C S B' : R} {e : Nat} (he : 1 ≤ e) (h : Sq co a e A B) (hC : Gc co A B C) (hS : A = S * C) (hB : B = B' * C) : Sq co a (e + 1) C B' ∧ Mo co S ∧ (∀ f, Ir co f → Mo co f → ∀ m, Vl f a m → (m % 5 ≠ 0 → m = e → Vl f S 1) ∧ ((m % 5 = 0 ∨ m ≠ e) → Vl f S 0)) := by
  obtain ⟨mA, mB, hv⟩ := h
  have mC := hC.1
  have mS : Mo co S := mo_quo H (by rw [← hS]; exact mA) mC
  have mB' : Mo co B' := mo_quo H (by rw [← hB]; exact mB) mC
  have nC := mo_ne H mC
  have key : ∀ f, Ir co f → ∀ i j, Vl f A i → Vl f B j → Vl f C (min i j) ∧ Vl f S (i - min i j) ∧ Vl f B' (j - min i j) := by
    intro f hf i j vi vj
    have v := gc_vl H hf hC vi vj
    exact ⟨v, vl_quo H hf nC (mo_ne H mS) (by rw [← hS]; exact vi) v, vl_quo H hf nC (mo_ne H mB') (by rw [← hB]; exact vj) v⟩
  refine ⟨⟨mC, mB', fun f hf mf m hm => ?_⟩, mS, fun f hf mf m hm => ?_⟩
  · obtain ⟨h1, h2, h3⟩ := hv f hf mf m hm
    refine ⟨fun h5 hle => ?_, fun h5 hlt => ?_, fun h5 => ?_⟩
    · have x := h1 h5 (by omega)
      have y := key f hf _ _ x.1 x.2
      rw [show min 1 (m - e) = 1 by omega] at y
      exact ⟨y.1, by rw [show m - (e + 1) = m - e - 1 by omega]; exact y.2.2⟩
    · by_cases c : e ≤ m
      · have x := h1 h5 c
        have y := key f hf _ _ x.1 x.2
        rw [show min 1 (m - e) = 0 by omega, show m - e - 0 = 0 by omega] at y
        exact ⟨y.1, y.2.2⟩
      · have x := h2 h5 (by omega)
        have y := key f hf _ _ x.1 x.2
        exact ⟨y.1, y.2.2⟩
    · have x := h3 h5
      have y := key f hf _ _ x.1 x.2
      rw [show min 0 m = 0 by omega, Nat.sub_zero] at y
      exact ⟨y.1, y.2.2⟩
  · obtain ⟨h1, h2, h3⟩ := hv f hf mf m hm
    refine ⟨fun h5 hme => ?_, fun hor => ?_⟩
    · have x := h1 h5 (by omega)
      have y := key f hf _ _ x.1 x.2
      rw [show min 1 (m - e) = 0 by omega] at y
      exact y.2.1
    · by_cases h5 : m % 5 = 0
      · have x := h3 h5
        have y := key f hf _ _ x.1 x.2
        rw [show 0 - min 0 m = 0 by omega] at y
        exact y.2.1
      · by_cases c : e ≤ m
        · have x := h1 h5 c
          have y := key f hf _ _ x.1 x.2
          rw [show 1 - min 1 (m - e) = 0 by omega] at y
          exact y.2.1
        · have x := h2 h5 (by omega)
          have y := key f hf _ _ x.1 x.2
          exact y.2.1
/-- a round that is due has a power of at most 8 -/
theorem sq_le {R : Type} [Lean.Grind.CommRing R] {co : R → Nat → Fin 5} (H : PL co) {a A B : R} {e : Nat} (na : a ≠ 0) (hd : dl co a ≤ 9) (h : Sq co a e A B) (hA : 2 ≤ dl co A) : e ≤ 8 := by
  obtain ⟨f, f1, f2, f3⟩ := ir_ex' H hA
  obtain ⟨m, hm⟩ := vl_ex H f1.1 na
  have g := h.2.2 f f1 f2 m hm
  have hl := dv_dl H hm.1 na
  rw [dl_pow H (ir_nz H f1)] at hl
  have k : m * 1 ≤ m * (dl co f - 1) := Nat.mul_le_mul_left _ (by have := f1.1; omega)
  by_cases h5 : m % 5 = 0
  · exact absurd f3 (vl_0.mp (g.2.2 h5).1)
  · by_cases c : e ≤ m
    · omega
    · exact absurd f3 (vl_0.mp (g.2.1 h5 (by omega)).1)
/-- a fifth power of degree below 10 -/
theorem ro_x {R : Type} [Lean.Grind.CommRing R] {co : R → Nat → Fin 5} (H : PL co) {B : R} {c : Fin 5} (h : B = mo co 1 5 + mo co c 0) : (mo co 1 1 + mo co c 0) ^ 5 = B := by
  rw [fr_add H, fr_mo H, fr_mo H, h]
theorem ro_lin {R : Type} [Lean.Grind.CommRing R] {co : R → Nat → Fin 5} (H : PL co) (c : Fin 5) : dl co (mo co 1 1 + mo co c 0 : R) = 2 ∧ Mo co (mo co 1 1 + mo co c 0 : R) := by
  have d : dl co (mo co 1 1 + mo co c 0 : R) = 2 := by
    refine dl_uniq H (fun n hn => ?_) (Or.inr ?_)
    · rw [pl_add H, mo_co H, mo_co H, if_neg (by omega), if_neg (by omega)]; rfl
    · rw [pl_add H, mo_co H, mo_co H, if_pos rfl, if_neg (by omega)]; decide
  refine ⟨d, ?_⟩
  show co _ (dl co _ - 1) = 1
  rw [d, pl_add H, mo_co H, mo_co H, if_pos rfl, if_neg (by omega)]; rfl
theorem ro_5 {R : Type} [Lean.Grind.CommRing R] {co : R → Nat → Fin 5} (H : PL co) {B : R} (mB : Mo co B) (hd : dl co B ≤ 9) (h2 : 2 ≤ dl co B) (h : de co B = 0) : B = mo co 1 5 + mo co (co B 0) 0 := by
  have z : ∀ n, n % 5 ≠ 0 → co B n = 0 := by
    intro n hn
    have d := de_co H B (n - 1)
    rw [h, pl_0 H, show n - 1 + 1 = n by omega] at d
    rcases f5_dom _ _ d.symm with x | x
    · exact absurd (congrArg Fin.val x) hn
    · exact x
  have l := dl_lead H (a := B) (by omega)
  have l5 : dl co B - 1 = 5 := by
    by_cases e : (dl co B - 1) % 5 = 0
    · omega
    · exact absurd (z _ e) l
  have m5 : co B 5 = 1 := by
    have : co B (dl co B - 1) = 1 := mB
    rwa [l5] at this
  refine pl_ext H (fun n => ?_)
  rw [pl_add H, mo_co H, mo_co H]
  by_cases e5 : n = 5
  · rw [if_pos e5, if_neg (by omega), e5, m5]; rfl
  · by_cases e0 : n = 0
    · rw [if_neg e5, if_pos e0, e0, f5_0a]
    · rw [if_neg e5, if_neg e0]
      by_cases e : n % 5 = 0
      · rw [dl_hi H (a := B) (by omega)]; rfl
      · rw [z n e]; rfl
/-- what is left at the end -/
theorem sq_end {R : Type} [Lean.Grind.CommRing R] {co : R → Nat → Fin 5} (H : PL co) {a A B : R} {e : Nat} (na : a ≠ 0) (hd : dl co a ≤ 9) (h : Sq co a e A B) (hA : dl co A ≤ 1) (hB : dl co B ≤ 9) (h2 : 2 ≤ dl co B) : B = mo co 1 5 + mo co (co B 0) 0 := by
  refine ro_5 H h.2.1 hB h2 ?_
  have nB := mo_ne H h.2.1
  have nA : ∀ f, Ir co f → Vl f A 0 := fun f hf => vl_0.mpr (fun d => by
    have := dv_dl H d (mo_ne H h.1)
    have := hf.1
    omega)
  have hv : ∀ f, Ir co f → Mo co f → ∃ m, m % 5 = 0 ∧ Vl f B m := by
    intro f hf mf
    obtain ⟨m, hm⟩ := vl_ex H hf.1 na
    obtain ⟨h1, h2, h3⟩ := h.2.2 f hf mf m hm
    by_cases h5 : m % 5 = 0
    · exact ⟨m, h5, (h3 h5).2⟩
    · by_cases c : e ≤ m
      · have := vl_un (h1 h5 c).1 (nA f hf)
        omega
      · exact ⟨0, rfl, (h2 h5 (by omega)).2⟩
  obtain ⟨f, f1, f2, f3⟩ := ir_ex' H h2
  obtain ⟨m, hm5, hm⟩ := hv f f1 f2
  have m1 := vl_pos hm f3
  obtain ⟨u, e1, hu⟩ := vl_fac H (ir_nz H f1) hm
  have nu : u ≠ 0 := mul_r H (a := f ^ m) (by rw [← e1]; exact nB)
  have d1 := dl_mul H (pow_nz H (ir_nz H f1) m) nu
  rw [← e1, dl_pow H (ir_nz H f1)] at d1
  have f11 := f1.1
  have k : m * 1 ≤ m * (dl co f - 1) := Nat.mul_le_mul_left _ (by omega)
  have u1 := dl_ne H nu
  have m5 : m = 5 := by omega
  have du : dl co u ≤ 1 := by
    by_cases c : dl co u ≤ 1
    · exact c
    · exfalso
      obtain ⟨g, g1, g2, g3⟩ := ir_ex' H (a := u) (by omega)
      obtain ⟨n, hn5, hn⟩ := hv g g1 g2
      have n1 := vl_pos hn (by rw [e1]; exact dv_trans g3 (dv_r _ _))
      by_cases fg : f = g
      · rw [fg] at hu
        exact hu g3
      · have cp := cp_pp (ir_cp2 H g1 f1 g2 f2 (Ne.symm fg)) n m
        have dv := cp_dv cp (by rw [← e1]; exact hn.1)
        have dd := dv_dl H dv nu
        rw [dl_pow H (ir_nz H g1)] at dd
        have k2 : n * 1 ≤ n * (dl co g - 1) := Nat.mul_le_mul_left _ (by have := g1.1; omega)
        omega
  have uu : u = mo co (co u 0) 0 := dl_c1 H du
  rw [e1, m5, de_mul H, show (5 : Nat) = 4 + 1 from rfl, de_pow H, show Fin.ofNat 5 (4 + 1) = (0 : Fin 5) from rfl, mo_0 H]
  have du0 : de co u = 0 := pl_ext H (fun n => by
    rw [de_co H, pl_0 H, dl_hi H (a := u) (by omega), f5_m0])
  rw [du0]
  grind
end
section
/-! linear algebra over the field of five -/
theorem sm_sub (f g : Nat → Fin 5) (n : Nat) : sm_s (fun i => f i - g i) n = sm_s f n - sm_s g n := by
  induction n with
  | zero => rfl
  | succ n ih =>
    show sm_s (fun i => f i - g i) n + (f n - g n) = sm_s f n + f n - (sm_s g n + g n)
    rw [ih]
    have : ∀ a b c d : Fin 5, a - b + (c - d) = a + c - (b + d) := by decide +kernel
    exact this _ _ _ _
def bi (m j : Nat) : Nat := m / 2 ^ j % 2
def rk (m : Nat) : Nat → Nat
  | 0 => 0
  | k + 1 => rk m k + bi m k
def fk (m : Nat) : Nat → Nat
  | 0 => 0
  | k + 1 => fk m k + (1 - bi m k)
theorem bi_01 (m j : Nat) : bi m j = 0 ∨ bi m j = 1 := by unfold bi; omega
theorem rk_le (m k : Nat) : rk m k ≤ k := by
  induction k with
  | zero => exact Nat.le_refl 0
  | succ k ih => show rk m k + bi m k ≤ k + 1; rcases bi_01 m k with h | h <;> omega
theorem rf_k (m k : Nat) : rk m k + fk m k = k := by
  induction k with
  | zero => rfl
  | succ k ih => show rk m k + bi m k + (fk m k + (1 - bi m k)) = k + 1; rcases bi_01 m k with h | h <;> omega
theorem rk_mono (m : Nat) {j k : Nat} (h : j ≤ k) : rk m j ≤ rk m k := by
  induction k with
  | zero => rw [show j = 0 by omega]; exact Nat.le_refl _
  | succ k ih =>
    by_cases e : j = k + 1
    · rw [e]; exact Nat.le_refl _
    · have := ih (by omega)
      show rk m j ≤ rk m k + bi m k
      omega
theorem rk_lt (m : Nat) {j k : Nat} (h : j < k) (hb : bi m j = 1) : rk m j < rk m k := by
  have a := rk_mono m (show j + 1 ≤ k from h)
  have b : rk m (j + 1) = rk m j + bi m j := rfl
  omega
theorem rk_inj (m : Nat) {i j : Nat} (hi : bi m i = 1) (hj : bi m j = 1) (h : rk m i = rk m j) : i = j := by
  rcases Nat.lt_trichotomy i j with c | c | c
  · have := rk_lt m c hi; omega
  · exact c
  · have := rk_lt m c hj; omega
theorem rk_sur (m : Nat) : ∀ n r, r < rk m n → ∃ j, j < n ∧ bi m j = 1 ∧ rk m j = r := by
  intro n
  induction n with
  | zero => intro r hr; exact absurd hr (Nat.not_lt_zero r)
  | succ n ih =>
    intro r hr
    have hr' : r < rk m n + bi m n := hr
    by_cases c : r < rk m n
    · obtain ⟨j, h1, h2, h3⟩ := ih r c
      exact ⟨j, by omega, h2, h3⟩
    · rcases bi_01 m n with b | b
      · omega
      · exact ⟨n, by omega, b, by omega⟩
theorem bi_lo {m k j : Nat} (h : j < k) : bi (m + 2 ^ k) j = bi m j := by
  unfold bi
  have e : 2 ^ k = 2 ^ (k - j - 1) * 2 * 2 ^ j := by
    rw [Nat.mul_assoc, Nat.mul_comm 2, ← Nat.pow_succ, ← Nat.pow_add]
    congr 1
    omega
  rw [e, Nat.add_mul_div_right _ _ (Nat.two_pow_pos j)]
  omega
theorem bi_k {m k : Nat} (h : m < 2 ^ k) : bi (m + 2 ^ k) k = 1 := by
  unfold bi
  rw [Nat.add_div_right _ (Nat.two_pow_pos k), Nat.div_eq_of_lt h]
theorem bi_hi {m k : Nat} (h : m < 2 ^ k) : bi m k = 0 := by
  unfold bi
  rw [Nat.div_eq_of_lt h]
theorem rk_add {m k : Nat} (j : Nat) (h : j ≤ k) : rk (m + 2 ^ k) j = rk m j := by
  induction j with
  | zero => rfl
  | succ j ih =>
    show rk (m + 2 ^ k) j + bi (m + 2 ^ k) j = rk m j + bi m j
    rw [ih (by omega), bi_lo (by omega)]

/-- v is in the kernel -/
def Ke (n w : Nat) (Q : Nat → Nat → Fin 5) (v : Nat → Fin 5) : Prop := ∀ r, r < n → sm_s (fun i => Q r i * v i) w = 0
theorem ke_congr {n w : Nat} {Q Q' : Nat → Nat → Fin 5} {v : Nat → Fin 5} (h : ∀ r i, r < n → i < w → Q r i = Q' r i) (k : Ke n w Q v) : Ke n w Q' v := fun r hr => by
  rw [← k r hr]
  exact (sm_congr w (fun i hi => by rw [h r i hr hi])).symm
def xch (M : Nat → Nat → Fin 5) (r s a i : Nat) : Fin 5 := if a = s then M r i else if a = r then M s i else M a i
def cln (M : Nat → Nat → Fin 5) (row k a i : Nat) : Fin 5 :=
  if a = row then M row i * (M row k * M row k * M row k) else M a i - M a k * (M row i * (M row k * M row k * M row k))
theorem ke_xch {n w : Nat} {M : Nat → Nat → Fin 5} {r s : Nat} (hr : r < n) (hs : s < n) (v : Nat → Fin 5) : Ke n w (xch M r s) v ↔ Ke n w M v := by
  have e : ∀ a, sm_s (fun i => xch M r s a i * v i) w = if a = s then sm_s (fun i => M r i * v i) w else if a = r then sm_s (fun i => M s i * v i) w else sm_s (fun i => M a i * v i) w := by
    intro a
    unfold xch
    by_cases h1 : a = s
    · simp only [if_pos h1]
    · by_cases h2 : a = r
      · simp only [if_neg h1, if_pos h2]
      · simp only [if_neg h1, if_neg h2]
  constructor
  · intro h a ha
    by_cases h2 : a = r
    · have := h s hs
      rw [e, if_pos rfl] at this
      rw [h2]; exact this
    · by_cases h1 : a = s
      · have := h r hr
        rw [e] at this
        by_cases h3 : r = s
        · exact absurd (h1.trans h3.symm) h2
        · rw [if_neg h3, if_pos rfl] at this
          rw [h1]; exact this
      · have := h a ha
        rw [e, if_neg h1, if_neg h2] at this
        exact this
  · intro h a ha
    rw [e]
    by_cases h1 : a = s
    · rw [if_pos h1]; exact h r hr
    · by_cases h2 : a = r
      · rw [if_neg h1, if_pos h2]; exact h s hs
      · rw [if_neg h1, if_neg h2]; exact h a ha
theorem ke_cln {n w : Nat} {M : Nat → Nat → Fin 5} {row k : Nat} (hr : row < n) (hz : M row k ≠ 0) (v : Nat → Fin 5) : Ke n w (cln M row k) v ↔ Ke n w M v := by
  have e1 : sm_s (fun i => cln M row k row i * v i) w = (M row k * M row k * M row k) * sm_s (fun i => M row i * v i) w := by
    rw [← sm_mul]
    refine sm_congr w (fun i _ => ?_)
    unfold cln
    rw [if_pos rfl]
    have : ∀ a b c : Fin 5, a * b * c = b * (a * c) := by decide +kernel
    exact this _ _ _
  have e2 : ∀ a, a ≠ row → sm_s (fun i => cln M row k a i * v i) w = sm_s (fun i => M a i * v i) w - (M a k * (M row k * M row k * M row k)) * sm_s (fun i => M row i * v i) w := by
    intro a ha
    rw [← sm_mul, ← sm_sub]
    refine sm_congr w (fun i _ => ?_)
    unfold cln
    rw [if_neg ha]
    have : ∀ a b c d e : Fin 5, (a - b * (c * d)) * e = a * e - b * d * (c * e) := by decide +kernel
    exact this _ _ _ _ _
  have nz := f5_inv0 _ hz
  constructor
  · intro h
    have h0 : sm_s (fun i => M row i * v i) w = 0 := by
      have := h row hr
      rw [e1] at this
      exact (f5_dom _ _ this).resolve_left nz
    intro a ha
    by_cases c : a = row
    · rw [c]; exact h0
    · have := h a ha
      rw [e2 a c, h0, f5_m0] at this
      have z : ∀ x : Fin 5, x - 0 = 0 → x = 0 := by decide
      exact z _ this
  · intro h a ha
    by_cases c : a = row
    · rw [c, e1, h row hr, f5_m0]
    · rw [e2 a c, h a ha, h row hr, f5_m0]; rfl

/-- the matrix when k columns are done; the bits of m: columns with a pivot -/
def Ech (n : Nat) (M : Nat → Nat → Fin 5) (m k : Nat) : Prop :=
  m < 2 ^ k ∧ rk m k ≤ n ∧ (∀ r j, rk m k ≤ r → r < n → j < k → M r j = 0) ∧
  (∀ j, j < k → bi m j = 1 → ∀ r, r < n → M r j = if r = rk m j then 1 else 0)
theorem ech_0 (n : Nat) (M : Nat → Nat → Fin 5) : Ech n M 0 0 := ⟨Nat.one_pos, Nat.zero_le _, fun r j _ _ h => absurd h (Nat.not_lt_zero _), fun j h => absurd h (Nat.not_lt_zero _)⟩
theorem ech_congr {n : Nat} {M M' : Nat → Nat → Fin 5} {m k : Nat} (hk : k ≤ n) (e : ∀ r i, r < n → i < n → M r i = M' r i) (h : Ech n M m k) : Ech n M' m k :=
  ⟨h.1, h.2.1, fun r j h1 h2 h3 => by rw [← e r j h2 (by omega)]; exact h.2.2.1 r j h1 h2 h3, fun j h1 h2 r h3 => by rw [← e r j h3 (by omega)]; exact h.2.2.2 j h1 h2 r h3⟩
theorem ech_no {n : Nat} {M : Nat → Nat → Fin 5} {m k : Nat} (h : Ech n M m k) (z : ∀ r, rk m k ≤ r → r < n → M r k = 0) : Ech n M m (k + 1) := by
  have b := bi_hi h.1
  have e : rk m (k + 1) = rk m k := by show rk m k + bi m k = rk m k; omega
  refine ⟨by rw [Nat.pow_succ]; have := h.1; omega, by rw [e]; exact h.2.1, fun r j h1 h2 h3 => ?_, fun j h1 h2 r h3 => ?_⟩
  · rw [e] at h1
    by_cases c : j = k
    · rw [c]; exact z r h1 h2
    · exact h.2.2.1 r j h1 h2 (by omega)
  · by_cases c : j = k
    · rw [c] at h2; omega
    · exact h.2.2.2 j (by omega) h2 r h3
theorem ech_pv {n : Nat} {M : Nat → Nat → Fin 5} {m k r : Nat} (h : Ech n M m k) (h1 : rk m k ≤ r) (h2 : r < n) (z : M r k ≠ 0) : Ech n (cln (xch M r (rk m k)) (rk m k) k) (m + 2 ^ k) (k + 1) := by
  have b := bi_k h.1
  have e : rk (m + 2 ^ k) (k + 1) = rk m k + 1 := by
    show rk (m + 2 ^ k) k + bi (m + 2 ^ k) k = _
    rw [rk_add k (Nat.le_refl k), b]
  have hlt := h.1
  have nz : xch M r (rk m k) (rk m k) k ≠ 0 := by
    unfold xch; rw [if_pos rfl]; exact z
  -- columns below k keep
  have low : ∀ a j, a < n → j < k → xch M r (rk m k) a j = M a j := by
    intro a j ha hj
    unfold xch
    by_cases c1 : a = rk m k
    · rw [if_pos c1, h.2.2.1 r j h1 h2 hj, h.2.2.1 a j (by omega) ha hj]
    · rw [if_neg c1]
      by_cases c2 : a = r
      · rw [if_pos c2, h.2.2.1 (rk m k) j (Nat.le_refl _) (by omega) hj, h.2.2.1 a j (by omega) ha hj]
      · rw [if_neg c2]
  have low2 : ∀ a j, a < n → j < k → cln (xch M r (rk m k)) (rk m k) k a j = M a j := by
    intro a j ha hj
    have z0 : xch M r (rk m k) (rk m k) j = 0 := by
      rw [low _ _ (by omega) hj]
      exact h.2.2.1 _ j (Nat.le_refl _) (by omega) hj
    unfold cln
    by_cases c : a = rk m k
    · rw [if_pos c, z0, f5_0m, c]
      exact (h.2.2.1 _ j (Nat.le_refl _) (by omega) hj).symm
    · rw [if_neg c, z0, f5_0m, f5_m0, low a j ha hj]
      have : ∀ x : Fin 5, x - 0 = x := by decide
      exact this _
  have colk : ∀ a, a < n → cln (xch M r (rk m k)) (rk m k) k a k = if a = rk m k then 1 else 0 := by
    intro a ha
    unfold cln
    by_cases c : a = rk m k
    · rw [if_pos c, if_pos c]
      exact f5_inv _ nz
    · rw [if_neg c, if_neg c, f5_inv _ nz, f5_m1]
      have : ∀ x : Fin 5, x - x = 0 := by decide
      exact this _
  refine ⟨by rw [Nat.pow_succ]; omega, by rw [e]; omega, fun a j q1 q2 q3 => ?_, fun j q1 q2 a q3 => ?_⟩
  · rw [e] at q1
    by_cases c : j = k
    · rw [c, colk a q2, if_neg (by omega)]
    · rw [low2 a j q2 (by omega)]
      exact h.2.2.1 a j (by omega) q2 (by omega)
  · by_cases c : j = k
    · rw [c, colk a q3, rk_add k (Nat.le_refl k)]
    · rw [bi_lo (by omega)] at q2
      rw [low2 a j q3 (by omega), rk_add j (by omega)]
      exact h.2.2.2 j (by omega) q2 a q3
/-- the vector of a column without a pivot -/
def vc (M : Nat → Nat → Fin 5) (m f k : Nat) : Fin 5 := if bi m k = 0 then (if k = f then 1 else 0) else -M (rk m k) f
theorem vc_ke {n : Nat} {M : Nat → Nat → Fin 5} {m f : Nat} (h : Ech n M m n) (hf : f < n) (hb : bi m f = 0) : Ke n n M (vc M m f) := by
  intro r hr
  by_cases c : rk m n ≤ r
  · exact sm_zero n (fun i hi => by
      show M r i * vc M m f i = 0
      rw [h.2.2.1 r i c hr hi, f5_0m])
  · obtain ⟨j, hj, bj, ej⟩ := rk_sur m n r (by omega)
    have s : sm_s (fun i => M r i * vc M m f i) n = sm_s (fun i => (if i = f then M r f else 0) + (if i = j then -M r f else 0)) n := by
      refine sm_congr n (fun i hi => ?_)
      show M r i * vc M m f i = _
      unfold vc
      rcases bi_01 m i with b | b
      · have nj : i ≠ j := fun q => by rw [q] at b; omega
        rw [if_pos b, if_neg nj]
        by_cases q : i = f
        · rw [if_pos q, if_pos q, q, f5_m1, f5_a0]
        · rw [if_neg q, if_neg q, f5_m0]; rfl
      · have nf : i ≠ f := fun q => by rw [q] at b; omega
        rw [if_neg (by omega), if_neg nf, h.2.2.2 i hi b r hr]
        by_cases q : i = j
        · rw [if_pos q, q, ej, if_pos rfl, f5_1m, f5_0a]
        · rw [if_neg q, if_neg (fun w => q (rk_inj m b bj (by omega))), f5_0m]; rfl
    rw [s, sm_add, sm_one (k := f) hf (fun i _ q => if_neg q), sm_one (k := j) hj (fun i _ q => if_neg q), if_pos rfl, if_pos rfl]
    have : ∀ x : Fin 5, x + -x = 0 := by decide
    exact this _
theorem ke_free {n : Nat} {M : Nat → Nat → Fin 5} {m : Nat} {v : Nat → Fin 5} (h : Ech n M m n) (k : Ke n n M v) (z : ∀ f, f < n → bi m f = 0 → v f = 0) : ∀ j, j < n → v j = 0 := by
  intro j hj
  rcases bi_01 m j with b | b
  · exact z j hj b
  · have hr : rk m j < n := by have := rk_lt m hj b; have := h.2.1; omega
    have s := k (rk m j) hr
    rw [sm_one (k := j) hj (fun i hi q => ?_)] at s
    · have e := h.2.2.2 j hj b (rk m j) hr
      rw [if_pos rfl] at e
      rw [e, f5_1m] at s
      exact s
    · show M (rk m j) i * v i = 0
      rcases bi_01 m i with b' | b'
      · rw [z i hi b', f5_m0]
      · rw [h.2.2.2 i hi b' _ hr, if_neg (fun w => q (rk_inj m b' b w.symm)), f5_0m]

/-- more vectors than columns without a pivot: a combination that is 0 there -/
theorem ho_ex (m : Nat) : ∀ (k s : Nat) (E : Nat → Nat → Fin 5), fk m k < s → ∃ w : Nat → Fin 5, (∃ i, i < s ∧ w i ≠ 0) ∧ ∀ j, j < k → bi m j = 0 → sm_s (fun i => w i * E i j) s = 0 := by
  intro k
  induction k with
  | zero => intro s E hs; exact ⟨fun _ => 1, ⟨0, hs, by decide⟩, fun j hj => absurd hj (Nat.not_lt_zero j)⟩
  | succ k ih =>
    intro s E hs
    have hs' : fk m k + (1 - bi m k) < s := hs
    rcases bi_01 m k with b | b
    · obtain ⟨t, rfl⟩ : ∃ t, s = t + 1 := ⟨s - 1, by omega⟩
      by_cases c : ∀ i, i < t → E i k = 0
      · obtain ⟨w, ⟨i, hi, wi⟩, hw⟩ := ih t E (by omega)
        refine ⟨fun a => if a < t then w a else 0, ⟨i, by omega, by show (if i < t then w i else 0) ≠ 0; rw [if_pos hi]; exact wi⟩, fun j hj bj => ?_⟩
        show sm_s (fun a => (if a < t then w a else 0) * E a j) t + (if t < t then w t else 0) * E t j = 0
        rw [if_neg (Nat.lt_irrefl t), f5_0m, f5_a0]
        by_cases q : j = k
        · exact sm_zero t (fun a ha => by
            show (if a < t then w a else 0) * E a j = 0
            rw [q, c a ha, f5_m0])
        · refine Eq.trans ?_ (hw j (by omega) bj)
          exact sm_congr t (fun a ha => by
            show (if a < t then w a else 0) * E a j = _
            rw [if_pos ha])
      · obtain ⟨p, hp, ep⟩ : ∃ p, p < t ∧ E p k ≠ 0 := by
          apply Classical.byContradiction
          intro q
          exact c (fun i hi => Classical.byContradiction (fun z => q ⟨i, hi, z⟩))
        -- the other vectors less what they have of E p
        let x := E p k * E p k * E p k
        let rr := fun i => E i k * x
        let F := fun i j => if i = p then E t j - rr t * E p j else E i j - rr i * E p j
        obtain ⟨w, ⟨i, hi, wi⟩, hw⟩ := ih t F (by omega)
        let cc := -sm_s (fun i => w i * rr i) t - w p * rr t + w p * rr p
        have F0 : ∀ i, F i k = 0 := by
          intro i
          have y : ∀ a b : Fin 5, b ≠ 0 → a - a * (b * b * b) * b = 0 := by decide
          show (if i = p then E t k - E t k * x * E p k else E i k - E i k * x * E p k) = 0
          split
          · exact y _ _ ep
          · exact y _ _ ep
        have Fw : ∀ j, j < k + 1 → bi m j = 0 → sm_s (fun i => w i * F i j) t = 0 := by
          intro j hj bj
          by_cases q : j = k
          · exact sm_zero t (fun i _ => by
              show w i * F i j = 0
              rw [q, F0 i, f5_m0])
          · exact hw j (by omega) bj
        refine ⟨fun a => if a = p then cc else if a = t then w p else w a, ?_, fun j hj bj => ?_⟩
        · by_cases q : i = p
          · refine ⟨t, by omega, ?_⟩
            show (if t = p then cc else if t = t then w p else w t) ≠ 0
            rw [if_neg (by omega), if_pos rfl, ← q]; exact wi
          · refine ⟨i, by omega, ?_⟩
            show (if i = p then cc else if i = t then w p else w i) ≠ 0
            rw [if_neg q, if_neg (by omega)]; exact wi
        · show sm_s (fun a => (if a = p then cc else if a = t then w p else w a) * E a j) t + (if t = p then cc else if t = t then w p else w t) * E t j = 0
          rw [if_neg (by omega : ¬ t = p), if_pos rfl]
          have s1 : sm_s (fun a => (if a = p then cc else if a = t then w p else w a) * E a j) t = sm_s (fun a => w a * E a j) t + (cc - w p) * E p j := by
            have : sm_s (fun a => (if a = p then cc else if a = t then w p else w a) * E a j) t = sm_s (fun a => w a * E a j + (if a = p then (cc - w p) * E p j else 0)) t := by
              refine sm_congr t (fun a ha => ?_)
              show (if a = p then cc else if a = t then w p else w a) * E a j = w a * E a j + (if a = p then (cc - w p) * E p j else 0)
              by_cases q : a = p
              · rw [if_pos q, if_pos q, q]
                have y : ∀ a b c : Fin 5, a * b = c * b + (a - c) * b := by decide +kernel
                exact y _ _ _
              · rw [if_neg q, if_neg q, if_neg (by omega), f5_a0]
            rw [this, sm_add, sm_one (k := p) (f := fun a => if a = p then (cc - w p) * E p j else 0) hp (fun i _ q => if_neg q), if_pos rfl]
          have s2 : sm_s (fun i => w i * F i j) t = sm_s (fun a => w a * E a j) t - sm_s (fun i => w i * rr i) t * E p j + w p * ((E t j - rr t * E p j) - (E p j - rr p * E p j)) := by
            have : sm_s (fun i => w i * F i j) t = sm_s (fun i => (w i * E i j - w i * rr i * E p j) + (if i = p then w p * ((E t j - rr t * E p j) - (E p j - rr p * E p j)) else 0)) t := by
              refine sm_congr t (fun i hi => ?_)
              show w i * (if i = p then E t j - rr t * E p j else E i j - rr i * E p j) = (w i * E i j - w i * rr i * E p j) + (if i = p then w p * ((E t j - rr t * E p j) - (E p j - rr p * E p j)) else 0)
              by_cases q : i = p
              · rw [if_pos q, if_pos q, q]
                generalize E t j - rr t * E p j = u
                have y : ∀ a u b c : Fin 5, a * u = (a * b - a * c * b) + a * (u - (b - c * b)) := by decide +kernel
                exact y _ _ _ _
              · rw [if_neg q, if_neg q, f5_a0]
                have y : ∀ a b c d : Fin 5, a * (b - c * d) = a * b - a * c * d := by decide +kernel
                exact y _ _ _ _
            rw [this, sm_add, sm_sub, sm_mulr, sm_one (k := p) (f := fun i => if i = p then w p * ((E t j - rr t * E p j) - (E p j - rr p * E p j)) else 0) hp (fun i _ q => if_neg q), if_pos rfl]
          have s3 := Fw j hj bj
          rw [s2] at s3
          rw [s1]
          show sm_s (fun a => w a * E a j) t + (-sm_s (fun i => w i * rr i) t - w p * rr t + w p * rr p - w p) * E p j + w p * E t j = 0
          rw [← s3]
          generalize sm_s (fun a => w a * E a j) t = A
          generalize sm_s (fun i => w i * rr i) t = B
          generalize w p = C
          generalize rr t = D
          generalize rr p = G
          generalize E p j = X
          generalize E t j = Y
          grind
    · obtain ⟨w, h1, hw⟩ := ih s E (by omega)
      refine ⟨w, h1, fun j hj bj => ?_⟩
      by_cases q : j = k
      · rw [q] at bj; omega
      · exact hw j (by omega) bj
end
section
/-! sums of polynomials -/
def sR {R : Type} [Lean.Grind.CommRing R] (f : Nat → R) : Nat → R
  | 0 => 0
  | n + 1 => sR f n + f n
theorem sR_congr {R : Type} [Lean.Grind.CommRing R] {f g : Nat → R} : ∀ n, (∀ i, i < n → f i = g i) → sR f n = sR g n := by
  intro n
  induction n with
  | zero => intro _; rfl
  | succ n ih =>
    intro h
    show sR f n + f n = sR g n + g n
    rw [ih (fun i hi => h i (by omega)), h n (by omega)]
theorem sR_co {R : Type} [Lean.Grind.CommRing R] {co : R → Nat → Fin 5} (H : PL co) (f : Nat → R) (n k : Nat) : co (sR f n) k = sm_s (fun i => co (f i) k) n := by
  induction n with
  | zero => exact pl_0 H k
  | succ n ih =>
    show co (sR f n + f n) k = _ + _
    rw [pl_add H, ih]
theorem sR_dv {R : Type} [Lean.Grind.CommRing R] {S : R} {f : Nat → R} : ∀ n, (∀ i, i < n → Dv S (f i)) → Dv S (sR f n) := by
  intro n
  induction n with
  | zero => intro _; exact dv_0 S
  | succ n ih => intro h; exact dv_add (ih (fun i hi => h i (by omega))) (h n (by omega))
theorem sR_sub {R : Type} [Lean.Grind.CommRing R] (f g : Nat → R) (n : Nat) : sR (fun i => f i - g i) n = sR f n - sR g n := by
  induction n with
  | zero => show (0 : R) = 0 - 0; grind
  | succ n ih =>
    show sR (fun i => f i - g i) n + (f n - g n) = sR f n + f n - (sR g n + g n)
    rw [ih]; grind
theorem sR_dl {R : Type} [Lean.Grind.CommRing R] {co : R → Nat → Fin 5} (H : PL co) {f : Nat → R} {d : Nat} : ∀ n, (∀ i, i < n → dl co (f i) ≤ d) → dl co (sR f n) ≤ d := by
  intro n
  induction n with
  | zero => intro _; show dl co (0 : R) ≤ d; rw [dl_0 H]; omega
  | succ n ih => intro h; exact dl_add H (ih (fun i hi => h i (by omega))) (h n (by omega))
/-- modulo d all but one term vanish -/
theorem sR_one {R : Type} [Lean.Grind.CommRing R] {d : R} {f : Nat → R} : ∀ n q, q < n → (∀ i, i < n → i ≠ q → Dv d (f i)) → Dv d (sR f n - f q) := by
  intro n
  induction n with
  | zero => intro q hq; omega
  | succ n ih =>
    intro q hq h
    show Dv d (sR f n + f n - f q)
    by_cases c : q = n
    · rw [c, show sR f n + f n - f n = sR f n by grind]
      exact sR_dv n (fun i hi => h i (by omega) (by omega))
    · rw [show sR f n + f n - f q = (sR f n - f q) + f n by grind]
      exact dv_add (ih q (by omega) (fun i hi hn => h i (by omega) hn)) (h n (by omega) (by omega))

/-! the kernel as polynomials -/
def Kr {R : Type} [Lean.Grind.CommRing R] (S V : R) : Prop := Dv S (V ^ 5 - V)
theorem kr_add {R : Type} [Lean.Grind.CommRing R] {co : R → Nat → Fin 5} (H : PL co) {S a b : R} (ha : Kr S a) (hb : Kr S b) : Kr S (a + b) := by
  unfold Kr at *
  rw [fr_add H, show a ^ 5 + b ^ 5 - (a + b) = (a ^ 5 - a) + (b ^ 5 - b) by grind]
  exact dv_add ha hb
theorem kr_sub {R : Type} [Lean.Grind.CommRing R] {co : R → Nat → Fin 5} (H : PL co) {S a b : R} (ha : Kr S a) (hb : Kr S b) : Kr S (a - b) := by
  unfold Kr at *
  rw [fr_sub H, show a ^ 5 - b ^ 5 - (a - b) = (a ^ 5 - a) - (b ^ 5 - b) by grind]
  exact dv_sub ha hb
theorem kr_c {R : Type} [Lean.Grind.CommRing R] {co : R → Nat → Fin 5} (H : PL co) {S a : R} (x : Fin 5) (ha : Kr S a) : Kr S (mo co x 0 * a) := by
  unfold Kr at *
  have e : (mo co x 0 : R) ^ 5 = mo co x 0 := by rw [fr_mo H]
  rw [show (mo co x 0 * a) ^ 5 - mo co x 0 * a = (mo co x 0 : R) ^ 5 * a ^ 5 - mo co x 0 * a by grind, e, show mo co x 0 * a ^ 5 - mo co x 0 * a = mo co x 0 * (a ^ 5 - a) by grind]
  exact dv_mul _ ha
theorem kr_0 {R : Type} [Lean.Grind.CommRing R] (S : R) : Kr S 0 := by
  unfold Kr
  rw [show (0 : R) ^ 5 - 0 = 0 by grind]
  exact dv_0 S
theorem kr_sR {R : Type} [Lean.Grind.CommRing R] {co : R → Nat → Fin 5} (H : PL co) {S : R} {f : Nat → R} : ∀ n, (∀ i, i < n → Kr S (f i)) → Kr S (sR f n) := by
  intro n
  induction n with
  | zero => intro _; exact kr_0 S
  | succ n ih => intro h; exact kr_add H (ih (fun i hi => h i (by omega))) (h n (by omega))
noncomputable def bQ {R : Type} [Lean.Grind.CommRing R] (co : R → Nat → Fin 5) (S : R) (r i : Nat) : Fin 5 := co (rm co (mo co 1 (5 * i)) S) r - (if r = i then 1 else 0)
theorem mk_dl {R : Type} [Lean.Grind.CommRing R] {co : R → Nat → Fin 5} (H : PL co) (v : Nat → Fin 5) (n : Nat) : dl co (mkp co v n : R) ≤ n := dl_le H (fun k hk => by rw [mk_co H, if_neg (by omega)])
theorem mk_of {R : Type} [Lean.Grind.CommRing R] {co : R → Nat → Fin 5} (H : PL co) {E : R} {n : Nat} (h : dl co E ≤ n) : mkp co (co E) n = E := pl_ext H (fun k => by
  rw [mk_co H]
  by_cases c : k < n
  · rw [if_pos c]
  · rw [if_neg c]; exact (dl_hi H (by omega)).symm)
theorem be_5 {R : Type} [Lean.Grind.CommRing R] {co : R → Nat → Fin 5} (H : PL co) (v : Nat → Fin 5) (n : Nat) : (mkp co v n : R) ^ 5 = sR (fun i => mo co (v i) 0 * mo co 1 (5 * i)) n := pl_ext H (fun k => by
  rw [fr_co' H, sR_co H, mk_co H]
  have e : ∀ i, co (mo co (v i) 0 * mo co 1 (5 * i) : R) k = if k = 5 * i then v i else 0 := by
    intro i
    rw [co_c H, mo_co H]
    split
    · rw [f5_m1]
    · rw [f5_m0]
  rw [sm_congr n (fun i _ => e i)]
  by_cases c : k % 5 = 0 ∧ k / 5 < n
  · rw [if_pos c.1, if_pos c.2, sm_one (k := k / 5) c.2 (fun i hi q => if_neg (by omega)), if_pos (by omega)]
  · rw [sm_zero n (fun i hi => if_neg (by omega))]
    by_cases c1 : k % 5 = 0
    · rw [if_pos c1, if_neg (fun z => c ⟨c1, z⟩)]
    · rw [if_neg c1])
theorem be_ke {R : Type} [Lean.Grind.CommRing R] {co : R → Nat → Fin 5} (H : PL co) {S : R} {n : Nat} (hS : dl co S = n + 1) (v : Nat → Fin 5) : Ke n n (bQ co S) v ↔ Kr S (mkp co v n) := by
  have nS : S ≠ 0 := dl_nz H (by omega)
  let V : R := mkp co v n
  let W : R := sR (fun i => mo co (v i) 0 * rm co (mo co 1 (5 * i)) S) n
  have d1 : Dv S (V ^ 5 - W) := by
    show Dv S ((mkp co v n : R) ^ 5 - W)
    rw [be_5 H, ← sR_sub]
    refine sR_dv n (fun i hi => ?_)
    show Dv S (mo co (v i) 0 * mo co 1 (5 * i) - mo co (v i) 0 * rm co (mo co 1 (5 * i)) S)
    rw [show mo co (v i) 0 * mo co 1 (5 * i) - mo co (v i) 0 * rm co (mo co 1 (5 * i)) S = mo co (v i) 0 * (mo co 1 (5 * i) - rm co (mo co 1 (5 * i)) S) by grind]
    exact dv_mul _ (rm_sub H _ nS)
  have dW : dl co (W - V) ≤ n := by
    refine dl_sub H (sR_dl H n (fun i hi => ?_)) (mk_dl H v n)
    have a := dl_mul_le H (mo co (v i) 0) (rm co (mo co 1 (5 * i)) S)
    have b := dl_c H (v i)
    have c := (qr_spec H (mo co 1 (5 * i)) nS).2
    omega
  have cW : ∀ r, r < n → co (W - V) r = sm_s (fun i => bQ co S r i * v i) n := by
    intro r hr
    rw [pl_sub H]
    show co (sR _ n) r - co (mkp co v n) r = _
    rw [sR_co H, mk_co H, if_pos hr]
    have e : sm_s (fun i => bQ co S r i * v i) n = sm_s (fun i => co (mo co (v i) 0 * rm co (mo co 1 (5 * i)) S) r - (if i = r then v r else 0)) n := by
      refine sm_congr n (fun i hi => ?_)
      show (co (rm co (mo co 1 (5 * i)) S) r - (if r = i then 1 else 0)) * v i = co (mo co (v i) 0 * rm co (mo co 1 (5 * i)) S) r - (if i = r then v r else 0)
      rw [co_c H]
      by_cases c : r = i
      · rw [if_pos c, if_pos c.symm, c]
        have : ∀ a b : Fin 5, (a - 1) * b = b * a - b := by decide
        exact this _ _
      · rw [if_neg c, if_neg (Ne.symm c)]
        have : ∀ a b : Fin 5, (a - 0) * b = b * a - 0 := by decide
        exact this _ _
    rw [e, sm_sub, sm_one (k := r) (f := fun i => if i = r then v r else 0) hr (fun i _ q => if_neg q), if_pos rfl]
  constructor
  · intro h
    have z : W - V = 0 := pl_ext H (fun r => by
      rw [pl_0 H]
      by_cases c : r < n
      · rw [cW r c]; exact h r c
      · exact dl_hi H (by omega))
    show Dv S (V ^ 5 - V)
    rw [show V ^ 5 - V = V ^ 5 - W by grind]
    exact d1
  · intro h
    have h' : Dv S (V ^ 5 - V) := h
    have d2 : Dv S (W - V) := by
      have := dv_sub h' d1
      rwa [show V ^ 5 - V - (V ^ 5 - W) = W - V by grind] at this
    have z := dv_small H d2 (by omega)
    intro r hr
    rw [← cW r hr, z, pl_0 H]

/-! idempotents -/
theorem id_ex {R : Type} [Lean.Grind.CommRing R] {co : R → Nat → Fin 5} (H : PL co) {S f g : R} (nS : S ≠ 0) (e : S = f * g) (h : Cp f g) : ∃ E, dl co E < dl co S ∧ Kr S E ∧ Dv f (E - 1) ∧ Dv g E := by
  obtain ⟨s, t, hst⟩ := h
  have sp := qr_spec H (t * g) nS
  refine ⟨rm co (t * g) S, sp.2, ?_, ?_, ?_⟩
  · generalize rm co (t * g) S = E at sp
    generalize qo co (t * g) S = q at sp
    have e1 := sp.1
    have e2 : E = t * g - q * S := by grind
    have e3 : E - 1 = -(s * f) - q * S := by grind
    have e4 : E * (E - 1) = (-(t * s) - t * g * q + q * (s * f) + q * q * S) * S := by
      rw [e3]
      rw [e2]
      grind
    unfold Kr
    rw [show E ^ 5 - E = E * (E - 1) * (E ^ 3 + E ^ 2 + E + 1) by grind, e4]
    exact ⟨(-(t * s) - t * g * q + q * (s * f) + q * q * S) * (E ^ 3 + E ^ 2 + E + 1), by grind⟩
  · have e1 := sp.1
    exact ⟨-s - qo co (t * g) S * g, by grind⟩
  · have e1 := sp.1
    exact ⟨t - qo co (t * g) S * f, by grind⟩

/-! products of pieces -/
def pr {R : Type} [Lean.Grind.CommRing R] (g : Nat → R) : Nat → R
  | 0 => 1
  | n + 1 => pr g n * g n
theorem pr_congr {R : Type} [Lean.Grind.CommRing R] {f g : Nat → R} : ∀ n, (∀ i, i < n → f i = g i) → pr f n = pr g n := by
  intro n
  induction n with
  | zero => intro _; rfl
  | succ n ih =>
    intro h
    show pr f n * f n = pr g n * g n
    rw [ih (fun i hi => h i (by omega)), h n (by omega)]
theorem pr_rest {R : Type} [Lean.Grind.CommRing R] {d : Nat → R} : ∀ n a, a < n → ∃ r, pr d n = d a * r ∧ ∀ b, b < n → b ≠ a → Dv (d b) r := by
  intro n
  induction n with
  | zero => intro a ha; omega
  | succ n ih =>
    intro a ha
    by_cases c : a = n
    · refine ⟨pr d n, by show pr d n * d n = _; rw [c]; grind, fun b hb hn => ?_⟩
      obtain ⟨r, e, _⟩ := ih b (by omega)
      rw [e]; exact dv_l _ _
    · obtain ⟨r, e, hr⟩ := ih a (by omega)
      refine ⟨r * d n, by show pr d n * d n = _; rw [e]; grind, fun b hb hn => ?_⟩
      by_cases q : b = n
      · rw [q]; exact dv_r _ _
      · exact dv_trans (hr b (by omega) hn) (dv_l _ _)
/-- one piece replaced -/
theorem pr_set {R : Type} [Lean.Grind.CommRing R] {d : Nat → R} {x y : R} : ∀ n a, a < n → d a = x * y → pr (fun i => if i = a then x else d i) n * y = pr d n := by
  intro n
  induction n with
  | zero => intro a ha; omega
  | succ n ih =>
    intro a ha e
    show pr (fun i => if i = a then x else d i) n * (if n = a then x else d n) * y = pr d n * d n
    by_cases c : a = n
    · have : pr (fun i => if i = a then x else d i) n = pr d n := pr_congr n (fun i hi => if_neg (by omega))
      rw [this, if_pos c.symm, ← c, e]; grind
    · have := ih a (by omega) e
      rw [if_neg (Ne.symm c), ← this]; grind
/-- without repeated factors -/
def Sf {R : Type} [Lean.Grind.CommRing R] (co : R → Nat → Fin 5) (S : R) : Prop := S ≠ 0 ∧ ∀ f, Ir co f → ¬ Dv (f * f) S
theorem sf_cp {R : Type} [Lean.Grind.CommRing R] {co : R → Nat → Fin 5} (H : PL co) {S a b : R} (h : Sf co S) (e : S = a * b) : Cp a b := by
  apply Classical.byContradiction
  intro c
  obtain ⟨f, f1, f2, f3, f4⟩ := ir_com H c (mul_r H (a := a) (by rw [← e]; exact h.1))
  refine h.2 f f1 ?_
  rw [e]
  exact dv_mm f3 f4
/-- all that is used of the matrix: the columns without a pivot, their vectors -/
def Bk {R : Type} [Lean.Grind.CommRing R] (co : R → Nat → Fin 5) (S : R) (n m : Nat) (b : Nat → R) : Prop :=
  dl co S = n + 1 ∧ (∀ j, j < n → bi m j = 0 → dl co (b j) ≤ n ∧ Kr S (b j) ∧ ∀ i, i < n → bi m i = 0 → co (b j) i = if i = j then 1 else 0) ∧
  (∀ E, dl co E ≤ n → Kr S E → (∀ j, j < n → bi m j = 0 → co E j = 0) → E = 0)
theorem bk_mk {R : Type} [Lean.Grind.CommRing R] {co : R → Nat → Fin 5} (H : PL co) {S : R} {n m : Nat} {M : Nat → Nat → Fin 5} (hS : dl co S = n + 1) (h : Ech n M m n) (hk : ∀ v, Ke n n M v ↔ Ke n n (bQ co S) v) : Bk co S n m (fun j => mkp co (vc M m j) n) := by
  refine ⟨hS, fun j hj bj => ⟨mk_dl H _ n, (be_ke H hS _).mp ((hk _).mp (vc_ke h hj bj)), fun i hi bi' => ?_⟩, fun E dE kE z => ?_⟩
  · rw [mk_co H, if_pos hi]
    unfold vc
    rw [if_pos bi']
  · have k1 : Ke n n M (co E) := (hk _).mpr ((be_ke H hS _).mpr (by rw [mk_of H dE]; exact kE))
    have k2 := ke_free h k1 z
    refine pl_ext H (fun k => ?_)
    rw [pl_0 H]
    by_cases c : k < n
    · exact k2 k c
    · exact dl_hi H (by omega)
theorem bk_a {R : Type} [Lean.Grind.CommRing R] {co : R → Nat → Fin 5} (H : PL co) {S : R} {n m t : Nat} {b pc : Nat → R} (sf : Sf co S) (h : Bk co S n m b) (ht : fk m n ≤ t) (hp : pr pc t = S) (h2 : ∀ i, i < t → 2 ≤ dl co (pc i)) : ∀ i, i < t → Ir co (pc i) := by
  intro i hi
  refine ⟨h2 i hi, fun f g e => ?_⟩
  apply Classical.byContradiction
  intro c
  have np : f * g ≠ 0 := by rw [← e]; exact dl_nz H (by have := h2 i hi; omega)
  have f1 := dl_ne H (mul_l H np)
  have g1 := dl_ne H (mul_r H np)
  have f2 : 2 ≤ dl co f := by
    by_cases q : dl co f = 1
    · exact absurd (Or.inl q) c
    · omega
  have g2 : 2 ≤ dl co g := by
    by_cases q : dl co g = 1
    · exact absurd (Or.inr q) c
    · omega
  let d : Nat → R := fun a => if a = i then f else if a = t then g else pc a
  have hd : pr d (t + 1) = S := by
    show pr d t * d t = S
    have : pr d t = pr (fun a => if a = i then f else pc a) t := pr_congr t (fun a ha => by
      show (if a = i then f else if a = t then g else pc a) = if a = i then f else pc a
      rw [if_neg (by omega : ¬ a = t)])
    rw [this, show d t = g from by
      show (if t = i then f else if t = t then g else pc t) = g
      rw [if_neg (by omega), if_pos rfl], pr_set t i hi e, hp]
  have d2 : ∀ a, a < t + 1 → 2 ≤ dl co (d a) := by
    intro a ha
    show 2 ≤ dl co (if a = i then f else if a = t then g else pc a)
    by_cases q : a = i
    · rw [if_pos q]; exact f2
    · by_cases q' : a = t
      · rw [if_neg q, if_pos q']; exact g2
      · rw [if_neg q, if_neg q']; exact h2 a (by omega)
  have ex : ∀ a, ∃ E, a < t + 1 → dl co E < dl co S ∧ Kr S E ∧ Dv (d a) (E - 1) ∧ ∀ q, q < t + 1 → q ≠ a → Dv (d q) E := by
    intro a
    by_cases ha : a < t + 1
    · obtain ⟨r, e1, e2⟩ := pr_rest (d := d) (t + 1) a ha
      rw [hd] at e1
      obtain ⟨E, E1, E2, E3, E4⟩ := id_ex H sf.1 e1 (sf_cp H sf e1)
      exact ⟨E, fun _ => ⟨E1, E2, E3, fun q hq hn => dv_trans (e2 q hq hn) E4⟩⟩
    · exact ⟨0, fun z => absurd z ha⟩
  obtain ⟨E, hE⟩ := Classical.axiomOfChoice ex
  obtain ⟨w, ⟨q, hq, wq⟩, hw⟩ := ho_ex m n (t + 1) (fun a => co (E a)) (by omega)
  have z : sR (fun a => mo co (w a) 0 * E a) (t + 1) = 0 := by
    refine h.2.2 _ (sR_dl H _ (fun a ha => ?_)) (kr_sR H _ (fun a ha => kr_c H _ (hE a ha).2.1)) (fun j hj bj => ?_)
    · have x := dl_mul_le H (mo co (w a) 0) (E a)
      have y := dl_c H (w a)
      have y2 := (hE a ha).1
      have := h.1
      omega
    · rw [sR_co H, ← hw j hj bj]
      exact sm_congr _ (fun a _ => co_c H _ _ _)
  have o := sR_one (d := d q) (f := fun a => mo co (w a) 0 * E a) (t + 1) q hq (fun a ha hn => dv_mul _ ((hE a ha).2.2.2 q hq (Ne.symm hn)))
  rw [z] at o
  have o' : Dv (d q) (0 - mo co (w q) 0 * E q) := o
  have o2 : Dv (d q) (mo co (w q) 0 * (E q - 1)) := dv_mul _ (hE q hq).2.2.1
  have o3 := dv_neg (dv_add o' o2)
  rw [show -(0 - mo co (w q) 0 * E q + mo co (w q) 0 * (E q - 1)) = mo co (w q) 0 by grind] at o3
  have l := dv_dl H o3 (mo_nz H wq 0)
  rw [dl_mo H wq] at l
  have := d2 q hq
  omega
theorem bk_b {R : Type} [Lean.Grind.CommRing R] {co : R → Nat → Fin 5} (H : PL co) {S P P' : R} {n m : Nat} {b : Nat → R} (sf : Sf co S) (h : Bk co S n m b) (hp : S = P * P') (h2 : 2 ≤ dl co P) (hc : ∀ j, j < n → bi m j = 0 → ∃ s : Fin 5, Dv P (b j - mo co s 0)) : Ir co P := by
  refine ⟨h2, fun f g e => ?_⟩
  apply Classical.byContradiction
  intro c
  have np : f * g ≠ 0 := by rw [← e]; exact dl_nz H (by omega)
  have f1 := dl_ne H (mul_l H np)
  have g1 := dl_ne H (mul_r H np)
  have f2 : 2 ≤ dl co f := by
    by_cases q : dl co f = 1
    · exact absurd (Or.inl q) c
    · omega
  have g2 : 2 ≤ dl co g := by
    by_cases q : dl co g = 1
    · exact absurd (Or.inr q) c
    · omega
  have e2 : S = f * (g * P') := by rw [hp, e]; grind
  obtain ⟨E, E1, E2, E3, E4⟩ := id_ex H sf.1 e2 (sf_cp H sf e2)
  have hS := h.1
  have ex : ∀ j, ∃ s : Fin 5, j < n → bi m j = 0 → Dv P (b j - mo co s 0) := by
    intro j
    by_cases q : j < n ∧ bi m j = 0
    · obtain ⟨s, hs⟩ := hc j q.1 q.2
      exact ⟨s, fun _ _ => hs⟩
    · exact ⟨0, fun x y => absurd ⟨x, y⟩ q⟩
  obtain ⟨s, hs⟩ := Classical.axiomOfChoice ex
  -- E is the combination of the vectors
  let T : Nat → R := fun j => if bi m j = 0 then mo co (co E j) 0 * b j else 0
  have z : E - sR T n = 0 := by
    refine h.2.2 _ (dl_sub H (by omega) (sR_dl H n (fun j hj => ?_))) (kr_sub H E2 (kr_sR H n (fun j hj => ?_))) (fun i hi bi' => ?_)
    · show dl co (if bi m j = 0 then mo co (co E j) 0 * b j else 0) ≤ n
      by_cases q : bi m j = 0
      · rw [if_pos q]
        have x := dl_mul_le H (mo co (co E j) 0) (b j)
        have y := dl_c H (co E j)
        have y2 := (h.2.1 j hj q).1
        omega
      · rw [if_neg q, dl_0 H]; omega
    · show Kr S (if bi m j = 0 then mo co (co E j) 0 * b j else 0)
      by_cases q : bi m j = 0
      · rw [if_pos q]; exact kr_c H _ (h.2.1 j hj q).2.1
      · rw [if_neg q]; exact kr_0 S
    · rw [pl_sub H, sR_co H, sm_one (k := i) hi (fun j hj hn => ?_)]
      · show co E i - co (if bi m i = 0 then mo co (co E i) 0 * b i else 0) i = 0
        rw [if_pos bi', co_c H, (h.2.1 i hi bi').2.2 i hi bi', if_pos rfl, f5_m1]
        have : ∀ x : Fin 5, x - x = 0 := by decide
        exact this _
      · show co (if bi m j = 0 then mo co (co E j) 0 * b j else 0) i = 0
        by_cases q : bi m j = 0
        · rw [if_pos q, co_c H, (h.2.1 j hj q).2.2 i hi bi', if_neg (Ne.symm hn), f5_m0]
        · rw [if_neg q, pl_0 H]
  let U : Nat → R := fun j => if bi m j = 0 then mo co (co E j * s j) 0 else 0
  have dU : dl co (sR U n) ≤ 1 := sR_dl H n (fun j hj => by
    show dl co (if bi m j = 0 then mo co (co E j * s j) 0 else 0) ≤ 1
    split
    · exact dl_c H _
    · rw [dl_0 H]; omega)
  have dd : Dv P (sR T n - sR U n) := by
    rw [← sR_sub]
    refine sR_dv n (fun j hj => ?_)
    show Dv P ((if bi m j = 0 then mo co (co E j) 0 * b j else 0) - (if bi m j = 0 then mo co (co E j * s j) 0 else 0))
    by_cases q : bi m j = 0
    · have mm := mo_mul H (co E j) (s j) 0 0
      rw [if_pos q, if_pos q, show mo co (co E j) 0 * b j - mo co (co E j * s j) 0 = mo co (co E j) 0 * (b j - mo co (s j) 0) by
        have : mo co (co E j) 0 * mo co (s j) 0 = (mo co (co E j * s j) 0 : R) := mm
        grind]
      exact dv_mul _ (hs j hj q)
    · rw [if_neg q, if_neg q, show (0 : R) - 0 = 0 by grind]
      exact dv_0 P
  have ee : sR T n = E := by grind
  rw [ee] at dd
  have dg : Dv g (sR U n) := by
    have a : Dv g (E - sR U n) := dv_trans ⟨f, e⟩ dd
    have b' : Dv g E := dv_trans (dv_l _ _) E4
    have := dv_sub b' a
    rwa [show E - (E - sR U n) = sR U n by grind] at this
  have u0 : sR U n = 0 := dv_small H dg (by omega)
  rw [u0] at dd
  have df : Dv f 1 := by
    have a : Dv f (E - 0) := dv_trans ⟨g, by rw [e]; grind⟩ dd
    have := dv_sub a E3
    rwa [show E - 0 - (E - 1) = 1 by grind] at this
  have := dv_dl H df (one_nz H)
  rw [dl_1 H] at this
  omega
/-- not all columns are without a pivot if there are eight -/
theorem bk_8 {R : Type} [Lean.Grind.CommRing R] {co : R → Nat → Fin 5} (H : PL co) {S : R} {m : Nat} {M : Nat → Nat → Fin 5} (hS : dl co S = 9) (h : Ech 8 M m 8) (hk : ∀ v, Ke 8 8 M v ↔ Ke 8 8 (bQ co S) v) : fk m 8 ≤ 7 := by
  by_cases c : fk m 8 ≤ 7
  · exact c
  · exfalso
    have r0 : rk m 8 = 0 := by have := rf_k m 8; omega
    have k : Ke 8 8 M (fun i => if i = 1 then 1 else 0) := fun r hr => sm_zero 8 (fun i hi => by
      show M r i * _ = 0
      rw [h.2.2.1 r i (by omega) hr hi, f5_0m])
    have d := (be_ke H hS _).mp ((hk _).mp k)
    have e : (mkp co (fun i => if i = 1 then 1 else 0) 8 : R) = mo co 1 1 := pl_ext H (fun n => by
      rw [mk_co H, mo_co H]
      by_cases q : n < 8
      · rw [if_pos q]
      · rw [if_neg q, if_neg (by omega)])
    rw [e] at d
    have d' : Dv S ((mo co 1 1 : R) ^ 5 - mo co 1 1) := d
    rw [fr_mo H] at d'
    have d5 : dl co ((mo co 1 (5 * 1) : R) - mo co 1 1) ≤ 6 := dl_sub H (by rw [dl_mo H (by decide)]; omega) (by rw [dl_mo H (by decide)]; omega)
    have z := dv_small H d' (by omega)
    have z5 : co ((mo co 1 (5 * 1) : R) - mo co 1 1) 5 = 0 := by rw [z, pl_0 H]
    rw [pl_sub H, mo_co H, mo_co H] at z5
    exact absurd z5 (by decide)

/-! one vector against one piece -/
theorem f5_prod {R : Type} [Lean.Grind.CommRing R] (V : R) (c0 c1 c2 c3 c4 : R) (h5 : (5 : R) = 0) (e0 : c0 = 0) (e1 : c1 = 1) (e2 : c2 = 2) (e3 : c3 = 3) (e4 : c4 = 4) : V ^ 5 - V = (V - c0) * (V - c1) * (V - c2) * (V - c3) * (V - c4) := by
  subst e0 e1 e2 e3 e4
  have : (V - 0) * (V - 1) * (V - 2) * (V - 3) * (V - 4) = V ^ 5 - V + 5 * (-2 * V ^ 4 + 7 * V ^ 3 - 10 * V ^ 2 + 5 * V) := by grind
  rw [this, h5]
  grind
theorem mo_nat {R : Type} [Lean.Grind.CommRing R] {co : R → Nat → Fin 5} (H : PL co) (k : Nat) : (mo co (Fin.ofNat 5 (k + 1)) 0 : R) = mo co (Fin.ofNat 5 k) 0 + 1 := by
  rw [po_addc, ← mo_add H, show Fin.ofNat 5 1 = (1 : Fin 5) from rfl, mo_1 H]
theorem kr_prod {R : Type} [Lean.Grind.CommRing R] {co : R → Nat → Fin 5} (H : PL co) {S V : R} (h : Kr S V) : Dv S ((V - mo co 0 0) * (V - mo co 1 0) * (V - mo co 2 0) * (V - mo co 3 0) * (V - mo co 4 0)) := by
  have c0 := mo_0 H (co := co) 0
  have c1 := mo_1 H (co := co)
  have c2 : (mo co 2 0 : R) = mo co 1 0 + 1 := mo_nat H 1
  have c3 : (mo co 3 0 : R) = mo co 2 0 + 1 := mo_nat H 2
  have c4 : (mo co 4 0 : R) = mo co 3 0 + 1 := mo_nat H 3
  rw [← f5_prod V _ _ _ _ _ (ch_5 H) c0 c1 (by rw [c2, c1]; grind) (by rw [c3, c2, c1]; grind) (by rw [c4, c3, c2, c1]; grind)]
  exact h
/-- if the piece is apart from the vector less each number, or divides it less that number, one divides -/
theorem kr_const {R : Type} [Lean.Grind.CommRing R] {co : R → Nat → Fin 5} (H : PL co) {S P V : R} (h : Kr S V) (hP : Dv P S) (h2 : 2 ≤ dl co P) (hs : ∀ s : Fin 5, Cp P (V - mo co s 0) ∨ Dv P (V - mo co s 0)) : ∃ s : Fin 5, Dv P (V - mo co s 0) := by
  apply Classical.byContradiction
  intro c
  have cp : ∀ s : Fin 5, Cp P (V - mo co s 0) := fun s => (hs s).resolve_right (fun z => c ⟨s, z⟩)
  have d := dv_trans hP (kr_prod H h)
  have d1 := cp_dv (cp 0) (by rw [show (V - mo co 0 0) * ((V - mo co 1 0) * (V - mo co 2 0) * (V - mo co 3 0) * (V - mo co 4 0)) = (V - mo co 0 0) * (V - mo co 1 0) * (V - mo co 2 0) * (V - mo co 3 0) * (V - mo co 4 0) by grind]; exact d)
  have d2 := cp_dv (cp 1) (by rw [show (V - mo co 1 0) * ((V - mo co 2 0) * (V - mo co 3 0) * (V - mo co 4 0)) = (V - mo co 1 0) * (V - mo co 2 0) * (V - mo co 3 0) * (V - mo co 4 0) by grind]; exact d1)
  have d3 := cp_dv (cp 2) (by rw [show (V - mo co 2 0) * ((V - mo co 3 0) * (V - mo co 4 0)) = (V - mo co 2 0) * (V - mo co 3 0) * (V - mo co 4 0) by grind]; exact d2)
  have d4 := cp_dv (cp 3) d3
  have d5 : Dv P 1 := cp_dv (cp 4) (by rw [show (V - mo co 4 0) * 1 = V - mo co 4 0 by grind]; exact d4)
  have := dv_dl H d5 (one_nz H)
  rw [dl_1 H] at this
  omega
end
section
/-! partial fractions: digits to the base g -/
theorem sR_split {R : Type} [Lean.Grind.CommRing R] (f : Nat → R) (m l : Nat) : sR f (m + l) = sR f m + sR (fun i => f (m + i)) l := by
  induction l with
  | zero => show sR f m = sR f m + 0; grind
  | succ l ih =>
    show sR f (m + l) + f (m + l) = sR f m + (sR (fun i => f (m + i)) l + f (m + l))
    rw [ih]; grind
theorem sR_mul {R : Type} [Lean.Grind.CommRing R] (c : R) (f : Nat → R) (n : Nat) : sR (fun i => f i * c) n = sR f n * c := by
  induction n with
  | zero => show (0 : R) = 0 * c; grind
  | succ n ih =>
    show sR (fun i => f i * c) n + f n * c = (sR f n + f n) * c
    rw [ih]; grind
theorem mk_sR {R : Type} [Lean.Grind.CommRing R] {co : R → Nat → Fin 5} (H : PL co) (v : Nat → Fin 5) (n : Nat) : (mkp co v n : R) = sR (fun i => mo co (v i) i) n := pl_ext H (fun k => by
  rw [mk_co H, sR_co H]
  by_cases c : k < n
  · rw [if_pos c, sm_one (k := k) c (fun i hi q => ?_)]
    · rw [mo_co H, if_pos rfl]
    · show co (mo co (v i) i) k = 0
      rw [mo_co H, if_neg (Ne.symm q)]
  · rw [if_neg c]
    refine (sm_zero n (fun i hi => ?_)).symm
    show co (mo co (v i) i) k = 0
    rw [mo_co H, if_neg (by omega)])
def hn {R : Type} [Lean.Grind.CommRing R] (g : R) (C : Nat → R) : Nat → R
  | 0 => 0
  | l + 1 => hn g C l * g + C l
theorem hn_dl {R : Type} [Lean.Grind.CommRing R] {co : R → Nat → Fin 5} (H : PL co) {g : R} {C : Nat → R} (hC : ∀ l, dl co (C l) < dl co g) : ∀ l, dl co (hn g C l) ≤ l * (dl co g - 1) := by
  intro l
  induction l with
  | zero => show dl co (0 : R) ≤ _; rw [dl_0 H]; omega
  | succ l ih =>
    have c := hC l
    have e : (l + 1) * (dl co g - 1) = l * (dl co g - 1) + (dl co g - 1) := by rw [Nat.add_mul]; omega
    show dl co (hn g C l * g + C l) ≤ (l + 1) * (dl co g - 1)
    refine dl_add H ?_ (by omega)
    have := dl_mul_le H (hn g C l) g
    omega
theorem hn_qr {R : Type} [Lean.Grind.CommRing R] {co : R → Nat → Fin 5} (H : PL co) {g : R} {C : Nat → R} (hC : ∀ l, dl co (C l) < dl co g) (l : Nat) : qo co (hn g C (l + 1)) g = hn g C l ∧ rm co (hn g C (l + 1)) g = C l :=
  qr_un H rfl (hC l)
theorem hn_zero {R : Type} [Lean.Grind.CommRing R] {co : R → Nat → Fin 5} (H : PL co) {g : R} {C : Nat → R} (hC : ∀ l, dl co (C l) < dl co g) : ∀ e, hn g C e = 0 → ∀ l, l < e → C l = 0 := by
  intro e
  induction e with
  | zero => intro _ l hl; omega
  | succ e ih =>
    intro h l hl
    have q := hn_qr H hC e
    rw [h] at q
    have s := qr_un H (a := (0 : R)) (b := g) (q := 0) (r := 0) (by grind) (by rw [dl_0 H]; have := hC 0; omega)
    rw [s.1, s.2] at q
    by_cases c : l = e
    · rw [c]; exact q.2.symm
    · exact ih q.1.symm l (by omega)
def qit {R : Type} [Lean.Grind.CommRing R] (co : R → Nat → Fin 5) (g : R) (a : R) : Nat → R → Prop
  | 0 => fun b => b = a
  | n + 1 => fun b => ∃ c, qit co g a n c ∧ b = qo co c g
theorem hn_it {R : Type} [Lean.Grind.CommRing R] {co : R → Nat → Fin 5} (H : PL co) {g : R} {C : Nat → R} (hC : ∀ l, dl co (C l) < dl co g) : ∀ k e, k ≤ e → ∀ b, qit co g (hn g C e) k b → b = hn g C (e - k) := by
  intro k
  induction k with
  | zero => intro e _ b hb; exact hb
  | succ k ih =>
    intro e he b hb
    obtain ⟨c, hc, eb⟩ := hb
    rw [ih e (by omega) c hc, show e - k = (e - (k + 1)) + 1 by omega] at eb
    rw [eb]
    exact (hn_qr H hC _).1
/-- the numbers of one level -/
noncomputable def cy {R : Type} [Lean.Grind.CommRing R] (co : R → Nat → Fin 5) (y : Nat → Fin 5) (off d l : Nat) : R := mkp co (fun t => y (off + (l * d + t))) d
theorem pf_lv {R : Type} [Lean.Grind.CommRing R] {co : R → Nat → Fin 5} (H : PL co) {q Q g : R} {e : Nat} (ng : 2 ≤ dl co g) (hq : q = Q * g ^ e) (y : Nat → Fin 5) (off : Nat) : ∀ L, L ≤ e →
    sR (fun b => mo co (y (off + b)) 0 * (mo co 1 (b % (dl co g - 1)) * qo co q (g ^ (1 + b / (dl co g - 1))))) (L * (dl co g - 1)) = Q * g ^ (e - L) * hn g (cy co y off (dl co g - 1)) L := by
  intro L
  have gz : g ≠ 0 := dl_nz H (by omega)
  induction L with
  | zero =>
    intro _
    rw [Nat.zero_mul]
    show (0 : R) = Q * g ^ (e - 0) * 0
    grind
  | succ L ih =>
    intro hL
    have e1 : (L + 1) * (dl co g - 1) = L * (dl co g - 1) + (dl co g - 1) := by rw [Nat.add_mul]; omega
    rw [e1, sR_split, ih (by omega)]
    have e2 : sR (fun t => mo co (y (off + (L * (dl co g - 1) + t))) 0 * (mo co 1 ((L * (dl co g - 1) + t) % (dl co g - 1)) * qo co q (g ^ (1 + (L * (dl co g - 1) + t) / (dl co g - 1))))) (dl co g - 1) = cy co y off (dl co g - 1) L * (Q * g ^ (e - (L + 1))) := by
      have x : qo co q (g ^ (1 + L)) = Q * g ^ (e - (L + 1)) := by
        have : q = (Q * g ^ (e - (L + 1))) * g ^ (1 + L) := by
          rw [hq]
          have p : g ^ e = g ^ (e - (L + 1)) * g ^ (1 + L) := by
            rw [← Lean.Grind.Semiring.pow_add]
            congr 1
            omega
          rw [p]; grind
        rw [this]
        exact qo_mul H (pow_nz H gz _)
      unfold cy
      rw [mk_sR H, ← sR_mul]
      refine sR_congr _ (fun t ht => ?_)
      have m1 : (L * (dl co g - 1) + t) % (dl co g - 1) = t := by
        rw [Nat.add_comm, Nat.add_mul_mod_self_right, Nat.mod_eq_of_lt ht]
      have m2 : (L * (dl co g - 1) + t) / (dl co g - 1) = L := by
        rw [Nat.add_comm, Nat.add_mul_div_right _ _ (by omega), Nat.div_eq_of_lt ht, Nat.zero_add]
      rw [m1, m2, x]
      have mm := mo_mul H (y (off + (L * (dl co g - 1) + t))) 1 0 t
      rw [f5_m1, Nat.zero_add] at mm
      rw [← mm]
      grind
    rw [e2]
    show Q * g ^ (e - L) * hn g _ L + _ = Q * g ^ (e - (L + 1)) * (hn g _ L * g + cy co y off (dl co g - 1) L)
    have p : g ^ (e - L) = g ^ (e - (L + 1)) * g := by
      rw [← Lean.Grind.Semiring.pow_succ]
      congr 1
      omega
    rw [p]
    grind
/-- all columns: x^(b mod d) q / g^(1 + b / d) -/
noncomputable def pcl {R : Type} [Lean.Grind.CommRing R] (co : R → Nat → Fin 5) (q : R) (g : Nat → R) (a b : Nat) : R := mo co 1 (b % (dl co (g a) - 1)) * qo co q (g a ^ (1 + b / (dl co (g a) - 1)))
noncomputable def pof {R : Type} (co : R → Nat → Fin 5) (g : Nat → R) (e : Nat → Nat) (k : Nat) : Nat := dgs (fun i => dl co (g i) - 1) e k
theorem pf_sum {R : Type} [Lean.Grind.CommRing R] {co : R → Nat → Fin 5} (H : PL co) {q : R} {n : Nat} {g : Nat → R} {e : Nat → Nat} {col : Nat → R} (h2 : ∀ a, a < n → 2 ≤ dl co (g a)) (Q : Nat → R) (hQ : ∀ a, a < n → q = Q a * g a ^ e a) (hc : ∀ a b, a < n → b < e a * (dl co (g a) - 1) → col (pof co g e a + b) = pcl co q g a b) (y : Nat → Fin 5) : ∀ k, k ≤ n →
    sR (fun c => mo co (y c) 0 * col c) (pof co g e k) = sR (fun a => Q a * hn (g a) (cy co y (pof co g e a) (dl co (g a) - 1)) (e a)) k := by
  intro k
  induction k with
  | zero => intro _; rfl
  | succ k ih =>
    intro hk
    show sR (fun c => mo co (y c) 0 * col c) (pof co g e k + e k * (dl co (g k) - 1)) = sR _ k + _
    rw [sR_split, ih (by omega)]
    have x := pf_lv H (h2 k (by omega)) (hQ k (by omega)) y (pof co g e k) (e k) (Nat.le_refl _)
    rw [Nat.sub_self, Lean.Grind.Semiring.pow_zero] at x
    have z : sR (fun i => mo co (y (pof co g e k + i)) 0 * col (pof co g e k + i)) (e k * (dl co (g k) - 1)) = sR (fun b => mo co (y (pof co g e k + b)) 0 * (mo co 1 (b % (dl co (g k) - 1)) * qo co q (g k ^ (1 + b / (dl co (g k) - 1))))) (e k * (dl co (g k) - 1)) :=
      sR_congr _ (fun b hb => by rw [hc k b (by omega) hb]; rfl)
    rw [z, x]
    grind
theorem cy_dl {R : Type} [Lean.Grind.CommRing R] {co : R → Nat → Fin 5} (H : PL co) (y : Nat → Fin 5) (off l : Nat) {g : R} (h : 2 ≤ dl co g) : dl co (cy co y off (dl co g - 1) l) < dl co g := by
  have := mk_dl H (fun t => y (off + (l * (dl co g - 1) + t))) (dl co g - 1)
  unfold cy
  omega
/-- what is said of N: N times q / g^e is p modulo g^e -/
def Nf {R : Type} [Lean.Grind.CommRing R] (co : R → Nat → Fin 5) (p Q G N : R) : Prop := dl co N < dl co G ∧ Dv G (N * Q - p)
theorem nf_un {R : Type} [Lean.Grind.CommRing R] {co : R → Nat → Fin 5} (H : PL co) {p Q G N N' : R} (c : Cp G Q) (h : Nf co p Q G N) (h' : Nf co p Q G N') : N = N' := by
  have d := dv_sub h.2 h'.2
  rw [show N * Q - p - (N' * Q - p) = Q * (N - N') by grind] at d
  have z := dv_small H (cp_dv c d) (by
    have := dl_sub H (a := N) (b := N') (n := dl co G - 1) (by have := h.1; omega) (by have := h'.1; omega)
    have := h.1
    omega)
  grind
theorem pf_cp {R : Type} [Lean.Grind.CommRing R] {co : R → Nat → Fin 5} (H : PL co) {q : R} {n : Nat} {g : Nat → R} {e : Nat → Nat} (h : Fc co q n g e) (Q : Nat → R) (hQ : ∀ a, a < n → q = Q a * g a ^ e a) {a : Nat} (ha : a < n) : Cp (g a ^ e a) (Q a) := by
  refine cp_symm (cp_pow (cp_symm (ir_cp H (h.1 a ha).1 (fun d => (h.1 a ha).2.2.2.2 ?_))) _)
  rw [hQ a ha, Lean.Grind.Semiring.pow_succ, show g a ^ e a * g a = g a * g a ^ e a by grind]
  exact dv_mm d (dv_rfl _)
theorem pf_dv {R : Type} [Lean.Grind.CommRing R] {co : R → Nat → Fin 5} (H : PL co) {q : R} {n : Nat} {g : Nat → R} {e : Nat → Nat} (h : Fc co q n g e) (Q : Nat → R) (hQ : ∀ a, a < n → q = Q a * g a ^ e a) {a b : Nat} (ha : a < n) (hb : b < n) (hne : a ≠ b) : Dv (g a ^ e a) (Q b) := by
  refine cp_dv (cp_pp (fc_cp H h a b ha hb hne) (e a) (e b)) ?_
  rw [show g b ^ e b * Q b = Q b * g b ^ e b by grind, ← hQ b hb, hQ a ha]
  exact dv_r _ _
theorem pf_nf {R : Type} [Lean.Grind.CommRing R] {co : R → Nat → Fin 5} (H : PL co) {p q : R} {n : Nat} {g : Nat → R} {e : Nat → Nat} {y : Nat → Fin 5} (mq : Mo co q) (h : Fc co q n g e) (Q : Nat → R) (hQ : ∀ a, a < n → q = Q a * g a ^ e a)
    (hy : sR (fun a => Q a * hn (g a) (cy co y (pof co g e a) (dl co (g a) - 1)) (e a)) n = rm co p q) {a : Nat} (ha : a < n) : Nf co p (Q a) (g a ^ e a) (hn (g a) (cy co y (pof co g e a) (dl co (g a) - 1)) (e a)) := by
  have f2 := (h.1 a ha).1.1
  constructor
  · rw [dl_pow H (ir_nz H (h.1 a ha).1)]
    have := hn_dl H (C := cy co y (pof co g e a) (dl co (g a) - 1)) (fun l => cy_dl H y _ l f2) (e a)
    omega
  · have d1 := sR_one (d := g a ^ e a) (f := fun a => Q a * hn (g a) (cy co y (pof co g e a) (dl co (g a) - 1)) (e a)) n a ha (fun i hi hn => dv_mulr _ (pf_dv H h Q hQ ha hi (Ne.symm hn)))
    rw [hy] at d1
    have d2 : Dv (g a ^ e a) (p - rm co p q) := dv_trans ⟨Q a, hQ a ha⟩ (rm_sub H p (mo_ne H mq))
    have d3 := dv_neg (dv_add d1 d2)
    have e3 : -(rm co p q - (fun a => Q a * hn (g a) (cy co y (pof co g e a) (dl co (g a) - 1)) (e a)) a + (p - rm co p q)) = hn (g a) (cy co y (pof co g e a) (dl co (g a) - 1)) (e a) * Q a - p := by
      show -(rm co p q - Q a * hn (g a) (cy co y (pof co g e a) (dl co (g a) - 1)) (e a) + (p - rm co p q)) = _
      grind
    rw [e3] at d3
    exact d3
/-- the columns are independent -/
theorem pf_ind {R : Type} [Lean.Grind.CommRing R] {co : R → Nat → Fin 5} (H : PL co) {q : R} {n : Nat} {g : Nat → R} {e : Nat → Nat} {y : Nat → Fin 5} (h : Fc co q n g e) (Q : Nat → R) (hQ : ∀ a, a < n → q = Q a * g a ^ e a)
    (hy : sR (fun a => Q a * hn (g a) (cy co y (pof co g e a) (dl co (g a) - 1)) (e a)) n = 0) {a : Nat} (ha : a < n) {b : Nat} (hb : b < e a * (dl co (g a) - 1)) : y (pof co g e a + b) = 0 := by
  have f2 := (h.1 a ha).1.1
  have hC : ∀ l, dl co (cy co y (pof co g e a) (dl co (g a) - 1) l) < dl co (g a) := fun l => cy_dl H y _ l f2
  have d1 := sR_one (d := g a ^ e a) (f := fun a => Q a * hn (g a) (cy co y (pof co g e a) (dl co (g a) - 1)) (e a)) n a ha (fun i hi hn => dv_mulr _ (pf_dv H h Q hQ ha hi (Ne.symm hn)))
  rw [hy] at d1
  have d2 : Dv (g a ^ e a) (Q a * hn (g a) (cy co y (pof co g e a) (dl co (g a) - 1)) (e a)) := by
    have := dv_neg d1
    rwa [show -(0 - (fun a => Q a * hn (g a) (cy co y (pof co g e a) (dl co (g a) - 1)) (e a)) a) = Q a * hn (g a) (cy co y (pof co g e a) (dl co (g a) - 1)) (e a) by
      show -(0 - Q a * hn (g a) (cy co y (pof co g e a) (dl co (g a) - 1)) (e a)) = _
      grind] at this
  have z := dv_small H (cp_dv (pf_cp H h Q hQ ha) d2) (by
    have := hn_dl H hC (e a)
    rw [dl_pow H (ir_nz H (h.1 a ha).1)]
    omega)
  have dpos : 0 < dl co (g a) - 1 := by omega
  have zl := hn_zero H hC (e a) z (b / (dl co (g a) - 1)) (Nat.div_lt_of_lt_mul (by rw [Nat.mul_comm]; exact hb))
  have cc : co (cy co y (pof co g e a) (dl co (g a) - 1) (b / (dl co (g a) - 1))) (b % (dl co (g a) - 1)) = 0 := by rw [zl, pl_0 H]
  unfold cy at cc
  rw [mk_co H, if_pos (Nat.mod_lt _ dpos)] at cc
  have e1 : b / (dl co (g a) - 1) * (dl co (g a) - 1) + b % (dl co (g a) - 1) = b := Nat.div_add_mod' _ _
  rw [e1] at cc
  exact cc
/-- the answer: the number at x^k of the part with g to the power j -/
def Fa {R : Type} [Lean.Grind.CommRing R] (co : R → Nat → Fin 5) (p Q g : R) (e j : Nat) (c : R) : Prop := ∃ N E, Nf co p Q (g ^ e) N ∧ qit co g N (e - j) E ∧ c = rm co E g
theorem fa_y {R : Type} [Lean.Grind.CommRing R] {co : R → Nat → Fin 5} (H : PL co) {p q : R} {n : Nat} {g : Nat → R} {e : Nat → Nat} {y : Nat → Fin 5} (mq : Mo co q) (h : Fc co q n g e) (Q : Nat → R) (hQ : ∀ a, a < n → q = Q a * g a ^ e a)
    (hy : sR (fun a => Q a * hn (g a) (cy co y (pof co g e a) (dl co (g a) - 1)) (e a)) n = rm co p q) {a j : Nat} (ha : a < n) (hj : 1 ≤ j) (hje : j ≤ e a) {c : R} (hc : Fa co p (Q a) (g a) (e a) j c) (k : Nat) :
    co c k = if k < dl co (g a) - 1 then y (pof co g e a + ((j - 1) * (dl co (g a) - 1) + k)) else 0 := by
  obtain ⟨N, E, hN, hE, rfl⟩ := hc
  have f2 := (h.1 a ha).1.1
  have hC : ∀ l, dl co (cy co y (pof co g e a) (dl co (g a) - 1) l) < dl co (g a) := fun l => cy_dl H y _ l f2
  rw [nf_un H (pf_cp H h Q hQ ha) hN (pf_nf H mq h Q hQ hy ha)] at hE
  rw [hn_it H hC _ _ (by omega) _ hE, show e a - (e a - j) = (j - 1) + 1 by omega, (hn_qr H hC (j - 1)).2]
  unfold cy
  rw [mk_co H]
theorem pf_N {R : Type} [Lean.Grind.CommRing R] {co : R → Nat → Fin 5} (H : PL co) {q : R} {n : Nat} {g : Nat → R} {e : Nat → Nat} (mq : Mo co q) (h : Fc co q n g e) : dl co q = pof co g e n + 1 := by
  have e1 := pd_dl H (g := g) (e := e) n (fun i hi => ir_nz H (h.1 i hi).1)
  rw [← fc_pd H mq h] at e1
  exact e1

/-! elimination with a right side in the last column -/
def So (N : Nat) (T : Nat → Nat → Fin 5) (y : Nat → Fin 5) : Prop := Ke N (N + 1) T (fun c => if c = N then -1 else y c)
theorem so_iff {N : Nat} {T : Nat → Nat → Fin 5} {y : Nat → Fin 5} : So N T y ↔ ∀ r, r < N → sm_s (fun c => T r c * y c) N = T r N := by
  have e : ∀ r, sm_s (fun i => T r i * (if i = N then -1 else y i)) (N + 1) = sm_s (fun c => T r c * y c) N - T r N := by
    intro r
    show sm_s (fun i => T r i * (if i = N then -1 else y i)) N + T r N * (if N = N then -1 else y N) = _
    rw [if_pos rfl, sm_congr N (fun i hi => by rw [if_neg (by omega : ¬ i = N)])]
    have : ∀ a b : Fin 5, a + b * -1 = a - b := by decide
    exact this _ _
  have z : ∀ a b : Fin 5, a - b = 0 ↔ a = b := by decide
  constructor
  · intro h r hr
    have := h r hr
    rw [e r] at this
    exact (z _ _).mp this
  · intro h r hr
    show sm_s (fun i => T r i * (if i = N then -1 else y i)) (N + 1) = 0
    rw [e r]
    exact (z _ _).mpr (h r hr)
/-- r columns are done -/
def Gj (N : Nat) (T0 T : Nat → Nat → Fin 5) (r : Nat) : Prop :=
  (∀ v, Ke N N T v ↔ Ke N N T0 v) ∧ (∀ v, Ke N (N + 1) T v ↔ Ke N (N + 1) T0 v) ∧ (∀ c, c < r → ∀ a, a < N → T a c = if a = c then 1 else 0)
theorem gj_0 (N : Nat) (T : Nat → Nat → Fin 5) : Gj N T T 0 := ⟨fun _ => Iff.rfl, fun _ => Iff.rfl, fun c h => absurd h (Nat.not_lt_zero c)⟩
theorem gj_congr {N r : Nat} {T0 T T' : Nat → Nat → Fin 5} (hr : r ≤ N) (e : ∀ a i, a < N → i < N + 1 → T a i = T' a i) (h : Gj N T0 T r) : Gj N T0 T' r := by
  refine ⟨fun v => Iff.trans ⟨fun k => ke_congr (fun a i h1 h2 => (e a i h1 (by omega)).symm) k, fun k => ke_congr (fun a i h1 h2 => e a i h1 (by omega)) k⟩ (h.1 v), fun v => Iff.trans ⟨fun k => ke_congr (fun a i h1 h2 => (e a i h1 h2).symm) k, fun k => ke_congr (fun a i h1 h2 => e a i h1 h2) k⟩ (h.2.1 v), fun c hc a ha => ?_⟩
  rw [← e a c ha (by omega)]
  exact h.2.2 c hc a ha
theorem gj_pv {N r : Nat} {T0 T : Nat → Nat → Fin 5} (hr : r < N) (h : Gj N T0 T r) (ns : ∀ v, Ke N N T0 v → ∀ c, c < N → v c = 0) : ∃ p, r ≤ p ∧ p < N ∧ T p r ≠ 0 := by
  apply Classical.byContradiction
  intro q
  have z : ∀ p, r ≤ p → p < N → T p r = 0 := fun p h1 h2 => Classical.byContradiction (fun w => q ⟨p, h1, h2, w⟩)
  have k : Ke N N T (fun c => if c < r then -T c r else if c = r then 1 else 0) := by
    intro a ha
    have e : sm_s (fun i => T a i * (if i < r then -T i r else if i = r then 1 else 0)) N = sm_s (fun i => (if i = a then (if a < r then -T a r else 0) else 0) + (if i = r then T a r else 0)) N := by
      refine sm_congr N (fun i hi => ?_)
      show T a i * (if i < r then -T i r else if i = r then 1 else 0) = (if i = a then (if a < r then -T a r else 0) else 0) + (if i = r then T a r else 0)
      by_cases c1 : i < r
      · rw [if_pos c1, h.2.2 i c1 a ha, if_neg (by omega : ¬ i = r), f5_a0]
        by_cases c2 : a = i
        · rw [if_pos c2, if_pos c2.symm, f5_1m, c2, if_pos c1]
        · rw [if_neg c2, if_neg (Ne.symm c2), f5_0m]
      · rw [if_neg c1]
        by_cases c2 : i = r
        · rw [if_pos c2, if_pos c2, c2, f5_m1]
          by_cases c3 : r = a
          · rw [if_pos c3, if_neg (by omega), f5_0a]
          · rw [if_neg c3, f5_0a]
        · rw [if_neg c2, if_neg c2, f5_m0, f5_a0]
          by_cases c3 : i = a
          · rw [if_pos c3, if_neg (by omega)]
          · rw [if_neg c3]
    rw [e, sm_add, sm_one (k := a) (f := fun i => if i = a then (if a < r then -T a r else 0) else 0) ha (fun i _ w => if_neg w), sm_one (k := r) (f := fun i => if i = r then T a r else 0) hr (fun i _ w => if_neg w), if_pos rfl, if_pos rfl]
    by_cases c : a < r
    · rw [if_pos c]; exact f5_na _
    · rw [if_neg c, z a (by omega) ha]; rfl
  have w := ns _ ((h.1 _).mp k) r hr
  rw [if_neg (Nat.lt_irrefl r), if_pos rfl] at w
  exact absurd w (by decide)
theorem gj_s {N r p : Nat} {T0 T : Nat → Nat → Fin 5} (hr : r < N) (h : Gj N T0 T r) (h1 : r ≤ p) (h2 : p < N) (z : T p r ≠ 0) : Gj N T0 (cln (xch T p r) r r) (r + 1) := by
  have nz : xch T p r r r ≠ 0 := by unfold xch; rw [if_pos rfl]; exact z
  refine ⟨fun v => ((ke_cln hr nz v).trans (ke_xch h2 hr v)).trans (h.1 v), fun v => ((ke_cln hr nz v).trans (ke_xch h2 hr v)).trans (h.2.1 v), fun c hc a ha => ?_⟩
  by_cases e : c = r
  · rw [e]
    unfold cln
    by_cases q : a = r
    · rw [if_pos q, if_pos q]; exact f5_inv _ nz
    · rw [if_neg q, if_neg q, f5_inv _ nz, f5_m1]
      have : ∀ x : Fin 5, x - x = 0 := by decide
      exact this _
  · have hc' : c < r := by omega
    have low : ∀ a, a < N → xch T p r a c = if a = c then 1 else 0 := by
      intro a ha
      unfold xch
      by_cases q1 : a = r
      · rw [if_pos q1, h.2.2 c hc' p h2, if_neg (by omega), if_neg (by omega)]
      · rw [if_neg q1]
        by_cases q2 : a = p
        · rw [if_pos q2, h.2.2 c hc' r hr, if_neg (by omega), if_neg (by omega)]
        · rw [if_neg q2]; exact h.2.2 c hc' a ha
    have lr : xch T p r r c = 0 := by rw [low r hr, if_neg (by omega)]
    unfold cln
    by_cases q : a = r
    · rw [if_pos q, lr, f5_0m, if_neg (by omega)]
    · rw [if_neg q, lr, f5_0m, f5_m0, low a ha]
      have : ∀ x : Fin 5, x - 0 = x := by decide
      exact this _
theorem gj_end {N : Nat} {T0 T : Nat → Nat → Fin 5} (h : Gj N T0 T N) : ∀ r, r < N → sm_s (fun c => T0 r c * T c N) N = T0 r N := by
  refine so_iff.mp ((h.2.1 _).mp (so_iff.mpr (fun r hr => ?_)))
  rw [sm_one (k := r) hr (fun i hi q => ?_)]
  · show T r r * T r N = T r N
    rw [h.2.2 r hr r hr, if_pos rfl, f5_1m]
  · show T r i * T i N = 0
    rw [h.2.2 i hi r hr, if_neg (Ne.symm q), f5_0m]
end
section
/-! rows of the kit's PURE-ROWS and BITS files, pasted (starting text) -/
theorem pk_us {f : Nat → Int32} {k : Nat} {x : Int32} : upd f k x k = x := if_pos rfl
theorem pk_un {f : Nat → Int32} {k j : Nat} {x : Int32} (h : j ≠ k) : upd f k x j = f j := if_neg h
theorem pk_sub {a b : Nat} (h : b ≤ a) : nI a - nI b = nI (a - b) := by
  obtain ⟨c, rfl⟩ : ∃ c, a = c + b := ⟨a - b, by omega⟩
  rw [← nI_add, Int32.add_sub_cancel, Nat.add_sub_cancel]
theorem pk_m1 (n : Nat) : nI (n + 1) + (-1) = nI n := by
  rw [← nI_1, Int32.add_assoc, show (1 : Int32) + (-1) = 0 from rfl, Int32.add_zero]
theorem pk_mul (a b : Nat) : nI a * nI b = nI (a * b) := (Int32.ofNat_mul a b).symm
theorem pk_div {a d : Nat} (ha : a < 2 ^ 31) (h0 : 0 < d) (hd : d < 2 ^ 31) : nI a / nI d = nI (a / d) := by
  apply Int32.toInt_inj.mp
  rw [lg_idiv_nonneg (by rw [nI_toInt ha]; omega) (by rw [nI_toInt hd]; omega), nI_toInt ha, nI_toInt hd, nI_toInt (Nat.lt_of_le_of_lt (Nat.div_le_self a d) ha)]
  first | rfl | exact (Int.natCast_ediv _ _).symm
theorem pk_rem {a d : Nat} (ha : a < 2 ^ 31) (h0 : 0 < d) (hd : d < 2 ^ 31) : nI a - nI a / nI d * nI d = nI (a % d) := by
  rw [pk_div ha h0 hd, pk_mul, pk_sub (Nat.div_mul_le_self a d)]
  exact congrArg nI (by have := Nat.div_add_mod' a d; omega)
theorem pk_sub_toInt {a b : Nat} (ha : a < 2 ^ 30) (hb : b < 2 ^ 30) : (nI a - nI b).toInt = (a : Int) - b := by
  rw [Int32.toInt_sub, nI_toInt (by omega), nI_toInt (by omega)]
  exact Int.bmod_eq_of_le (by omega) (by omega)
theorem pk_sneg {a b : Nat} (hb : b < 2 ^ 30) (h : a < b) : nI a - nI b < 0 := by
  rw [Int32.lt_iff_toInt_lt, pk_sub_toInt (by omega) hb, show (0 : Int32).toInt = 0 from by decide]
  omega
theorem pk_ix (x : Int32) {n : Nat} (hn : n < 2 ^ 31) : x < 0 ∨ nI n ≤ x ∨ ∃ j : Nat, j < n ∧ x = nI j := by
  by_cases h : x < 0
  · exact Or.inl h
  · obtain ⟨j, hj, rfl⟩ := nI_of h
    by_cases h2 : j < n
    · exact Or.inr (Or.inr ⟨j, h2, rfl⟩)
    · exact Or.inr (Or.inl (nI_le (by omega) hj))
theorem pk_le {x y : Int32} {A B : Prop} (a b : Nat) (f : a ≤ b → A) (g : b < a → B) (hx : x = nI a := by rfl) (hy : y = nI b := by rfl) (ha : a < 2 ^ 31 := by omega) (hb : b < 2 ^ 31 := by omega) : (x ≤ y → A) ∧ (¬ x ≤ y → B) := by
  subst hx hy
  rw [nI_leI ha hb]
  exact ⟨f, fun z => g (by omega)⟩
theorem pk_lt {x y : Int32} {A B : Prop} (a b : Nat) (f : a < b → A) (g : b ≤ a → B) (hx : x = nI a := by rfl) (hy : y = nI b := by rfl) (ha : a < 2 ^ 31 := by omega) (hb : b < 2 ^ 31 := by omega) : (x < y → A) ∧ (¬ x < y → B) := by
  subst hx hy
  rw [nI_ltI ha hb]
  exact ⟨f, fun z => g (by omega)⟩
theorem pk_eq {x y : Int32} {A B : Prop} (a b : Nat) (f : a = b → A) (g : a ≠ b → B) (hx : x = nI a := by rfl) (hy : y = nI b := by rfl) (ha : a < 2 ^ 31 := by omega) (hb : b < 2 ^ 31 := by omega) : (x = y → A) ∧ (¬ x = y → B) := by
  subst hx hy
  rw [nI_eq ha hb]
  exact ⟨f, g⟩
theorem pk_in {x : Int32} (n N : Nat) (h : n < N) (hx : x = nI n := by rfl) (hN : N < 2 ^ 31 := by omega) : vp_in x N := by
  subst hx
  exact vp_in_nI h hN
theorem pk_cl {x : Int32} (n : Nat) (hx : x = nI n := by rfl) (h : n < 2 ^ 31 := by omega) : x.toNatClampNeg = n := by
  subst hx
  exact nI_clamp h
theorem pk_tn {n : Nat} (h : n < 2 ^ 32) : (nI n).toBitVec.toNat = n := Nat.mod_eq_of_lt h
theorem pk_and (x : Int32) {m : Int32} (k : Nat) (hm : m.toBitVec.toNat = 2 ^ k - 1) : x &&& m = nI (x.toBitVec.toNat % 2 ^ k) := by
  apply Int32.toBitVec_inj.mp
  apply BitVec.eq_of_toNat_eq
  rw [Int32.toBitVec_and, BitVec.toNat_and, hm, Nat.and_two_pow_sub_one_eq_mod]
  show _ = (BitVec.ofNat 32 _).toNat
  rw [BitVec.toNat_ofNat]
  exact (Nat.mod_eq_of_lt (Nat.lt_of_le_of_lt (Nat.mod_le _ _) x.toBitVec.isLt)).symm
theorem pk_andN {n : Nat} (h : n < 2 ^ 32) {m : Int32} (k : Nat) (hm : m.toBitVec.toNat = 2 ^ k - 1) : nI n &&& m = nI (n % 2 ^ k) := by
  rw [pk_and _ k hm, pk_tn h]
theorem pk_shl (a s : Int32) (k : Nat) (hs : (s.toBitVec.smod 32).toNat = k) : (a <<< s).toBitVec.toNat = a.toBitVec.toNat * 2 ^ k % 2 ^ 32 := by
  show (a.toBitVec <<< (s.toBitVec.smod 32).toNat).toNat = _
  rw [hs, BitVec.toNat_shiftLeft, Nat.shiftLeft_eq]
theorem pk_shlN {n : Nat} (s : Int32) (k : Nat) (hs : (s.toBitVec.smod 32).toNat = k) (h : n * 2 ^ k < 2 ^ 32) : nI n <<< s = nI (n * 2 ^ k) := by
  apply Int32.toBitVec_inj.mp
  apply BitVec.eq_of_toNat_eq
  have hn : n < 2 ^ 32 := Nat.lt_of_le_of_lt (Nat.le_mul_of_pos_right n (Nat.two_pow_pos k)) h
  rw [pk_shl _ _ k hs, pk_tn hn, pk_tn h, Nat.mod_eq_of_lt h]
theorem pk_shr (a s : Int32) (k : Nat) (hs : (s.toBitVec.smod 32).toNat = k) : (a >>> s).toInt = a.toInt >>> k := by
  show (a.toBitVec.sshiftRight (s.toBitVec.smod 32).toNat).toInt = _
  rw [hs, BitVec.toInt_sshiftRight]
  rfl
theorem pk_shrN {n : Nat} (h : n < 2 ^ 31) (s : Int32) (k : Nat) (hs : (s.toBitVec.smod 32).toNat = k) : nI n >>> s = nI (n / 2 ^ k) := by
  apply Int32.toInt_inj.mp
  have h2 : n / 2 ^ k ≤ n := Nat.div_le_self _ _
  rw [pk_shr _ _ k hs, nI_toInt h, nI_toInt (by omega), Int.shiftRight_eq_div_pow]
  rfl
theorem pk_vb (z : Int32) : vp_nar .byte z.toInt8.toInt32 = z.toInt8.toInt32 := by rw [vp_nar_byte]; simp
theorem sb_negT {w : Nat} (h : w < 2 ^ 31) : (-nI w).toInt = -(w : Int) := by
  rw [Int32.toInt_neg, nI_toInt h]
  exact Int.bmod_eq_of_le (by omega) (by omega)
theorem s_l : ∀ n, n < 32 → ((nI n &&& 31).toBitVec.smod 32).toNat = n := by decide +kernel
end
section
/-! numbers of the field as ints, degrees as ints -/
def cI (x : Fin 5) : Int32 := nI x.val
def tI (d : Nat) : Int32 := nI d + (-1)
def md (e : Int32) : Int32 := if 0 ≤ e - e / 5 * 5 then e - e / 5 * 5 else e - e / 5 * 5 + 5
theorem x_mod {post : Int32 → Prop} {e : Int32} (K : post (md e)) : wpX_mod post e := by
  unfold wpX_mod
  refine ⟨by decide, fun y ey => ?_⟩
  unfold md at K
  subst ey
  by_cases h : 0 ≤ e - e / 5 * 5
  · rw [if_pos h] at K; exact br_t h K
  · rw [if_neg h] at K; exact br_f h K
theorem y_mod {post : Int32 → Prop} {e : Int32} (K : post (md e)) : wpY_mod post e := by
  unfold wpY_mod
  refine ⟨by decide, fun y ey => ?_⟩
  unfold md at K
  subst ey
  by_cases h : 0 ≤ e - e / 5 * 5
  · rw [if_pos h] at K; exact br_t h K
  · rw [if_neg h] at K; exact br_f h K
theorem md_any (e : Int32) : ∃ x : Fin 5, md e = cI x := by
  have t := rem_toInt e 5
  have b := tmod_bounds (a := e.toInt) (M := 5) (by decide)
  have h5 : (5 : Int32).toInt = 5 := by decide
  rw [h5] at t
  unfold md
  generalize e - e / 5 * 5 = y at t
  have h0 : (0 : Int32).toInt = 0 := by decide
  by_cases h : 0 ≤ y
  · rw [if_pos h]
    rw [Int32.le_iff_toInt_le, h0] at h
    refine ⟨⟨y.toInt.toNat, by omega⟩, Int32.toInt_inj.mp ?_⟩
    show y.toInt = (nI y.toInt.toNat).toInt
    rw [nI_toInt (by omega)]; omega
  · rw [if_neg h]
    rw [Int32.le_iff_toInt_le, h0] at h
    refine ⟨⟨(y.toInt + 5).toNat, by omega⟩, Int32.toInt_inj.mp ?_⟩
    show (y + 5).toInt = (nI (y.toInt + 5).toNat).toInt
    rw [nI_toInt (by omega), Int32.toInt_add, h5, Int.bmod_eq_of_le (by omega) (by omega)]; omega
theorem c_addm : ∀ a f b : Fin 5, md (cI a + cI f * cI b) = cI (a + f * b) := by decide +kernel
theorem c_add5 : ∀ a f b : Fin 5, md (cI a + (5 - cI f) * cI b) = cI (a + -f * b) := by decide +kernel
theorem c_addn : ∀ a b : Fin 5, md (cI a + (-1) * cI b) = cI (a + -1 * b) := by decide +kernel
theorem c_subm : ∀ a f b : Fin 5, md (cI a - cI f * cI b) = cI (a - f * b) := by decide +kernel
theorem c_mulm : ∀ a f : Fin 5, md (cI a * cI f) = cI (a * f) := by decide +kernel
theorem c_mul : ∀ a f : Fin 5, cI a * cI f - cI a * cI f / 5 * 5 = cI (a * f) := by decide +kernel
theorem c_inv : ∀ a : Fin 5, cI a * cI a * cI a - cI a * cI a * cI a / 5 * 5 = cI (a * a * a) := by decide +kernel
theorem c_hor : ∀ s v a : Fin 5, cI s * cI v + cI a - (cI s * cI v + cI a) / 5 * 5 = cI (s * v + a) := by decide +kernel
theorem c_horm : ∀ s v a : Fin 5, md (cI s * cI v + cI a) = cI (s * v + a) := by decide +kernel
theorem c_der : ∀ k : Fin 24, ∀ a : Fin 5, cI a * nI k.val - cI a * nI k.val / 5 * 5 = cI (Fin.ofNat 5 k.val * a) := by decide +kernel
theorem c_derm : ∀ k : Fin 24, ∀ a : Fin 5, md (nI k.val * cI a) = cI (Fin.ofNat 5 k.val * a) := by decide +kernel
theorem c_nar (a : Fin 5) : vp_nar .byte (cI a) = cI a := by
  rw [vp_nar_byte]
  have : ∀ a : Fin 5, (cI a).toInt8.toInt32 = cI a := by decide +kernel
  exact this a
theorem c_i8 : ∀ a : Fin 5, (cI a).toInt8.toInt32 = cI a := by decide +kernel
theorem c_nar8 (a : Fin 5) : vp_nar .byte (cI a).toInt8.toInt32 = cI a := by rw [c_i8, c_nar]
theorem c_0 : ∀ a : Fin 5, cI a = 0 ↔ a = 0 := by decide +kernel
theorem c_inj : ∀ a b : Fin 5, cI a = cI b ↔ a = b := by decide +kernel
theorem c_le : ∀ a b : Fin 5, cI a ≤ cI b ↔ a.val ≤ b.val := by decide +kernel
theorem c_zero : (0 : Int32) = cI 0 := by decide
theorem t_i8 : ∀ d : Fin 26, (tI d.val).toInt8.toInt32 = tI d.val := by decide +kernel
theorem ti_nar {d : Nat} (h : d ≤ 24) : vp_nar .byte (tI d) = tI d := by
  rw [vp_nar_byte]; exact t_i8 ⟨d, by omega⟩
theorem ti_nar8 {d : Nat} (h : d ≤ 24) : vp_nar .byte (tI d).toInt8.toInt32 = tI d := by
  rw [t_i8 ⟨d, by omega⟩, ti_nar h]
theorem ti_succ (j : Nat) : tI (j + 1) = nI j := pk_m1 j
theorem ti_toInt {d : Nat} (h : d < 2 ^ 30) : (tI d).toInt = (d : Int) - 1 := by
  unfold tI
  rw [Int32.toInt_add, nI_toInt (by omega), show (-1 : Int32).toInt = -1 from by decide]
  exact Int.bmod_eq_of_le (by omega) (by omega)
theorem ti_lt {d i : Nat} (hd : d < 2 ^ 30) (hi : i < 2 ^ 30) : tI d < nI i ↔ d ≤ i := by
  rw [Int32.lt_iff_toInt_lt, ti_toInt hd, nI_toInt (by omega)]; omega
theorem ti_le {d i : Nat} (hd : d < 2 ^ 30) (hi : i < 2 ^ 30) : tI d ≤ nI i ↔ d ≤ i + 1 := by
  rw [Int32.le_iff_toInt_le, ti_toInt hd, nI_toInt (by omega)]; omega
theorem ti_ge {d i : Nat} (hd : d < 2 ^ 30) (hi : i < 2 ^ 30) : nI i ≤ tI d ↔ i + 1 ≤ d := by
  rw [Int32.le_iff_toInt_le, ti_toInt hd, nI_toInt (by omega)]; omega
theorem ti_tlt {d e : Nat} (hd : d < 2 ^ 30) (he : e < 2 ^ 30) : tI d < tI e ↔ d < e := by
  rw [Int32.lt_iff_toInt_lt, ti_toInt hd, ti_toInt he]; omega
theorem ti_tle {d e : Nat} (hd : d < 2 ^ 30) (he : e < 2 ^ 30) : tI d ≤ tI e ↔ d ≤ e := by
  rw [Int32.le_iff_toInt_le, ti_toInt hd, ti_toInt he]; omega
theorem ti_eq {d e : Nat} (hd : d < 2 ^ 30) (he : e < 2 ^ 30) : tI d = tI e ↔ d = e := by
  constructor
  · intro h
    have := congrArg Int32.toInt h
    rw [ti_toInt hd, ti_toInt he] at this
    omega
  · intro h; rw [h]
theorem ti_neg {d : Nat} (hd : d < 2 ^ 30) : tI d < 0 ↔ d = 0 := by
  have := ti_lt (d := d) (i := 0) hd (by omega)
  rw [nI_0] at this
  rw [this]; omega
theorem ti_nn {d : Nat} (hd : d < 2 ^ 30) : 0 ≤ tI d ↔ 1 ≤ d := by
  have := ti_ge (d := d) (i := 0) hd (by omega)
  rw [nI_0] at this
  rw [this]
theorem ti_sub {d e : Nat} (h : e ≤ d) : tI d - tI e = nI (d - e) := by
  unfold tI
  rw [← pk_sub h]
  grind
theorem ix24 (a k : Nat) : 24 * nI a + nI k = nI (24 * a + k) := by
  rw [show (24 : Int32) = nI 24 from rfl, pk_mul, nI_add]
theorem ix24t {a d : Nat} (h : 1 ≤ d) : 24 * nI a + tI d = nI (24 * a + (d - 1)) := by
  obtain ⟨j, rfl⟩ : ∃ j, d = j + 1 := ⟨d - 1, by omega⟩
  rw [ti_succ, ix24, Nat.add_sub_cancel]
theorem in24 {a k : Nat} (ha : a < 76) (hk : k < 24) : vp_in (24 * nI a + nI k) 1824 := by
  rw [ix24]; exact vp_in_nI (by omega) (by omega)
theorem cl24 {a k : Nat} (ha : a < 76) (hk : k < 24) : (24 * nI a + nI k).toNatClampNeg = 24 * a + k := by
  rw [ix24]; exact nI_clamp (by omega)
/-- c with a row of numbers written -/
def stR (c : Nat → Int32) (b w : Nat) (f : Nat → Int32) : Nat → Int32 := fun j => if b ≤ j ∧ j < b + w then f (j - b) else c j
theorem stR_0 (c : Nat → Int32) (b : Nat) (f : Nat → Int32) : stR c b 0 f = c := funext (fun j => if_neg (by omega))
theorem stR_s (c : Nat → Int32) (b w : Nat) (f : Nat → Int32) : upd (stR c b w f) (b + w) (f w) = stR c b (w + 1) f := funext (fun j => by
  unfold upd stR
  by_cases e : j = b + w
  · rw [if_pos e, if_pos (by omega), e, Nat.add_sub_cancel_left]
  · rw [if_neg e]
    by_cases h : b ≤ j ∧ j < b + w
    · rw [if_pos h, if_pos (by omega)]
    · rw [if_neg h, if_neg (by omega)])
theorem stR_in {c : Nat → Int32} {b w : Nat} {f : Nat → Int32} {i : Nat} (h : i < w) : stR c b w f (b + i) = f i := by
  unfold stR
  rw [if_pos (by omega), Nat.add_sub_cancel_left]
theorem stR_out {c : Nat → Int32} {b w : Nat} {f : Nat → Int32} {j : Nat} (h : j < b ∨ b + w ≤ j) : stR c b w f j = c j := if_neg (by omega)
/-- a loop that writes a row -/
theorem st_loop (W : Nat → Nat → (Nat → Int32) → Prop) (c : Nat → Int32) (b w : Nat) (f : Nat → Int32) (hx : ∀ n, W (n + 1) w (stR c b w f)) (hs : ∀ n i, i < w → W n (i + 1) (upd (stR c b i f) (b + i) (f i)) → W (n + 1) i (stR c b i f)) : ∀ n, w < n → W n 0 c := by
  have k : ∀ d i, i + d = w → ∀ n, d < n → W n i (stR c b i f) := by
    intro d
    induction d with
    | zero =>
      intro i hi n hn
      obtain ⟨n, rfl⟩ : ∃ m, n = m + 1 := ⟨n - 1, by omega⟩
      rw [show i = w by omega]; exact hx n
    | succ d ih =>
      intro i hi n hn
      obtain ⟨n, rfl⟩ : ∃ m, n = m + 1 := ⟨n - 1, by omega⟩
      refine hs n i (by omega) ?_
      rw [stR_s]
      exact ih (i + 1) (by omega) n (by omega)
  intro n hn
  have := k w 0 (by omega) n hn
  rwa [stR_0] at this
end
section
/-! the rows of the component as polynomials -/
def RX {R : Type} (co : R → Nat → Fin 5) (c t : Nat → Int32) (M : Nat → Option R) : Prop :=
  ∀ r, r < 76 → ∀ p, M r = some p → dl co p ≤ 24 ∧ (∀ k, k < 24 → c (24 * r + k) = cI (co p k)) ∧ t r = tI (dl co p)
def uo {R : Type} (M : Nat → Option R) (a : Nat) (p : R) : Nat → Option R := fun r => if r = a then some p else M r
theorem uo_s {R : Type} {M : Nat → Option R} {a : Nat} {p : R} : uo M a p a = some p := if_pos rfl
theorem uo_n {R : Type} {M : Nat → Option R} {a r : Nat} {p : R} (h : r ≠ a) : uo M a p r = M r := if_neg h
theorem uo_2 {R : Type} {M : Nat → Option R} {a b : Nat} {x y z : R} : uo (uo (uo M a x) b y) a z = uo (uo M b y) a z := funext (fun r => by
  unfold uo
  by_cases h : r = a
  · rw [if_pos h, if_pos h]
  · rw [if_neg h, if_neg h, if_neg h])
theorem rx_up {R : Type} [Lean.Grind.CommRing R] {co : R → Nat → Fin 5} (H : PL co) {c t c' : Nat → Int32} {M : Nat → Option R} {a : Nat} {p : R} (h : RX co c t M) (hd : dl co p ≤ 24) (h1 : ∀ k, k < 24 → c' (24 * a + k) = cI (co p k)) (h2 : ∀ j, (j < 24 * a ∨ 24 * a + 24 ≤ j) → c' j = c j) : RX co c' (upd t a (tI (dl co p))) (uo M a p) := by
  intro r hr p' hp
  by_cases e : r = a
  · rw [e] at hp ⊢
    rw [uo_s] at hp
    cases hp
    exact ⟨hd, h1, pk_us⟩
  · rw [uo_n e] at hp
    have g := h r hr p' hp
    refine ⟨g.1, fun k hk => ?_, ?_⟩
    · rw [h2 _ (by omega)]; exact g.2.1 k hk
    · rw [pk_un e]; exact g.2.2
/-- the row's place stands for nothing -/
def un {R : Type} (M : Nat → Option R) (a : Nat) : Nat → Option R := fun r => if r = a then none else M r
theorem un_s {R : Type} {M : Nat → Option R} {a : Nat} : un M a a = none := if_pos rfl
theorem un_n {R : Type} {M : Nat → Option R} {a r : Nat} (h : r ≠ a) : un M a r = M r := if_neg h
theorem rx_un {R : Type} {co : R → Nat → Fin 5} {c t c' : Nat → Int32} {M : Nat → Option R} {a : Nat} (h : RX co c t M) (h2 : ∀ j, (j < 24 * a ∨ 24 * a + 24 ≤ j) → c' j = c j) : RX co c' t (un M a) := by
  intro r hr p' hp
  by_cases e : r = a
  · unfold un at hp
    rw [if_pos e] at hp
    cases hp
  · unfold un at hp
    rw [if_neg e] at hp
    have g := h r hr p' hp
    refine ⟨g.1, fun k hk => ?_, g.2.2⟩
    rw [h2 _ (by omega)]; exact g.2.1 k hk
theorem rx_ex {R : Type} {co : R → Nat → Fin 5} {c t : Nat → Int32} {M M' : Nat → Option R} (h : RX co c t M) (e : ∀ r p, M' r = some p → M r = some p) : RX co c t M' := fun r hr p hp => h r hr p (e r p hp)
section
variable {f_count f_place f_operators f_values f_fault f_found f_factored f_pieces f_kernel : Int32} {a_kind a_with a_c a_top a_product a_there a_waiting a_powers a_matrix a_basis : Nat → Int32}
theorem x_settle_l {R : Type} [Lean.Grind.CommRing R] {co : R → Nat → Fin 5} (H : PL co) {p : R} {a : Nat} {post : SX → Prop} (ha : a < 76) (hc : ∀ k, k < 24 → a_c (24 * a + k) = cI (co p k)) (K : post (f_count, f_place, f_operators, f_values, f_fault, f_found, f_factored, f_pieces, f_kernel, a_kind, a_with, a_c, upd a_top a (tI (dl co p)), a_product, a_there, a_waiting, a_powers, a_matrix, a_basis)) :
    ∀ j, dl co p ≤ j → j ≤ 24 → ∀ n, j < n → wX_settle_3 post (nI a) f_count f_place f_operators f_values f_fault f_found f_factored f_pieces f_kernel a_kind a_with a_c a_top a_product a_there a_waiting a_powers a_matrix a_basis n (tI j) := by
  intro j
  induction j with
  | zero =>
    intro h0 _ n hn
    obtain ⟨n, rfl⟩ : ∃ m, n = m + 1 := ⟨n - 1, by omega⟩
    have e : dl co p = 0 := by omega
    refine br_t (by decide) ⟨vp_in_nI ha (by omega), nm_r (e' := upd a_top a (tI (dl co p))) ?_ K⟩
    rw [nI_clamp (by omega), ti_nar8 (by omega), e]
  | succ j ih =>
    intro h0 h1 n hn
    obtain ⟨n, rfl⟩ : ∃ m, n = m + 1 := ⟨n - 1, by omega⟩
    have hx : ¬ tI (j + 1) < 0 := by rw [ti_neg (by omega)]; omega
    have ei : 24 * nI a + tI (j + 1) = nI (24 * a + j) := by rw [ti_succ, ix24]
    refine br_f hx ⟨by rw [ei]; exact vp_in_nI (by omega) (by omega), ?_⟩
    rw [ei, nI_clamp (by omega), hc j (by omega)]
    by_cases z : co p j = 0
    · refine br_t (by rw [z]; rfl) (nm_r (e' := tI j) (by rw [ti_succ]; rfl) (ih ?_ (by omega) n (by omega)))
      refine dl_le H (fun k hk => ?_)
      by_cases e : k = j
      · rw [e]; exact z
      · exact dl_hi H (by omega)
    · refine br_f (fun w => z ((c_0 _).mp w)) ⟨vp_in_nI ha (by omega), nm_r (e' := upd a_top a (tI (dl co p))) ?_ K⟩
      have g := dl_gt H z
      rw [nI_clamp (by omega), ti_nar8 (by omega), show dl co p = j + 1 by omega]
theorem x_settle {R : Type} [Lean.Grind.CommRing R] {co : R → Nat → Fin 5} (H : PL co) {c0 : Nat → Int32} {M : Nat → Option R} {p : R} {a : Nat} {post : SX → Prop} (h : RX co c0 a_top M) (ha : a < 76) (hd : dl co p ≤ 24) (h1 : ∀ k, k < 24 → a_c (24 * a + k) = cI (co p k)) (h2 : ∀ j, (j < 24 * a ∨ 24 * a + 24 ≤ j) → a_c j = c0 j)
    (K : ∀ t, RX co a_c t (uo M a p) → post (f_count, f_place, f_operators, f_values, f_fault, f_found, f_factored, f_pieces, f_kernel, a_kind, a_with, a_c, t, a_product, a_there, a_waiting, a_powers, a_matrix, a_basis)) : wpX_settle post (f_count, f_place, f_operators, f_values, f_fault, f_found, f_factored, f_pieces, f_kernel, a_kind, a_with, a_c, a_top, a_product, a_there, a_waiting, a_powers, a_matrix, a_basis) (nI a) := by
  unfold wpX_settle
  refine ⟨25, ?_⟩
  rw [show (23 : Int32) = tI 24 from by decide]
  exact x_settle_l H ha h1 (K _ (rx_up H h hd h1 h2)) 24 hd (by omega) 25 (by omega)
theorem x_copy {R : Type} [Lean.Grind.CommRing R] {co : R → Nat → Fin 5} (H : PL co) {M : Nat → Option R} {p : R} {a b : Nat} {post : SX → Prop} (h : RX co a_c a_top M) (ha : a < 76) (hb : b < 76) (hp : M a = some p)
    (K : ∀ c t, RX co c t (uo M b p) → post (f_count, f_place, f_operators, f_values, f_fault, f_found, f_factored, f_pieces, f_kernel, a_kind, a_with, c, t, a_product, a_there, a_waiting, a_powers, a_matrix, a_basis)) : wpX_copy post (f_count, f_place, f_operators, f_values, f_fault, f_found, f_factored, f_pieces, f_kernel, a_kind, a_with, a_c, a_top, a_product, a_there, a_waiting, a_powers, a_matrix, a_basis) (nI a) (nI b) := by
  unfold wpX_copy
  obtain ⟨g1, g2, g3⟩ := h a ha p hp
  refine ⟨25, st_loop (fun n i c => wX_copy_2 post (nI a) (nI b) f_count f_place f_operators f_values f_fault f_found f_factored f_pieces f_kernel n (nI i) a_kind a_with c a_top a_product a_there a_waiting a_powers a_matrix a_basis) a_c (24 * b) 24 (fun i => cI (co p i)) ?_ ?_ 25 (by omega)⟩
  · intro n
    refine br_t (nI_le (a := 24) (b := 24) (by decide) (by decide)) ⟨vp_in_nI ha (by omega), vp_in_nI hb (by omega), nm_r (e' := upd a_top b (tI (dl co p))) ?_ (K _ _ (rx_up H h g1 (fun k hk => stR_in hk) (fun j hj => stR_out hj)))⟩
    rw [nI_clamp (by omega), nI_clamp (by omega), g3, ti_nar g1]
  · intro n i hi hn
    refine br_f (nI_ge (b := 24) hi (by decide)) ⟨in24 ha hi, in24 hb hi, nm_r (e' := upd (stR a_c (24 * b) i (fun i => cI (co p i))) (24 * b + i) (cI (co p i))) ?_ (nm_r (nI_1 i) hn)⟩
    rw [cl24 ha hi, cl24 hb hi, stR_out (by omega), g2 i hi, c_nar]
theorem x_only {R : Type} [Lean.Grind.CommRing R] {co : R → Nat → Fin 5} (H : PL co) {M : Nat → Option R} {x : Fin 5} {v : Int32} {a k : Nat} {post : SX → Prop} (h : RX co a_c a_top M) (ha : a < 76) (hk : k < 24) (hv : md v = cI x)
    (K : ∀ c t, RX co c t (uo M a (mo co x k)) → post (f_count, f_place, f_operators, f_values, f_fault, f_found, f_factored, f_pieces, f_kernel, a_kind, a_with, c, t, a_product, a_there, a_waiting, a_powers, a_matrix, a_basis)) : wpX_only post (f_count, f_place, f_operators, f_values, f_fault, f_found, f_factored, f_pieces, f_kernel, a_kind, a_with, a_c, a_top, a_product, a_there, a_waiting, a_powers, a_matrix, a_basis) (nI a) v (nI k) := by
  unfold wpX_only
  refine nm_r (e' := nI (24 * a + 0)) (by rw [show (24 : Int32) = nI 24 from rfl, pk_mul]; rfl) ?_
  have e24 : 24 * nI a + 24 = nI (24 * a + 24) := ix24 a 24
  refine ⟨25, st_loop (fun n i c => wX_only_6 post (nI a) v (nI k) f_count f_place f_operators f_values f_fault f_found f_factored f_pieces f_kernel n (nI (24 * a + i)) a_kind a_with c a_top a_product a_there a_waiting a_powers a_matrix a_basis) a_c (24 * a) 24 (fun _ => 0) ?_ ?_ 25 (by omega)⟩
  · intro n
    refine br_t (by rw [e24]; exact nI_le (by omega) (by omega)) (x_mod ?_)
    rw [hv]
    refine ⟨in24 ha hk, nm_r (e' := upd (stR a_c (24 * a) 24 (fun _ => 0)) (24 * a + k) (cI x)) (by rw [cl24 ha hk, c_nar8]) ?_⟩
    refine x_settle H h ha (p := mo co x k) ?_ (fun j hj => ?_) (fun j hj => ?_) (fun t ht => K _ t ht)
    · exact dl_le H (fun n hn => by rw [mo_co H, if_neg (by omega)])
    · rw [mo_co H]
      by_cases e : j = k
      · rw [if_pos e, e]; exact pk_us
      · rw [if_neg e, pk_un (by omega), stR_in hj]; rfl
    · rw [pk_un (by omega), stR_out hj]
  · intro n i hi hn
    refine br_f (by rw [e24]; exact nI_ge (by omega) (by omega)) ⟨vp_in_nI (by omega) (by omega), nm_r (e' := upd (stR a_c (24 * a) i (fun _ => 0)) (24 * a + i) 0) ?_ (nm_r (nI_1 _) hn)⟩
    rw [nI_clamp (by omega)]
    congr 1
theorem x_add {R : Type} [Lean.Grind.CommRing R] {co : R → Nat → Fin 5} (H : PL co) {M : Nat → Option R} {p q : R} {a b up : Nat} {φ : Int32} {f : Fin 5} {post : SX → Prop} (h : RX co a_c a_top M) (ha : a < 76) (hb : b < 76) (hab : a ≠ b) (hp : M a = some p) (hq : M b = some q) (hf : ∀ x y : Fin 5, md (cI x + φ * cI y) = cI (x + f * y)) (hup : dl co q + up ≤ 24)
    (K : ∀ c t, RX co c t (uo M a (p + mo co f up * q)) → (∀ j, (j < 24 * a ∨ 24 * a + 24 ≤ j) → c j = a_c j) → post (f_count, f_place, f_operators, f_values, f_fault, f_found, f_factored, f_pieces, f_kernel, a_kind, a_with, c, t, a_product, a_there, a_waiting, a_powers, a_matrix, a_basis)) : wpX_add post (f_count, f_place, f_operators, f_values, f_fault, f_found, f_factored, f_pieces, f_kernel, a_kind, a_with, a_c, a_top, a_product, a_there, a_waiting, a_powers, a_matrix, a_basis) (nI a) (nI b) φ (nI up) := by
  unfold wpX_add
  obtain ⟨p1, p2, p3⟩ := h a ha p hp
  obtain ⟨q1, q2, q3⟩ := h b hb q hq
  have cc : ∀ n, co (p + mo co f up * q) n = co p n + (if up ≤ n then f * co q (n - up) else 0) := fun n => by rw [pl_add H, co_mo H]
  have ii : ∀ i, 24 * nI a + nI i + nI up = nI (24 * a + up + i) := fun i => by rw [ix24, nI_add]; congr 1; omega
  refine ⟨25, st_loop (fun n i c => wX_add_3 post (nI a) (nI b) φ (nI up) f_count f_place f_operators f_values f_fault f_found f_factored f_pieces f_kernel n (nI i) a_kind a_with c a_top a_product a_there a_waiting a_powers a_matrix a_basis) a_c (24 * a + up) (dl co q) (fun i => cI (co p (up + i) + f * co q i)) ?_ ?_ 25 (by omega)⟩
  · intro n
    refine ⟨vp_in_nI hb (by omega), ?_⟩
    rw [nI_clamp (by omega), q3]
    refine br_t ((ti_lt (by omega) (by omega)).mpr (Nat.le_refl _)) ?_
    refine x_settle H h ha (p := p + mo co f up * q) ?_ (fun j hj => ?_) (fun j hj => stR_out (by omega)) (fun t ht => K _ t ht (fun j hj => stR_out (by omega)))
    · refine dl_le H (fun n hn => ?_)
      rw [cc, dl_hi H (a := p) (by omega), if_pos (by omega), dl_hi H (a := q) (by omega), f5_m0]; rfl
    · rw [cc]
      by_cases e1 : up ≤ j
      · rw [if_pos e1]
        by_cases e2 : j - up < dl co q
        · have := stR_in (c := a_c) (b := 24 * a + up) (f := fun i => cI (co p (up + i) + f * co q i)) e2
          rw [show 24 * a + up + (j - up) = 24 * a + j by omega] at this
          rw [this, show up + (j - up) = j by omega]
        · rw [stR_out (by omega), p2 j hj, dl_hi H (a := q) (by omega), f5_m0, f5_a0]
      · rw [if_neg e1, stR_out (by omega), p2 j hj, f5_a0]
  · intro n i hi hn
    refine ⟨vp_in_nI hb (by omega), ?_⟩
    rw [nI_clamp (by omega), q3]
    refine br_f (by rw [ti_lt (by omega) (by omega)]; omega) ?_
    rw [ii]
    refine ⟨vp_in_nI (by omega) (by omega), in24 hb (by omega), ?_⟩
    rw [cl24 hb (by omega), nI_clamp (by omega)]
    refine x_mod ?_
    rw [stR_out (by omega), stR_out (by omega), q2 i (by omega), show 24 * a + up + i = 24 * a + (up + i) by omega, p2 (up + i) (by omega), hf]
    refine ⟨vp_in_nI (by omega) (by omega), nm_r (e' := upd (stR a_c (24 * a + up) i (fun i => cI (co p (up + i) + f * co q i))) (24 * a + up + i) (cI (co p (up + i) + f * co q i))) (by rw [c_nar8, show 24 * a + (up + i) = 24 * a + up + i by omega]) (nm_r (nI_1 i) hn)⟩
theorem x_scale {R : Type} [Lean.Grind.CommRing R] {co : R → Nat → Fin 5} (H : PL co) {M : Nat → Option R} {p : R} {a : Nat} {x : Fin 5} {post : SX → Prop} (h : RX co a_c a_top M) (ha : a < 76) (hp : M a = some p) (hx : x ≠ 0)
    (K : ∀ c, RX co c a_top (uo M a (mo co x 0 * p)) → post (f_count, f_place, f_operators, f_values, f_fault, f_found, f_factored, f_pieces, f_kernel, a_kind, a_with, c, a_top, a_product, a_there, a_waiting, a_powers, a_matrix, a_basis)) : wpX_scale post (f_count, f_place, f_operators, f_values, f_fault, f_found, f_factored, f_pieces, f_kernel, a_kind, a_with, a_c, a_top, a_product, a_there, a_waiting, a_powers, a_matrix, a_basis) (nI a) (cI x) := by
  unfold wpX_scale
  obtain ⟨p1, p2, p3⟩ := h a ha p hp
  have dd := dl_unm H (b := p) (dl_mo H hx 0)
  refine nm_r (e' := nI (24 * a + 0)) (by rw [show (24 : Int32) = nI 24 from rfl, pk_mul]; rfl) ?_
  have e24 : 24 * nI a + 24 = nI (24 * a + 24) := ix24 a 24
  refine ⟨25, st_loop (fun n i c => wX_scale_5 post (nI a) (cI x) f_count f_place f_operators f_values f_fault f_found f_factored f_pieces f_kernel n (nI (24 * a + i)) a_kind a_with c a_top a_product a_there a_waiting a_powers a_matrix a_basis) a_c (24 * a) 24 (fun i => cI (co p i * x)) ?_ ?_ 25 (by omega)⟩
  · intro n
    refine br_t (by rw [e24]; exact nI_le (by omega) (by omega)) (K _ ?_)
    have u := rx_up H (c' := stR a_c (24 * a) 24 (fun i => cI (co p i * x))) (a := a) (p := mo co x 0 * p) h (by rw [dd]; exact p1) (fun k hk => by rw [stR_in hk, co_c H, f5_mcm]) (fun j hj => stR_out hj)
    have e : upd a_top a (tI (dl co (mo co x 0 * p))) = a_top := funext (fun r => by
      by_cases q : r = a
      · rw [q, pk_us, dd]; exact p3.symm
      · exact pk_un q)
    rw [e] at u
    exact u
  · intro n i hi hn
    refine br_f (by rw [e24]; exact nI_ge (by omega) (by omega)) ⟨vp_in_nI (by omega) (by omega), by decide, vp_in_nI (by omega) (by omega), nm_r (e' := upd (stR a_c (24 * a) i (fun i => cI (co p i * x))) (24 * a + i) (cI (co p i * x))) ?_ (nm_r (nI_1 _) hn)⟩
    rw [nI_clamp (by omega), stR_out (by omega), p2 i hi, c_mul, c_nar8]
theorem x_inverse {R : Type} [Lean.Grind.CommRing R] {co : R → Nat → Fin 5} (H : PL co) {M : Nat → Option R} {p : R} {a : Nat} {post : Int32 → Prop} (h : RX co a_c a_top M) (ha : a < 76) (hp : M a = some p) (np : p ≠ 0) (K : post (cI (ld co p * ld co p * ld co p))) : wpX_inverse post (f_count, f_place, f_operators, f_values, f_fault, f_found, f_factored, f_pieces, f_kernel, a_kind, a_with, a_c, a_top, a_product, a_there, a_waiting, a_powers, a_matrix, a_basis) (nI a) := by
  unfold wpX_inverse
  obtain ⟨p1, p2, p3⟩ := h a ha p hp
  have d := dl_ne H np
  refine ⟨vp_in_nI ha (by omega), ?_⟩
  rw [nI_clamp (by omega), p3, ix24t d, nI_clamp (by omega)]
  refine ⟨vp_in_nI (by omega) (by omega), nm_r (p2 (dl co p - 1) (by omega)) ⟨by decide, ?_⟩⟩
  rw [c_inv]
  exact K
theorem x_lead {R : Type} [Lean.Grind.CommRing R] {co : R → Nat → Fin 5} (H : PL co) {M : Nat → Option R} {p : R} {a : Nat} {post : Int32 → Prop} (h : RX co a_c a_top M) (ha : a < 76) (hp : M a = some p) (np : p ≠ 0) (K : post (cI (ld co p))) : wpX_lead post (f_count, f_place, f_operators, f_values, f_fault, f_found, f_factored, f_pieces, f_kernel, a_kind, a_with, a_c, a_top, a_product, a_there, a_waiting, a_powers, a_matrix, a_basis) (nI a) := by
  unfold wpX_lead
  obtain ⟨p1, p2, p3⟩ := h a ha p hp
  have d := dl_ne H np
  refine ⟨vp_in_nI ha (by omega), ?_⟩
  rw [nI_clamp (by omega), p3, ix24t d, nI_clamp (by omega)]
  refine ⟨vp_in_nI (by omega) (by omega), ?_⟩
  rw [p2 (dl co p - 1) (by omega)]
  exact K
end
end
section
/-! multiplication -/
def ps (f g : Nat → Fin 5) (e i k n : Nat) : Fin 5 :=
  sm_s (fun j => if j ≤ n ∧ n - j < e then f j * g (n - j) else 0) i + (if i ≤ n ∧ n - i < k then f i * g (n - i) else 0)
def PI (f g : Nat → Fin 5) (e : Nat) (pr : Nat → Int32) (i k : Nat) : Prop :=
  ∀ n, n < 48 → ∃ m : Nat, pr n = nI m ∧ m ≤ 16 * i + (if i ≤ n ∧ n - i < k then 16 else 0) ∧ Fin.ofNat 5 m = ps f g e i k n
theorem PI_0 (f g : Nat → Fin 5) (e : Nat) {pr : Nat → Int32} (h : ∀ n, n < 48 → pr n = 0) : PI f g e pr 0 0 := fun n hn => by
  refine ⟨0, h n hn, Nat.zero_le _, ?_⟩
  unfold ps
  rw [if_neg (by omega)]; rfl
theorem PI_row {f g : Nat → Fin 5} {e : Nat} {pr : Nat → Int32} {i : Nat} (h : PI f g e pr i e) : PI f g e pr (i + 1) 0 := fun n hn => by
  obtain ⟨m, h1, h2, h3⟩ := h n hn
  refine ⟨m, h1, ?_, ?_⟩
  · rw [if_neg (by omega)]
    by_cases c : i ≤ n ∧ n - i < e
    · rw [if_pos c] at h2; omega
    · rw [if_neg c] at h2; omega
  · rw [h3]
    unfold ps
    rw [if_neg (by omega : ¬ (i + 1 ≤ n ∧ n - (i + 1) < 0)), f5_a0]
    rfl
theorem PI_s {f g : Nat → Fin 5} {e : Nat} {pr : Nat → Int32} {i k : Nat} (h : PI f g e pr i k) (hk : i + k < 48) : ∃ y, pr (i + k) = nI y ∧ PI f g e (upd pr (i + k) (nI (y + (f i).val * (g k).val))) i (k + 1) := by
  obtain ⟨y, y1, y2, y3⟩ := h (i + k) hk
  rw [if_neg (by omega)] at y2
  refine ⟨y, y1, fun n hn => ?_⟩
  by_cases c : n = i + k
  · refine ⟨y + (f i).val * (g k).val, by rw [c]; exact pk_us, ?_, ?_⟩
    · rw [if_pos (by omega)]
      have a1 : (f i).val ≤ 4 := by have := (f i).isLt; omega
      have a2 : (g k).val ≤ 4 := by have := (g k).isLt; omega
      have := Nat.mul_le_mul a1 a2
      omega
    · rw [po_addc, y3, c]
      unfold ps
      rw [if_neg (by omega), if_pos (by omega), f5_a0, show i + k - i = k by omega]
      congr 1
  · obtain ⟨m, h1, h2, h3⟩ := h n hn
    refine ⟨m, by rw [pk_un c]; exact h1, ?_, ?_⟩
    · by_cases q : i ≤ n ∧ n - i < k
      · rw [if_pos q] at h2; rw [if_pos (by omega)]; exact h2
      · rw [if_neg q] at h2; rw [if_neg (by omega)]; exact h2
    · rw [h3]
      unfold ps
      congr 1
      by_cases q : i ≤ n ∧ n - i < k
      · rw [if_pos q, if_pos (by omega)]
      · rw [if_neg q, if_neg (by omega)]
theorem PI_end {R : Type} [Lean.Grind.CommRing R] {co : R → Nat → Fin 5} (H : PL co) {p q : R} {pr : Nat → Int32} (hp : dl co p ≤ 24) (h : PI (co p) (co q) (dl co q) pr (dl co p) 0) {n : Nat} (hn : n < 48) : pr n - pr n / 5 * 5 = cI (co (p * q) n) := by
  obtain ⟨m, h1, h2, h3⟩ := h n hn
  rw [if_neg (by omega)] at h2
  rw [h1, show (5 : Int32) = nI 5 from rfl, pk_rem (by omega) (by omega) (by omega)]
  have e : ps (co p) (co q) (dl co q) (dl co p) 0 n = co (p * q) n := by
    unfold ps
    rw [if_neg (by omega), f5_a0, pl_mul H]
    unfold cv
    have k1 : ∀ N, (∀ j, dl co p ≤ j → j < N → True) → dl co p ≤ N → sm_s (fun j => if j ≤ n ∧ n - j < dl co q then co p j * co q (n - j) else 0) (dl co p) = sm_s (fun j => if j ≤ n ∧ n - j < dl co q then co p j * co q (n - j) else 0) N := by
      intro N
      induction N with
      | zero => intro _ h0; rw [show dl co p = 0 by omega]
      | succ N ih =>
        intro _ h0
        by_cases c : dl co p = N + 1
        · rw [c]
        · show _ = sm_s _ N + (if N ≤ n ∧ n - N < dl co q then co p N * co q (n - N) else 0)
          rw [← ih (fun _ _ _ => trivial) (by omega), dl_hi H (a := p) (n := N) (by omega), f5_0m]
          split <;> rw [f5_a0]
    have k2 : ∀ N, n + 1 ≤ N → sm_s (fun j => if j ≤ n ∧ n - j < dl co q then co p j * co q (n - j) else 0) (n + 1) = sm_s (fun j => if j ≤ n ∧ n - j < dl co q then co p j * co q (n - j) else 0) N := by
      intro N
      induction N with
      | zero => intro h0; omega
      | succ N ih =>
        intro h0
        by_cases c : n = N
        · rw [c]
        · show _ = sm_s _ N + (if N ≤ n ∧ n - N < dl co q then co p N * co q (n - N) else 0)
          rw [← ih (by omega), if_neg (by omega), f5_a0]
    rw [k1 (dl co p + n + 1) (fun _ _ _ => trivial) (by omega), ← k2 (dl co p + n + 1) (by omega)]
    refine sm_congr (n + 1) (fun j hj => ?_)
    show (if j ≤ n ∧ n - j < dl co q then co p j * co q (n - j) else 0) = co p j * co q (n - j)
    by_cases c : n - j < dl co q
    · rw [if_pos ⟨by omega, c⟩]
    · rw [if_neg (by omega), dl_hi H (a := q) (by omega), f5_m0]
  rw [e] at h3
  rw [← h3]
  rfl
section
variable {f_count f_place f_operators f_values f_fault f_found f_factored f_pieces f_kernel : Int32} {a_kind a_with a_c a_top a_product a_there a_waiting a_powers a_matrix a_basis : Nat → Int32}
theorem x_mul_105 {R : Type} [Lean.Grind.CommRing R] {co : R → Nat → Fin 5} (H : PL co) {M : Nat → Option R} {p q : R} {z : Nat} {post : SX → Prop} (h : RX co a_c a_top M) (hz : z < 76) (hp : dl co p ≤ 24) (hd : dl co p + dl co q ≤ 25) (hI : PI (co p) (co q) (dl co q) a_product (dl co p) 0)
    (K : ∀ c t, RX co c t (uo M z (p * q)) → post (f_count, f_place, f_operators, f_values, f_fault, f_found, f_factored, f_pieces, f_kernel, a_kind, a_with, c, t, a_product, a_there, a_waiting, a_powers, a_matrix, a_basis)) : ∃ n105, wX_multiply_105 post (nI z) f_count f_place f_operators f_values f_fault f_found f_factored f_pieces f_kernel n105 0 a_kind a_with a_c a_top a_product a_there a_waiting a_powers a_matrix a_basis := by
  refine ⟨25, st_loop (fun n i c => wX_multiply_105 post (nI z) f_count f_place f_operators f_values f_fault f_found f_factored f_pieces f_kernel n (nI i) a_kind a_with c a_top a_product a_there a_waiting a_powers a_matrix a_basis) a_c (24 * z) 24 (fun i => cI (co (p * q) i)) ?_ ?_ 25 (by omega)⟩
  · intro n
    refine br_t (nI_le (a := 24) (b := 24) (by decide) (by decide)) ?_
    refine x_settle H h hz (p := p * q) ?_ (fun j hj => stR_in hj) (fun j hj => stR_out hj) (fun t ht => K _ t ht)
    have := dl_mul_le H p q
    omega
  · intro n i hi hn
    refine br_f (nI_ge (b := 24) hi (by decide)) ⟨vp_in_nI (by omega) (by omega), by decide, in24 hz hi, nm_r (e' := upd (stR a_c (24 * z) i (fun i => cI (co (p * q) i))) (24 * z + i) (cI (co (p * q) i))) ?_ (nm_r (nI_1 i) hn)⟩
    rw [cl24 hz hi, nI_clamp (by omega), PI_end H hp hI (by omega), c_nar8]
theorem x_mul_41 {R : Type} [Lean.Grind.CommRing R] {co : R → Nat → Fin 5} (H : PL co) {p q : R} {a b i : Nat} {z : Int32} {post : SX → Prop} {J : Int32 → (Nat → Int32) → (Nat → Int32) → (Nat → Int32) → (Nat → Int32) → (Nat → Int32) → (Nat → Int32) → (Nat → Int32) → (Nat → Int32) → (Nat → Int32) → (Nat → Int32) → Prop} (ha : a < 76) (hb : b < 76) (hi : i < 24) (q1 : dl co q ≤ 24) (hp : ∀ k, k < 24 → a_c (24 * a + k) = cI (co p k)) (hq : ∀ k, k < 24 → a_c (24 * b + k) = cI (co q k)) (ht : a_top b = tI (dl co q))
    (K : ∀ pr, PI (co p) (co q) (dl co q) pr (i + 1) 0 → J (nI (i + 1)) a_kind a_with a_c a_top pr a_there a_waiting a_powers a_matrix a_basis) : ∀ d k, k + d = dl co q → ∀ pr, PI (co p) (co q) (dl co q) pr i k → ∀ n, d < n → wX_multiply_41 post J (nI a) (nI b) z (nI i) f_count f_place f_operators f_values f_fault f_found f_factored f_pieces f_kernel n (nI k) a_kind a_with a_c a_top pr a_there a_waiting a_powers a_matrix a_basis := by
  intro d
  induction d with
  | zero =>
    intro k hk pr hI n hn
    obtain ⟨n, rfl⟩ : ∃ m, n = m + 1 := ⟨n - 1, by omega⟩
    refine ⟨vp_in_nI hb (by omega), ?_⟩
    rw [nI_clamp (by omega), ht]
    refine br_t ((ti_lt (by omega) (by omega)).mpr (by omega)) (nm_r (nI_1 i) (K pr (PI_row ?_)))
    rw [show k = dl co q by omega] at hI
    exact hI
  | succ d ih =>
    intro k hk pr hI n hn
    obtain ⟨n, rfl⟩ : ∃ m, n = m + 1 := ⟨n - 1, by omega⟩
    obtain ⟨y, y1, y2⟩ := PI_s hI (by omega)
    refine ⟨vp_in_nI hb (by omega), ?_⟩
    rw [nI_clamp (by omega), ht]
    refine br_f (by rw [ti_lt (by omega) (by omega)]; omega) ?_
    rw [nI_add, nI_clamp (by omega)]
    refine ⟨vp_in_nI (by omega) (by omega), in24 ha hi, in24 hb (by omega), vp_in_nI (by omega) (by omega), nm_r (e' := upd pr (i + k) (nI (y + (co p i).val * (co q k).val))) ?_ (nm_r (nI_1 k) (ih (k + 1) (by omega) _ y2 n (by omega)))⟩
    rw [cl24 ha hi, cl24 hb (by omega), hp i hi, hq k (by omega), y1]
    unfold cI
    rw [pk_mul, nI_add]
theorem x_mul_27 {R : Type} [Lean.Grind.CommRing R] {co : R → Nat → Fin 5} (H : PL co) {M : Nat → Option R} {p q : R} {a b z : Nat} {post : SX → Prop} (h : RX co a_c a_top M) (ha : a < 76) (hb : b < 76) (hz : z < 76) (hp : M a = some p) (hq : M b = some q) (hd : dl co p + dl co q ≤ 25)
    (K : ∀ c t pr, RX co c t (uo M z (p * q)) → post (f_count, f_place, f_operators, f_values, f_fault, f_found, f_factored, f_pieces, f_kernel, a_kind, a_with, c, t, pr, a_there, a_waiting, a_powers, a_matrix, a_basis)) : ∀ d i, i + d = dl co p → ∀ pr, PI (co p) (co q) (dl co q) pr i 0 → ∀ n, d < n → wX_multiply_27 post (nI a) (nI b) (nI z) f_count f_place f_operators f_values f_fault f_found f_factored f_pieces f_kernel n (nI i) a_kind a_with a_c a_top pr a_there a_waiting a_powers a_matrix a_basis := by
  obtain ⟨p1, p2, p3⟩ := h a ha p hp
  obtain ⟨q1, q2, q3⟩ := h b hb q hq
  intro d
  induction d with
  | zero =>
    intro i hi pr hI n hn
    obtain ⟨n, rfl⟩ : ∃ m, n = m + 1 := ⟨n - 1, by omega⟩
    refine ⟨vp_in_nI ha (by omega), ?_⟩
    rw [nI_clamp (by omega), p3]
    refine br_t ((ti_lt (by omega) (by omega)).mpr (by omega)) ?_
    rw [show i = dl co p by omega] at hI
    exact x_mul_105 H (a_product := pr) h hz p1 hd hI (fun c t ht => K c t pr ht)
  | succ d ih =>
    intro i hi pr hI n hn
    obtain ⟨n, rfl⟩ : ∃ m, n = m + 1 := ⟨n - 1, by omega⟩
    refine ⟨vp_in_nI ha (by omega), ?_⟩
    rw [nI_clamp (by omega), p3]
    refine br_f (by rw [ti_lt (by omega) (by omega)]; omega) ⟨25, ?_⟩
    exact x_mul_41 H ha hb (by omega) q1 p2 q2 q3 (fun pr' hI' => ih (i + 1) (by omega) pr' hI' n (by omega)) (dl co q) 0 (by omega) pr hI 25 (by omega)
theorem x_multiply {R : Type} [Lean.Grind.CommRing R] {co : R → Nat → Fin 5} (H : PL co) {M : Nat → Option R} {p q : R} {a b z : Nat} {post : SX → Prop} (h : RX co a_c a_top M) (ha : a < 76) (hb : b < 76) (hz : z < 76) (hp : M a = some p) (hq : M b = some q) (hd : dl co p + dl co q ≤ 25)
    (K : ∀ c t pr, RX co c t (uo M z (p * q)) → post (f_count, f_place, f_operators, f_values, f_fault, f_found, f_factored, f_pieces, f_kernel, a_kind, a_with, c, t, pr, a_there, a_waiting, a_powers, a_matrix, a_basis)) : wpX_multiply post (f_count, f_place, f_operators, f_values, f_fault, f_found, f_factored, f_pieces, f_kernel, a_kind, a_with, a_c, a_top, a_product, a_there, a_waiting, a_powers, a_matrix, a_basis) (nI a) (nI b) (nI z) := by
  unfold wpX_multiply
  have p1 := (h a ha p hp).1
  refine ⟨49, st_loop (fun n i pr => wX_multiply_3 post (nI a) (nI b) (nI z) f_count f_place f_operators f_values f_fault f_found f_factored f_pieces f_kernel n (nI i) a_kind a_with a_c a_top pr a_there a_waiting a_powers a_matrix a_basis) a_product 0 48 (fun _ => 0) ?_ ?_ 49 (by omega)⟩
  · intro n
    refine br_t (nI_le (a := 48) (b := 48) (by decide) (by decide)) ⟨25, ?_⟩
    refine x_mul_27 H h ha hb hz hp hq hd K (dl co p) 0 (by omega) _ (PI_0 _ _ _ (fun n hn => ?_)) 25 (by omega)
    have := stR_in (c := a_product) (b := 0) (f := fun _ => (0 : Int32)) hn
    rwa [Nat.zero_add] at this
  · intro n i hi hn
    refine br_f (nI_ge (b := 48) hi (by decide)) ⟨vp_in_nI hi (by omega), nm_r (e' := upd (stR a_product 0 i (fun _ => 0)) (0 + i) 0) (by rw [nI_clamp (by omega), Nat.zero_add]) (nm_r (nI_1 i) hn)⟩
end
end
section
/-! division, common divisors, the derivative, values -/
def ev (f : Nat → Fin 5) (x : Fin 5) : Nat → Fin 5
  | 0 => 0
  | n + 1 => f 0 + x * ev (fun i => f (i + 1)) x n
theorem ev_congr (x : Fin 5) : ∀ (n : Nat) (f g : Nat → Fin 5), (∀ i, i < n → f i = g i) → ev f x n = ev g x n := by
  intro n
  induction n with
  | zero => intro f g _; rfl
  | succ n ih =>
    intro f g h
    show f 0 + x * ev (fun i => f (i + 1)) x n = g 0 + x * ev (fun i => g (i + 1)) x n
    rw [h 0 (by omega), ih (fun i => f (i + 1)) (fun i => g (i + 1)) (fun i hi => h (i + 1) (by omega))]
theorem ev_zero (x : Fin 5) : ∀ (n : Nat) (f : Nat → Fin 5), (∀ i, i < n → f i = 0) → ev f x n = 0 := by
  intro n
  induction n with
  | zero => intro f _; rfl
  | succ n ih =>
    intro f h
    show f 0 + x * ev (fun i => f (i + 1)) x n = 0
    rw [h 0 (by omega), ih (fun i => f (i + 1)) (fun i hi => h (i + 1) (by omega)), f5_m0]; rfl
theorem ev_more (x : Fin 5) : ∀ (m n : Nat) (f : Nat → Fin 5), m ≤ n → (∀ i, m ≤ i → i < n → f i = 0) → ev f x n = ev f x m := by
  intro m
  induction m with
  | zero => intro n f _ h; exact ev_zero x n f (fun i hi => h i (by omega) hi)
  | succ m ih =>
    intro n f hmn h
    obtain ⟨n, rfl⟩ : ∃ k, n = k + 1 := ⟨n - 1, by omega⟩
    show f 0 + x * ev (fun i => f (i + 1)) x n = f 0 + x * ev (fun i => f (i + 1)) x m
    rw [ih n (fun i => f (i + 1)) (by omega) (fun i h1 h2 => h (i + 1) (by omega) (by omega))]
theorem ev_step (f : Nat → Fin 5) (x : Fin 5) {n k : Nat} (h : k < n) : ev (fun i => f (k + i)) x (n - k) = ev (fun i => f (k + 1 + i)) x (n - (k + 1)) * x + f k := by
  rw [show n - k = (n - (k + 1)) + 1 by omega]
  show f (k + 0) + x * ev (fun i => f (k + (i + 1))) x (n - (k + 1)) = _
  rw [f5_cm, f5_mcm]
  congr 2
  exact ev_congr x _ _ _ (fun i _ => by rw [show k + (i + 1) = k + 1 + i by omega])
/-- the value of a polynomial -/
noncomputable def vv {R : Type} (co : R → Nat → Fin 5) (p : R) (x : Fin 5) : Fin 5 := ev (co p) x (dl co p)
noncomputable def sz {R : Type} (co : R → Nat → Fin 5) (p q : R) : Nat := max (dl co p) (dl co q) - 1
section
variable {f_count f_place f_operators f_values f_fault f_found f_factored f_pieces f_kernel : Int32} {a_kind a_with a_c a_top a_product a_there a_waiting a_powers a_matrix a_basis : Nat → Int32}
theorem x_div_l {R : Type} [Lean.Grind.CommRing R] {co : R → Nat → Fin 5} (H : PL co) {M : Nat → Option R} {p q : R} {a b z : Nat} {post : SX → Prop} (ha : a < 76) (hb : b < 76) (hz : z < 76) (hab : a ≠ b) (haz : a ≠ z) (hbz : b ≠ z) (nq : q ≠ 0)
    (K : ∀ c t, RX co c t (uo (uo M a (rm co p q)) z (qo co p q)) → post (f_count, f_place, f_operators, f_values, f_fault, f_found, f_factored, f_pieces, f_kernel, a_kind, a_with, c, t, a_product, a_there, a_waiting, a_powers, a_matrix, a_basis)) : ∀ d (p' u : R) (c t : Nat → Int32), dl co p' ≤ d → dl co p' ≤ 24 → RX co c t (un (uo M a p') z) → M b = some q → p = u * q + p' → dl co u ≤ 24 → (∀ k, k + dl co q ≤ dl co p' → co u k = 0) → (∀ k, k < 24 → c (24 * z + k) = cI (co u k)) →
      ∀ n, d < n → wX_divide_14 post (nI a) (nI b) (nI z) (cI (ld co q * ld co q * ld co q)) n f_count f_place f_operators f_values f_fault f_found f_factored f_pieces f_kernel a_kind a_with c t a_product a_there a_waiting a_powers a_matrix a_basis := by
  intro d
  induction d with
  | zero =>
    intro p' u c t hd h24 h hM e hu hz0 hr n hn
    obtain ⟨n, rfl⟩ : ∃ m, n = m + 1 := ⟨n - 1, by omega⟩
    obtain ⟨a1, a2, a3⟩ := h a ha p' (by unfold un uo; rw [if_neg haz, if_pos rfl])
    obtain ⟨b1, b2, b3⟩ := h b hb q (by unfold un uo; rw [if_neg hbz, if_neg (Ne.symm hab)]; exact hM)
    have dq := dl_ne H nq
    refine ⟨vp_in_nI ha (by omega), vp_in_nI hb (by omega), ?_⟩
    rw [nI_clamp (by omega), nI_clamp (by omega), a3, b3]
    have s := qr_un H e (by omega)
    refine br_t ((ti_tlt (by omega) (by omega)).mpr (by omega)) ?_
    refine x_settle H (c0 := c) (p := u) h hz hu hr (fun j hj => rfl) (fun t' ht => K _ t' (rx_ex ht ?_))
    intro r p'' hp
    unfold uo un at *
    rw [s.1, s.2] at hp
    by_cases q1 : r = z
    · rw [if_pos q1] at hp ⊢; exact hp
    · rw [if_neg q1] at hp ⊢; rw [if_neg q1]; exact hp
  | succ d ih =>
    intro p' u c t hd h24 h hM e hu hz0 hr n hn
    obtain ⟨n, rfl⟩ : ∃ m, n = m + 1 := ⟨n - 1, by omega⟩
    have Ma : un (uo M a p') z a = some p' := by unfold un uo; rw [if_neg haz, if_pos rfl]
    have Mb : un (uo M a p') z b = some q := by unfold un uo; rw [if_neg hbz, if_neg (Ne.symm hab)]; exact hM
    obtain ⟨a1, a2, a3⟩ := h a ha p' Ma
    obtain ⟨b1, b2, b3⟩ := h b hb q Mb
    have dq := dl_ne H nq
    refine ⟨vp_in_nI ha (by omega), vp_in_nI hb (by omega), ?_⟩
    by_cases lt : dl co p' < dl co q
    · rw [nI_clamp (by omega), nI_clamp (by omega), a3, b3]
      have s := qr_un H e (by omega)
      refine br_t ((ti_tlt (by omega) (by omega)).mpr (by omega)) ?_
      refine x_settle H (c0 := c) (p := u) h hz hu hr (fun j hj => rfl) (fun t' ht => K _ t' (rx_ex ht ?_))
      intro r p'' hp
      unfold uo un at *
      rw [s.1, s.2] at hp
      by_cases q1 : r = z
      · rw [if_pos q1] at hp ⊢; exact hp
      · rw [if_neg q1] at hp ⊢; rw [if_neg q1]; exact hp
    · have np : p' ≠ 0 := dl_nz H (by omega)
      refine br_f (by rw [nI_clamp (by omega), nI_clamp (by omega), a3, b3, ti_tlt (by omega) (by omega)]; exact lt) ⟨vp_in_nI ha (by omega), vp_in_nI hb (by omega), nm_r (e' := nI (dl co p' - dl co q)) (by rw [nI_clamp (by omega), nI_clamp (by omega), a3, b3, ti_sub (by omega)]) ?_⟩
      refine x_lead H h ha Ma np ⟨by decide, nm_r (c_mul _ _) ⟨in24 hz (by omega), nm_r (e' := upd c (24 * z + (dl co p' - dl co q)) (cI (ld co p' * (ld co q * ld co q * ld co q)))) (by rw [cl24 hz (by omega), c_nar8]) ?_⟩⟩
      generalize ef : ld co p' * (ld co q * ld co q * ld co q) = f
      generalize ek : dl co p' - dl co q = k
      have h' : RX co (upd c (24 * z + k) (cI f)) t (un (uo M a p') z) := by
        have := rx_un (a := z) (c' := upd c (24 * z + k) (cI f)) h (fun j hj => pk_un (by omega))
        refine rx_ex this (fun r p'' hp => ?_)
        unfold un at *
        by_cases q1 : r = z
        · rw [if_pos q1] at hp; cases hp
        · rw [if_neg q1] at hp ⊢; rw [if_neg q1]; exact hp
      refine x_add H h' ha hb hab Ma Mb (f := -f) (fun x y => c_add5 x f y) (by omega) (fun c' t' hx hout => ?_)
      have cancel : ∀ n, co (p' + mo co (-f) k * q) n = co p' n + (if k ≤ n then -f * co q (n - k) else 0) := fun n => by rw [pl_add H, co_mo H]
      have dn : dl co (p' + mo co (-f) k * q) ≤ dl co p' - 1 := by
        refine dl_le H (fun j hj => ?_)
        rw [cancel]
        by_cases q1 : j = dl co p' - 1
        · rw [if_pos (by omega), show j - k = dl co q - 1 by omega, q1]
          show ld co p' + -f * ld co q = 0
          rw [← ef]
          have : ∀ x y : Fin 5, y ≠ 0 → x + -(x * (y * y * y)) * y = 0 := by decide
          exact this _ _ (ld_ne H nq)
        · rw [dl_hi H (a := p') (by omega), if_pos (by omega), dl_hi H (a := q) (by omega), f5_m0]; rfl
      refine ih (p' + mo co (-f) k * q) (u + mo co f k) c' t' (by omega) (by omega) (rx_ex hx ?_) hM ?_ ?_ ?_ ?_ n (by omega)
      · intro r p'' hp
        by_cases q1 : r = z
        · rw [q1, un_s] at hp; cases hp
        · rw [un_n q1] at hp
          by_cases q2 : r = a
          · rw [q2, uo_s] at hp ⊢; exact hp
          · rw [uo_n q2] at hp ⊢; rw [un_n q1, uo_n q2]; exact hp
      · have m0 : mo co f k + mo co (-f) k = (0 : R) := by
          rw [mo_add H, show f + -f = 0 from by rw [f5_cm]; exact f5_na f, mo_0 H]
        rw [e]
        have : mo co (-f) k = -(mo co f k : R) := by grind
        rw [this]; grind
      · exact dl_add H hu (dl_le H (fun n hn => by rw [mo_co H, if_neg (by omega)]))
      · intro j hj
        rw [pl_add H, mo_co H, if_neg (by omega), hz0 j (by omega)]; rfl
      · intro j hj
        rw [hout _ (by omega), pl_add H, mo_co H]
        by_cases q1 : j = k
        · rw [if_pos q1, q1, pk_us, hz0 k (by omega), f5_0a]
        · rw [if_neg q1, pk_un (by omega), f5_a0]; exact hr j hj
theorem x_divide {R : Type} [Lean.Grind.CommRing R] {co : R → Nat → Fin 5} (H : PL co) {M : Nat → Option R} {p q : R} {a b z : Nat} {post : SX → Prop} (h : RX co a_c a_top M) (ha : a < 76) (hb : b < 76) (hz : z < 76) (hab : a ≠ b) (haz : a ≠ z) (hbz : b ≠ z) (hp : M a = some p) (hq : M b = some q) (nq : q ≠ 0)
    (K : ∀ c t, RX co c t (uo (uo M a (rm co p q)) z (qo co p q)) → post (f_count, f_place, f_operators, f_values, f_fault, f_found, f_factored, f_pieces, f_kernel, a_kind, a_with, c, t, a_product, a_there, a_waiting, a_powers, a_matrix, a_basis)) : wpX_divide post (f_count, f_place, f_operators, f_values, f_fault, f_found, f_factored, f_pieces, f_kernel, a_kind, a_with, a_c, a_top, a_product, a_there, a_waiting, a_powers, a_matrix, a_basis) (nI a) (nI b) (nI z) := by
  unfold wpX_divide
  have p1 := (h a ha p hp).1
  refine x_only H h hz (k := 0) (x := 0) (by omega) (by decide) (fun c t hx => ?_)
  refine x_inverse H (a_c := c) (a_top := t) hx hb (p := q) (by rw [uo_n hbz]; exact hq) nq ?_
  refine ⟨25, ?_⟩
  have hz' := hx z hz _ uo_s
  rw [mo_0 H] at hz'
  refine x_div_l H ha hb hz hab haz hbz nq K 24 p 0 c t p1 p1 (rx_ex hx ?_) hq (by grind) (by rw [dl_0 H]; omega) (fun k _ => pl_0 H k) hz'.2.1 25 (by omega)
  intro r p'' hr
  by_cases q1 : r = z
  · rw [q1, un_s] at hr; cases hr
  · rw [un_n q1] at hr
    rw [uo_n q1]
    by_cases q2 : r = a
    · rw [q2, uo_s] at hr; rw [q2, hp]; exact hr
    · rw [uo_n q2] at hr; exact hr
theorem x_rest {R : Type} [Lean.Grind.CommRing R] {co : R → Nat → Fin 5} (H : PL co) {M : Nat → Option R} {p q : R} {a b : Nat} {post : SX → Prop} (h : RX co a_c a_top M) (ha : a < 76) (hb : b < 76) (hab : a ≠ b) (haz : a ≠ 51) (hbz : b ≠ 51) (hp : M a = some p) (hq : M b = some q) (nq : q ≠ 0)
    (K : ∀ c t, RX co c t (uo (uo M a (rm co p q)) 51 (qo co p q)) → post (f_count, f_place, f_operators, f_values, f_fault, f_found, f_factored, f_pieces, f_kernel, a_kind, a_with, c, t, a_product, a_there, a_waiting, a_powers, a_matrix, a_basis)) : wpX_rest post (f_count, f_place, f_operators, f_values, f_fault, f_found, f_factored, f_pieces, f_kernel, a_kind, a_with, a_c, a_top, a_product, a_there, a_waiting, a_powers, a_matrix, a_basis) (nI a) (nI b) := by
  unfold wpX_rest
  exact x_divide H (z := 51) h ha hb (by omega) hab haz hbz hp hq nq K
theorem x_exact {R : Type} [Lean.Grind.CommRing R] {co : R → Nat → Fin 5} (H : PL co) {M : Nat → Option R} {p q : R} {a b : Nat} {post : SX → Prop} (h : RX co a_c a_top M) (ha : a < 76) (hb : b < 76) (hab : a ≠ b) (haz : a ≠ 51) (hbz : b ≠ 51) (hp : M a = some p) (hq : M b = some q) (nq : q ≠ 0)
    (K : ∀ c t, RX co c t (uo (uo M 51 (qo co p q)) a (qo co p q)) → post (f_count, f_place, f_operators, f_values, f_fault, f_found, f_factored, f_pieces, f_kernel, a_kind, a_with, c, t, a_product, a_there, a_waiting, a_powers, a_matrix, a_basis)) : wpX_exact post (f_count, f_place, f_operators, f_values, f_fault, f_found, f_factored, f_pieces, f_kernel, a_kind, a_with, a_c, a_top, a_product, a_there, a_waiting, a_powers, a_matrix, a_basis) (nI a) (nI b) := by
  unfold wpX_exact
  refine x_divide H (z := 51) h ha hb (by omega) hab haz hbz hp hq nq (fun c t hx => ?_)
  refine x_copy H (a := 51) (a_c := c) (a_top := t) hx (by omega) ha uo_s (fun c t hx => K c t ?_)
  rw [uo_2] at hx
  exact hx
/-- the pair h, i has the same combinations as p, q -/
def Co {R : Type} [Lean.Grind.CommRing R] (p q h i : R) : Prop := (∃ s t, h = s * p + t * q) ∧ (∃ s t, i = s * p + t * q) ∧ (∃ s t, p = s * h + t * i) ∧ (∃ s t, q = s * h + t * i)
theorem co_s {R : Type} [Lean.Grind.CommRing R] {co : R → Nat → Fin 5} (H : PL co) {p q h i : R} (ni : i ≠ 0) (k : Co p q h i) : Co p q i (rm co h i) := by
  obtain ⟨⟨s1, t1, e1⟩, ⟨s2, t2, e2⟩, ⟨s3, t3, e3⟩, ⟨s4, t4, e4⟩⟩ := k
  have e := (qr_spec H h ni).1
  generalize rm co h i = r at e
  generalize qo co h i = w at e
  exact ⟨⟨s2, t2, e2⟩, ⟨s1 - w * s2, t1 - w * t2, by grind⟩, ⟨s3 * w + t3, s3, by grind⟩, ⟨s4 * w + t4, s4, by grind⟩⟩
theorem co_end {R : Type} [Lean.Grind.CommRing R] {co : R → Nat → Fin 5} (H : PL co) {p q h : R} (nz : p ≠ 0 ∨ q ≠ 0) (k : Co p q h 0) : h ≠ 0 ∧ Gc co p q (mo co (ld co h * ld co h * ld co h) 0 * h) := by
  obtain ⟨⟨s1, t1, e1⟩, _, ⟨s3, t3, e3⟩, ⟨s4, t4, e4⟩⟩ := k
  have nh : h ≠ 0 := by
    intro z
    rcases nz with x | x
    · exact x (by rw [e3, z]; grind)
    · exact x (by rw [e4, z]; grind)
  have nx := f5_inv0 _ (ld_ne H nh)
  refine ⟨nh, mo_mak H nh, dv_c2 H nx ⟨s3, by rw [e3]; grind⟩, dv_c2 H nx ⟨s4, by rw [e4]; grind⟩, mo co (ld co h * ld co h * ld co h) 0 * s1, mo co (ld co h * ld co h * ld co h) 0 * t1, ?_⟩
  generalize mo co (ld co h * ld co h * ld co h) 0 = w
  rw [e1]; grind
theorem x_com_l {R : Type} [Lean.Grind.CommRing R] {co : R → Nat → Fin 5} (H : PL co) {M0 : Nat → Option R} {p q : R} {post : SX → Prop} (nz : p ≠ 0 ∨ q ≠ 0)
    (K : ∀ g M c t, Gc co p q g → RX co c t M → M 47 = some g → (∀ r, r ≠ 47 → r ≠ 48 → r ≠ 50 → r ≠ 51 → M r = M0 r) → post (f_count, f_place, f_operators, f_values, f_fault, f_found, f_factored, f_pieces, f_kernel, a_kind, a_with, c, t, a_product, a_there, a_waiting, a_powers, a_matrix, a_basis)) : ∀ d (h i : R) M c t, dl co i ≤ d → RX co c t M → M 47 = some h → M 48 = some i → Co p q h i → (∀ r, r ≠ 47 → r ≠ 48 → r ≠ 50 → r ≠ 51 → M r = M0 r) →
      ∀ n, d < n → wX_common_14 post n f_count f_place f_operators f_values f_fault f_found f_factored f_pieces f_kernel a_kind a_with c t a_product a_there a_waiting a_powers a_matrix a_basis := by
  intro d
  induction d with
  | zero =>
    intro h i M c t hd hx hM1 hM2 hco hfr n hn
    obtain ⟨n, rfl⟩ : ∃ m, n = m + 1 := ⟨n - 1, by omega⟩
    obtain ⟨i1, i2, i3⟩ := hx 48 (by omega) i hM2
    have i0 := dl_eq0 H (a := i) (by omega)
    rw [i0] at hco
    obtain ⟨nh, g⟩ := co_end H nz hco
    refine br_t (by rw [i3, ti_neg (by omega)]; omega) ?_
    refine x_inverse H (a := 47) hx (by omega) hM1 nh ?_
    refine x_scale H (a := 47) hx (by omega) hM1 (f5_inv0 _ (ld_ne H nh)) (fun c' hx' => K _ _ c' t g hx' uo_s (fun r q1 q2 q3 q4 => by rw [uo_n q1]; exact hfr r q1 q2 q3 q4))
  | succ d ih =>
    intro h i M c t hd hx hM1 hM2 hco hfr n hn
    obtain ⟨n, rfl⟩ : ∃ m, n = m + 1 := ⟨n - 1, by omega⟩
    obtain ⟨i1, i2, i3⟩ := hx 48 (by omega) i hM2
    by_cases z : dl co i = 0
    · have i0 := dl_eq0 H z
      rw [i0] at hco
      obtain ⟨nh, g⟩ := co_end H nz hco
      refine br_t (by rw [i3, ti_neg (by omega)]; omega) ?_
      refine x_inverse H (a := 47) hx (by omega) hM1 nh ?_
      refine x_scale H (a := 47) hx (by omega) hM1 (f5_inv0 _ (ld_ne H nh)) (fun c' hx' => K _ _ c' t g hx' uo_s (fun r q1 q2 q3 q4 => by rw [uo_n q1]; exact hfr r q1 q2 q3 q4))
    · have ni : i ≠ 0 := dl_nz H (by omega)
      refine br_f (by rw [i3, ti_neg (by omega)]; omega) ?_
      refine x_rest H (a := 47) (b := 48) hx (by omega) (by omega) (by omega) (by omega) (by omega) hM1 hM2 ni (fun c1 t1 hx1 => ?_)
      refine x_copy H (a := 47) (b := 50) hx1 (by omega) (by omega) (by rw [uo_n (by omega)]; exact uo_s) (fun c2 t2 hx2 => ?_)
      refine x_copy H (a := 48) (b := 47) hx2 (by omega) (by omega) (by rw [uo_n (by omega), uo_n (by omega), uo_n (by omega)]; exact hM2) (fun c3 t3 hx3 => ?_)
      refine x_copy H (a := 50) (b := 48) hx3 (by omega) (by omega) (by rw [uo_n (by omega)]; exact uo_s) (fun c4 t4 hx4 => ?_)
      refine ih i (rm co h i) _ c4 t4 (by have := (qr_spec H h ni).2; omega) hx4 (by rw [uo_n (by omega)]; exact uo_s) uo_s (co_s H ni hco) (fun r q1 q2 q3 q4 => ?_) n (by omega)
      rw [uo_n q2, uo_n q1, uo_n q3, uo_n q4, uo_n q1]
      exact hfr r q1 q2 q3 q4
theorem x_common {R : Type} [Lean.Grind.CommRing R] {co : R → Nat → Fin 5} (H : PL co) {M : Nat → Option R} {p q : R} {a b : Nat} {post : SX → Prop} (h : RX co a_c a_top M) (ha : a < 76) (hb : b < 76) (hb47 : b ≠ 47) (hp : M a = some p) (hq : M b = some q) (nz : p ≠ 0 ∨ q ≠ 0)
    (K : ∀ g M' c t, Gc co p q g → RX co c t M' → M' 47 = some g → (∀ r, r ≠ 47 → r ≠ 48 → r ≠ 50 → r ≠ 51 → M' r = M r) → post (f_count, f_place, f_operators, f_values, f_fault, f_found, f_factored, f_pieces, f_kernel, a_kind, a_with, c, t, a_product, a_there, a_waiting, a_powers, a_matrix, a_basis)) : wpX_common post (f_count, f_place, f_operators, f_values, f_fault, f_found, f_factored, f_pieces, f_kernel, a_kind, a_with, a_c, a_top, a_product, a_there, a_waiting, a_powers, a_matrix, a_basis) (nI a) (nI b) := by
  unfold wpX_common
  refine x_copy H (b := 47) h ha (by omega) hp (fun c1 t1 hx1 => ?_)
  refine x_copy H (a := b) (b := 48) hx1 hb (by omega) (by rw [uo_n hb47]; exact hq) (fun c2 t2 hx2 => ?_)
  refine ⟨25, ?_⟩
  have q24 := (h b hb q hq).1
  refine x_com_l H nz K 24 p q _ c2 t2 q24 hx2 (by rw [uo_n (by omega)]; exact uo_s) uo_s ⟨⟨1, 0, by grind⟩, ⟨0, 1, by grind⟩, ⟨1, 0, by grind⟩, ⟨0, 1, by grind⟩⟩ (fun r q1 q2 _ _ => by rw [uo_n q2, uo_n q1]) 25 (by omega)
theorem x_derive {R : Type} [Lean.Grind.CommRing R] {co : R → Nat → Fin 5} (H : PL co) {M : Nat → Option R} {p : R} {a b : Nat} {post : SX → Prop} (h : RX co a_c a_top M) (ha : a < 76) (hb : b < 76) (hab : a ≠ b) (hp : M a = some p)
    (K : ∀ c t, RX co c t (uo M b (de co p)) → post (f_count, f_place, f_operators, f_values, f_fault, f_found, f_factored, f_pieces, f_kernel, a_kind, a_with, c, t, a_product, a_there, a_waiting, a_powers, a_matrix, a_basis)) : wpX_derive post (f_count, f_place, f_operators, f_values, f_fault, f_found, f_factored, f_pieces, f_kernel, a_kind, a_with, a_c, a_top, a_product, a_there, a_waiting, a_powers, a_matrix, a_basis) (nI a) (nI b) := by
  unfold wpX_derive
  refine x_only H h hb (k := 0) (x := 0) (by omega) (by decide) (fun c t hx => ?_)
  obtain ⟨p1, p2, p3⟩ := hx a ha p (by rw [uo_n hab]; exact hp)
  obtain ⟨z1, z2, z3⟩ := hx b hb _ uo_s
  refine ⟨25, st_loop (fun n i c => wX_derive_9 post (nI a) (nI b) f_count f_place f_operators f_values f_fault f_found f_factored f_pieces f_kernel n (nI (i + 1)) a_kind a_with c t a_product a_there a_waiting a_powers a_matrix a_basis) c (24 * b) (dl co p - 1) (fun i => cI (Fin.ofNat 5 (i + 1) * co p (i + 1))) ?_ ?_ 25 (by omega)⟩
  · intro n
    refine ⟨vp_in_nI ha (by omega), ?_⟩
    rw [nI_clamp (by omega), p3]
    refine br_t ((ti_lt (by omega) (by omega)).mpr (by omega)) ?_
    refine x_settle H (c0 := c) (p := de co p) hx hb ?_ (fun k hk => ?_) (fun j hj => stR_out (by omega)) (fun t' ht => K _ t' (rx_ex ht ?_))
    · exact Nat.le_trans (de_dl H p (dl co p) (by omega)) p1
    · rw [de_co H]
      by_cases e : k < dl co p - 1
      · rw [stR_in e]
      · rw [stR_out (by omega), z2 k hk, dl_hi H (a := p) (by omega), f5_m0, mo_0 H, pl_0 H]
    · intro r p' hr
      unfold uo at *
      by_cases q : r = b
      · rw [if_pos q] at hr ⊢; exact hr
      · rw [if_neg q] at hr ⊢; rw [if_neg q]; exact hr
  · intro n i hi hn
    refine ⟨vp_in_nI ha (by omega), ?_⟩
    rw [nI_clamp (by omega), p3]
    refine br_f (by rw [ti_lt (by omega) (by omega)]; omega) ⟨in24 ha (by omega), by decide, ?_⟩
    rw [ix24 b (i + 1), ← Nat.add_assoc, nI_pred, nI_clamp (by omega), cl24 ha (by omega)]
    refine ⟨vp_in_nI (by omega) (by omega), nm_r (e' := upd (stR c (24 * b) i (fun i => cI (Fin.ofNat 5 (i + 1) * co p (i + 1)))) (24 * b + i) (cI (Fin.ofNat 5 (i + 1) * co p (i + 1)))) ?_ (nm_r (nI_1 _) hn)⟩
    rw [stR_out (by omega), p2 (i + 1) (by omega), c_der ⟨i + 1, by omega⟩, c_nar8]
theorem x_val_l {R : Type} [Lean.Grind.CommRing R] {co : R → Nat → Fin 5} (H : PL co) {p : R} {a : Nat} {x : Fin 5} {post : Int32 → Prop} (ha : a < 76) (hd : dl co p ≤ 24) (hc : ∀ k, k < 24 → a_c (24 * a + k) = cI (co p k)) (K : post (cI (vv co p x))) :
    ∀ j, j ≤ dl co p → ∀ n, j < n → wX_valueOf_10 post (nI a) (cI x) f_count f_place f_operators f_values f_fault f_found f_factored f_pieces f_kernel a_kind a_with a_c a_top a_product a_there a_waiting a_powers a_matrix a_basis n (cI (ev (fun i => co p (j + i)) x (dl co p - j))) (tI j) := by
  intro j
  induction j with
  | zero =>
    intro _ n hn
    obtain ⟨n, rfl⟩ : ∃ m, n = m + 1 := ⟨n - 1, by omega⟩
    refine br_t (by decide) ?_
    rw [Nat.sub_zero, ev_congr x _ (fun i => co p (0 + i)) (co p) (fun i _ => by rw [Nat.zero_add])]
    exact K
  | succ j ih =>
    intro hj n hn
    obtain ⟨n, rfl⟩ : ∃ m, n = m + 1 := ⟨n - 1, by omega⟩
    have ei : 24 * nI a + tI (j + 1) = nI (24 * a + j) := by rw [ti_succ, ix24]
    refine br_f (by rw [ti_neg (by omega)]; omega) ⟨by rw [ei]; exact vp_in_nI (by omega) (by omega), by decide, ?_⟩
    rw [ei, nI_clamp (by omega), hc j (by omega), c_hor, ← ev_step (co p) x (by omega)]
    exact nm_e (nm_r (e' := tI j) (by rw [ti_succ]; rfl) (ih (by omega) n (by omega)))
theorem x_valueOf {R : Type} [Lean.Grind.CommRing R] {co : R → Nat → Fin 5} (H : PL co) {M : Nat → Option R} {p : R} {a : Nat} {x : Fin 5} {post : Int32 → Prop} (h : RX co a_c a_top M) (ha : a < 76) (hp : M a = some p) (K : post (cI (vv co p x))) : wpX_valueOf post (f_count, f_place, f_operators, f_values, f_fault, f_found, f_factored, f_pieces, f_kernel, a_kind, a_with, a_c, a_top, a_product, a_there, a_waiting, a_powers, a_matrix, a_basis) (nI a) (cI x) := by
  unfold wpX_valueOf
  obtain ⟨p1, p2, p3⟩ := h a ha p hp
  refine ⟨vp_in_nI ha (by omega), nm_r (e' := tI (dl co p)) (by rw [nI_clamp (by omega), p3]) ⟨25, ?_⟩⟩
  have e : (0 : Int32) = cI (ev (fun i => co p (dl co p + i)) x (dl co p - dl co p)) := by rw [Nat.sub_self]; rfl
  rw [e]
  exact x_val_l H ha p1 p2 K (dl co p) (Nat.le_refl _) 25 (by omega)
theorem x_size34 {post : Int32 → Prop} {d : Nat} (hd : d < 2 ^ 30) (K : post (nI (d - 1))) : wX_size_34 post (tI d) f_count f_place f_operators f_values f_fault f_found f_factored f_pieces f_kernel a_kind a_with a_c a_top a_product a_there a_waiting a_powers a_matrix a_basis := by
  unfold wX_size_34
  by_cases z : d = 0
  · rw [z] at K ⊢
    exact br_f (by decide) K
  · obtain ⟨j, rfl⟩ : ∃ j, d = j + 1 := ⟨d - 1, by omega⟩
    rw [ti_succ]
    exact br_t (nI_pos' (by omega)) K
theorem x_size {R : Type} [Lean.Grind.CommRing R] {co : R → Nat → Fin 5} (H : PL co) {M : Nat → Option R} {p q : R} {a : Nat} {post : Int32 → Prop} (h : RX co a_c a_top M) (ha : a + 1 < 76) (hp : M a = some p) (hq : M (a + 1) = some q) (K : post (nI (sz co p q))) : wpX_size post (f_count, f_place, f_operators, f_values, f_fault, f_found, f_factored, f_pieces, f_kernel, a_kind, a_with, a_c, a_top, a_product, a_there, a_waiting, a_powers, a_matrix, a_basis) (nI a) := by
  unfold wpX_size
  obtain ⟨p1, p2, p3⟩ := h a (by omega) p hp
  obtain ⟨q1, q2, q3⟩ := h (a + 1) ha q hq
  rw [nI_1]
  refine ⟨vp_in_nI (by omega) (by omega), vp_in_nI ha (by omega), ?_⟩
  rw [nI_clamp (by omega), nI_clamp (by omega), p3, q3]
  unfold sz at K
  by_cases c : dl co p ≤ dl co q
  · rw [Nat.max_eq_right c] at K
    exact br_t ((ti_tle (by omega) (by omega)).mpr c) ⟨vp_in_nI (by omega) (by omega), x_size34 (by omega) K⟩
  · rw [Nat.max_eq_left (by omega)] at K
    exact br_f (by rw [ti_tle (by omega) (by omega)]; exact c) ⟨vp_in_nI (by omega) (by omega), x_size34 (by omega) K⟩
/-- lowest terms -/
theorem x_reduce {R : Type} [Lean.Grind.CommRing R] {co : R → Nat → Fin 5} (H : PL co) {M : Nat → Option R} {p q : R} {a : Nat} {post : SX → Prop} (h : RX co a_c a_top M) (ha : a + 1 < 47) (hp : M a = some p) (hq : M (a + 1) = some q) (nq : q ≠ 0)
    (K : ∀ P Q M' c t, Lt co p q P Q → RX co c t M' → M' a = some P → M' (a + 1) = some Q → (∀ r, r ≠ a → r ≠ a + 1 → (r < 47 ∨ 52 ≤ r) → M' r = M r) → post (f_count, f_place, f_operators, f_values, f_fault, f_found, f_factored, f_pieces, f_kernel, a_kind, a_with, c, t, a_product, a_there, a_waiting, a_powers, a_matrix, a_basis)) : wpX_reduce post (f_count, f_place, f_operators, f_values, f_fault, f_found, f_factored, f_pieces, f_kernel, a_kind, a_with, a_c, a_top, a_product, a_there, a_waiting, a_powers, a_matrix, a_basis) (nI a) := by
  unfold wpX_reduce
  rw [nI_1]
  refine x_common H h (by omega) (by omega) (by omega) hp hq (Or.inr nq) (fun g M1 c1 t1 hg hx1 hM1 fr1 => ?_)
  have ng := mo_ne H hg.1
  have a1 : M1 a = some p := by rw [fr1 a (by omega) (by omega) (by omega) (by omega)]; exact hp
  have b1 : M1 (a + 1) = some q := by rw [fr1 (a + 1) (by omega) (by omega) (by omega) (by omega)]; exact hq
  refine x_copy H (a := 47) (b := 49) hx1 (by omega) (by omega) hM1 (fun c2 t2 hx2 => ?_)
  refine x_exact H (a := a) (b := 49) hx2 (by omega) (by omega) (by omega) (by omega) (by omega) (by rw [uo_n (by omega)]; exact a1) uo_s ng (fun c3 t3 hx3 => ?_)
  refine x_exact H (a := a + 1) (b := 49) hx3 (by omega) (by omega) (by omega) (by omega) (by omega) (by rw [uo_n (by omega), uo_n (by omega), uo_n (by omega)]; exact b1) (by rw [uo_n (by omega), uo_n (by omega)]; exact uo_s) ng (fun c4 t4 hx4 => ?_)
  obtain ⟨mg, ⟨u, eu⟩, ⟨v, ev⟩, s, t, est⟩ := hg
  have qu : qo co p g = u := by rw [eu]; exact qo_mul H ng
  have qv : qo co q g = v := by rw [ev]; exact qo_mul H ng
  have nv : v ≠ 0 := mul_l H (b := g) (by rw [← ev]; exact nq)
  have n1 := f5_inv0 _ (ld_ne H nv)
  rw [qu, qv] at hx4
  refine x_inverse H (a := a + 1) hx4 (by omega) uo_s nv ?_
  refine x_scale H (a := a) hx4 (by omega) (p := u) (by rw [uo_n (by omega), uo_n (by omega)]; exact uo_s) n1 (fun c5 hx5 => ?_)
  refine x_scale H (a := a + 1) hx5 (by omega) (p := v) (by rw [uo_n (by omega)]; exact uo_s) n1 (fun c6 hx6 => ?_)
  refine K _ _ _ c6 t4 ?_ hx6 (by rw [uo_n (by omega)]; exact uo_s) uo_s (fun r q1 q2 q3 => ?_)
  · have c : s * u + t * v = 1 := mul_can H ng (by grind)
    have x : mo co (ld co v) 0 * mo co (ld co v * ld co v * ld co v) 0 = (1 : R) := by
      rw [mo_mul H, f5_inv _ (ld_ne H nv), mo_1 H]
    exact ⟨⟨s * mo co (ld co v) 0, t * mo co (ld co v) 0, by grind⟩, mo_mak H nv, by grind⟩
  · rw [uo_n q2, uo_n q1, uo_n q2, uo_n (by omega), uo_n q1, uo_n (by omega), uo_n (by omega)]
    exact fr1 r (by omega) (by omega) (by omega) (by omega)
end
end
section
/-! values: lowest terms as functions -/
noncomputable def rdP {R : Type} [Lean.Grind.CommRing R] (co : R → Nat → Fin 5) (p q : R) : R := @Classical.epsilon R ⟨0⟩ (fun P => ∃ Q, Lt co p q P Q)
noncomputable def rdQ {R : Type} [Lean.Grind.CommRing R] (co : R → Nat → Fin 5) (p q : R) : R := @Classical.epsilon R ⟨0⟩ (fun Q => ∃ P, Lt co p q P Q)
theorem rd_lt {R : Type} [Lean.Grind.CommRing R] {co : R → Nat → Fin 5} (H : PL co) (p : R) {q : R} (hq : q ≠ 0) : Lt co p q (rdP co p q) (rdQ co p q) := by
  obtain ⟨P, Q, h⟩ := lt_ex H p hq
  obtain ⟨Q', h1⟩ := @Classical.epsilon_spec_aux R ⟨0⟩ (fun P => ∃ Q, Lt co p q P Q) ⟨P, Q, h⟩
  obtain ⟨P', h2⟩ := @Classical.epsilon_spec_aux R ⟨0⟩ (fun Q => ∃ P, Lt co p q P Q) ⟨Q, P, h⟩
  have h1' : Lt co p q (rdP co p q) Q' := h1
  have h2' : Lt co p q P' (rdQ co p q) := h2
  have e := lt_un H hq h1' h2'
  rw [e.2] at h1'
  exact h1'
theorem rd_un {R : Type} [Lean.Grind.CommRing R] {co : R → Nat → Fin 5} (H : PL co) {p q P Q : R} (hq : q ≠ 0) (h : Lt co p q P Q) : P = rdP co p q ∧ Q = rdQ co p q := lt_un H hq h (rd_lt H p hq)
/-- a value: lowest terms, of degree 8 at most -/
def Va {R : Type} [Lean.Grind.CommRing R] (co : R → Nat → Fin 5) (p q : R) : Prop := Cp p q ∧ Mo co q ∧ dl co p ≤ 9 ∧ dl co q ≤ 9
theorem va_sz {R : Type} [Lean.Grind.CommRing R] {co : R → Nat → Fin 5} (H : PL co) {p q : R} (hq : Mo co q) : sz co p q ≤ 8 ↔ dl co p ≤ 9 ∧ dl co q ≤ 9 := by
  unfold sz
  have := dl_ne H (mo_ne H hq)
  omega
theorem rd_va {R : Type} [Lean.Grind.CommRing R] {co : R → Nat → Fin 5} (H : PL co) {p q : R} (hq : q ≠ 0) (h : sz co (rdP co p q) (rdQ co p q) ≤ 8) : Va co (rdP co p q) (rdQ co p q) := by
  have l := rd_lt H p hq
  have := (va_sz H l.2.1).mp h
  exact ⟨l.1, l.2.1, this.1, this.2⟩
theorem dl_pow_le {R : Type} [Lean.Grind.CommRing R] {co : R → Nat → Fin 5} (H : PL co) {v : R} {s : Nat} (h : dl co v ≤ s + 1) (k : Nat) : dl co (v ^ k) ≤ k * s + 1 := by
  induction k with
  | zero => rw [Lean.Grind.Semiring.pow_zero, dl_1 H]; omega
  | succ k ih =>
    rw [Lean.Grind.Semiring.pow_succ]
    have := dl_mul_le H (v ^ k) v
    rw [Nat.add_mul]
    omega
theorem sR_first {R : Type} [Lean.Grind.CommRing R] (f : Nat → R) (n : Nat) : sR f (n + 1) = f 0 + sR (fun i => f (i + 1)) n := by
  induction n with
  | zero => show (0 : R) + f 0 = f 0 + 0; grind
  | succ n ih =>
    show sR f (n + 1) + f (n + 1) = f 0 + (sR (fun i => f (i + 1)) n + f (n + 1))
    rw [ih]; grind
/-- the sum of a_k u^k v^(m - k), from k = j on, over u^j -/
noncomputable def puT {R : Type} [Lean.Grind.CommRing R] (co : R → Nat → Fin 5) (p u v : R) (m j : Nat) : R := sR (fun i => mo co (co p (j + i)) 0 * (u ^ i * v ^ (m - j - i))) (m + 1 - j)
noncomputable def PU {R : Type} [Lean.Grind.CommRing R] (co : R → Nat → Fin 5) (p u v : R) (m : Nat) : R := sR (fun k => mo co (co p k) 0 * (u ^ k * v ^ (m - k))) (m + 1)
theorem pu_T0 {R : Type} [Lean.Grind.CommRing R] {co : R → Nat → Fin 5} (p u v : R) (m : Nat) : puT co p u v m 0 = PU co p u v m := sR_congr _ (fun i _ => by rw [Nat.zero_add, Nat.sub_zero])
theorem pu_s {R : Type} [Lean.Grind.CommRing R] {co : R → Nat → Fin 5} (H : PL co) (p u v : R) {m j : Nat} (h : j ≤ m) : puT co p u v m j = puT co p u v m (j + 1) * u + mo co (co p j) 0 * v ^ (m - j) := by
  unfold puT
  rw [show m + 1 - j = (m - j) + 1 by omega, sR_first, ← sR_mul, show m + 1 - (j + 1) = m - j by omega]
  rw [Nat.add_zero, Nat.sub_zero, Lean.Grind.Semiring.pow_zero]
  have e : sR (fun i => mo co (co p (j + (i + 1))) 0 * (u ^ (i + 1) * v ^ (m - j - (i + 1)))) (m - j) = sR (fun i => mo co (co p (j + 1 + i)) 0 * (u ^ i * v ^ (m - (j + 1) - i)) * u) (m - j) := sR_congr _ (fun i _ => by
    rw [show j + (i + 1) = j + 1 + i by omega, show m - j - (i + 1) = m - (j + 1) - i by omega, Lean.Grind.Semiring.pow_succ]
    grind)
  rw [e]
  grind
theorem pu_end {R : Type} [Lean.Grind.CommRing R] {co : R → Nat → Fin 5} (H : PL co) (p u v : R) (m : Nat) : puT co p u v m (m + 1) = 0 := by
  unfold puT
  rw [Nat.sub_self]; rfl
theorem pu_dl {R : Type} [Lean.Grind.CommRing R] {co : R → Nat → Fin 5} (H : PL co) {p u v : R} {s : Nat} (hu : dl co u ≤ s + 1) (hv : dl co v ≤ s + 1) (m : Nat) : ∀ d j, j + d = m + 1 → dl co (puT co p u v m j) ≤ (m - j) * s + 1 := by
  intro d
  induction d with
  | zero => intro j hj; rw [show j = m + 1 by omega, pu_end H, dl_0 H]; omega
  | succ d ih =>
    intro j hj
    rw [pu_s H p u v (by omega)]
    have a := ih (j + 1) (by omega)
    have b := dl_mul_le H (puT co p u v m (j + 1)) u
    have c := dl_mul_le H (mo co (co p j) 0) (v ^ (m - j))
    have e := dl_c H (co p j)
    have f := dl_pow_le H hv (m - j)
    by_cases q : j = m
    · refine dl_add H ?_ (by omega)
      rw [q, pu_end H, show (0 : R) * u = 0 by grind, dl_0 H]; omega
    · have g : (m - j) * s = (m - (j + 1)) * s + s := by
        rw [show m - j = (m - (j + 1)) + 1 by omega, Nat.add_mul, Nat.one_mul]
      exact dl_add H (by omega) (by omega)
/-- composition does not make 0 -/
theorem pu_const {R : Type} [Lean.Grind.CommRing R] {co : R → Nat → Fin 5} (H : PL co) {q : R} {c : Fin 5} : ∀ (m : Nat) (f : Nat → Fin 5), sR (fun k => mo co (f k) 0 * ((mo co c 0 : R) ^ k * (1 : R) ^ (m - k))) (m + 1) = mo co (ev f c (m + 1)) 0 := by
  intro m
  induction m with
  | zero =>
    intro f
    show (0 : R) + mo co (f 0) 0 * ((mo co c 0 : R) ^ 0 * (1 : R) ^ (0 - 0)) = mo co (f 0 + c * 0) 0
    rw [f5_m0, f5_a0]; grind
  | succ m ih =>
    intro f
    rw [sR_first]
    have e : sR (fun i => mo co (f (i + 1)) 0 * ((mo co c 0 : R) ^ (i + 1) * (1 : R) ^ (m + 1 - (i + 1)))) (m + 1) = sR (fun k => mo co (f (k + 1)) 0 * ((mo co c 0 : R) ^ k * (1 : R) ^ (m - k))) (m + 1) * mo co c 0 := by
      rw [← sR_mul]
      refine sR_congr _ (fun i _ => ?_)
      rw [Lean.Grind.Semiring.pow_succ, show m + 1 - (i + 1) = m - i by omega]
      grind
    rw [e, ih (fun k => f (k + 1))]
    show mo co (f 0) 0 * ((mo co c 0 : R) ^ 0 * (1 : R) ^ (m + 1 - 0)) + _ = mo co (f 0 + c * ev (fun i => f (i + 1)) c (m + 1)) 0
    rw [mo_mul H, ← mo_add H, Lean.Grind.Semiring.pow_zero, Lean.Grind.Semiring.one_pow, f5_mcm]
    grind
theorem pu_nz0 {R : Type} [Lean.Grind.CommRing R] {co : R → Nat → Fin 5} (H : PL co) {q u v : R} {m : Nat} (hu : dl co u ≤ 1) (hv : v = 1) (hm : dl co q ≤ m + 1) (h : vv co q (co u 0) ≠ 0) : PU co q u v m ≠ 0 := by
  unfold PU
  rw [hv, dl_c1 H hu, pu_const H (q := q), ev_more (co u 0) (dl co q) (m + 1) (co q) hm (fun i h1 h2 => dl_hi H h1)]
  exact mo_nz H h 0
/-- lowest and highest term -/
theorem pu_nz1 {R : Type} [Lean.Grind.CommRing R] {co : R → Nat → Fin 5} (H : PL co) {q u v : R} {m : Nat} (nq : q ≠ 0) (hc : Cp u v) (nv : v ≠ 0) (hn : 2 ≤ dl co u ∨ 2 ≤ dl co v) (hm : dl co q ≤ m + 1) : PU co q u v m ≠ 0 := by
  have d := dl_ne H nq
  intro z
  -- v divides q_D u^D, where D is the degree
  have nu : 2 ≤ dl co v → u ≠ 0 := by
    intro h2 e
    obtain ⟨s, t, est⟩ := hc
    rw [e] at est
    have := dl_un H (a := v) (b := t) (by grind)
    omega
  -- split off the powers of v above the degree
  obtain ⟨E, hE⟩ : ∃ E, m + 1 = dl co q + E := ⟨m + 1 - dl co q, by omega⟩
  have hD : sR (fun k => mo co (co q k) 0 * (u ^ k * v ^ (dl co q - 1 - k))) (dl co q) * v ^ E = 0 := by
    rw [← z]
    unfold PU
    rw [hE, sR_split, ← sR_mul]
    have e1 : sR (fun i => mo co (co q (dl co q + i)) 0 * (u ^ (dl co q + i) * v ^ (m - (dl co q + i)))) E = 0 := by
      have : sR (fun i => mo co (co q (dl co q + i)) 0 * (u ^ (dl co q + i) * v ^ (m - (dl co q + i)))) E = sR (fun _ => (0 : R)) E := sR_congr _ (fun i _ => by
        rw [dl_hi H (a := q) (by omega), mo_0 H]; grind)
      rw [this]
      clear this hE
      induction E with
      | zero => rfl
      | succ n ih => show sR _ n + (0 : R) = 0; rw [ih]; grind
    rw [e1]
    have e2 : sR (fun i => mo co (co q i) 0 * (u ^ i * v ^ (dl co q - 1 - i)) * v ^ E) (dl co q) = sR (fun k => mo co (co q k) 0 * (u ^ k * v ^ (m - k))) (dl co q) := sR_congr _ (fun i hi => by
      rw [show m - i = (dl co q - 1 - i) + E by omega, Lean.Grind.Semiring.pow_add]
      grind)
    rw [e2]
    grind
  have hS : sR (fun k => mo co (co q k) 0 * (u ^ k * v ^ (dl co q - 1 - k))) (dl co q) = 0 := by
    rcases mul_dom H hD with x | x
    · exact x
    · exact absurd x (pow_nz H nv _)
  rcases hn with h2 | h2
  · -- u divides the term of the lowest power
    have nu' : u ≠ 0 := dl_nz H (by omega)
    obtain ⟨j, hj, hjz⟩ : ∃ j, co q j ≠ 0 ∧ ∀ i, i < j → co q i = 0 := by
      have : ∀ n, (∃ j, co q j ≠ 0 ∧ ∀ i, i < j → co q i = 0) ∨ ∀ i, i < n → co q i = 0 := by
        intro n
        induction n with
        | zero => exact Or.inr (fun i hi => absurd hi (Nat.not_lt_zero i))
        | succ n ih =>
          rcases ih with x | x
          · exact Or.inl x
          · by_cases w : co q n = 0
            · refine Or.inr (fun i hi => ?_)
              by_cases e : i = n
              · rw [e]; exact w
              · exact x i (by omega)
            · exact Or.inl ⟨n, w, x⟩
      rcases this (dl co q) with x | x
      · exact x
      · exact absurd (x (dl co q - 1) (by omega)) (dl_lead H (by omega))
    have hjd := dl_gt H hj
    have o := sR_one (d := u ^ (j + 1)) (f := fun k => mo co (co q k) 0 * (u ^ k * v ^ (dl co q - 1 - k))) (dl co q) j (by omega) (fun i hi hne => by
      by_cases c : i < j
      · show Dv _ (mo co (co q i) 0 * _)
        rw [hjz i c, mo_0 H]
        exact ⟨0, by grind⟩
      · exact dv_mul _ (dv_mulr _ (dv_pow_le u (by omega))))
    rw [hS] at o
    have o' : Dv (u ^ (j + 1)) (0 - mo co (co q j) 0 * (u ^ j * v ^ (dl co q - 1 - j))) := o
    have o2 := dv_neg o'
    rw [show -(0 - mo co (co q j) 0 * (u ^ j * v ^ (dl co q - 1 - j))) = mo co (co q j) 0 * (u ^ j * v ^ (dl co q - 1 - j)) by grind] at o2
    obtain ⟨w, ew⟩ := dv_c3 H hj o2
    have e3 : v ^ (dl co q - 1 - j) = w * u := mul_can H (pow_nz H nu' j) (by
      rw [ew, Lean.Grind.Semiring.pow_succ]; grind)
    have c1 : Cp u (v ^ (dl co q - 1 - j)) := cp_pow hc _
    obtain ⟨s, t, est⟩ := c1
    have := dl_un H (a := u) (b := s + t * w) (by rw [e3] at est; grind)
    omega
  · have nu' := nu h2
    have o := sR_one (d := v) (f := fun k => mo co (co q k) 0 * (u ^ k * v ^ (dl co q - 1 - k))) (dl co q) (dl co q - 1) (by omega) (fun i hi hne => dv_mul _ (dv_mul _ (dv_pow1 v (by omega))))
    rw [hS] at o
    have o' : Dv v (0 - mo co (co q (dl co q - 1)) 0 * (u ^ (dl co q - 1) * v ^ (dl co q - 1 - (dl co q - 1)))) := o
    rw [Nat.sub_self, Lean.Grind.Semiring.pow_zero] at o'
    have o2 := dv_neg o'
    rw [show -(0 - mo co (co q (dl co q - 1)) 0 * (u ^ (dl co q - 1) * 1)) = mo co (co q (dl co q - 1)) 0 * u ^ (dl co q - 1) by grind] at o2
    obtain ⟨w, ew⟩ := dv_c3 H (dl_lead H (by omega)) o2
    obtain ⟨s, t, est⟩ := cp_pow (cp_symm hc) (dl co q - 1)
    have := dl_un H (a := v) (b := s + t * w) (by rw [ew] at est; grind)
    omega
theorem pu_nz {R : Type} [Lean.Grind.CommRing R] {co : R → Nat → Fin 5} (H : PL co) {p q u v : R} (hv : Va co p q) (hw : Va co u v) (h : ¬ (sz co u v = 0 ∧ vv co q (co u 0) = 0)) : PU co q u v (sz co p q) ≠ 0 := by
  have dv' := dl_ne H (mo_ne H hw.2.1)
  have dq := dl_ne H (mo_ne H hv.2.1)
  have hm : dl co q ≤ sz co p q + 1 := by unfold sz; omega
  by_cases c : sz co u v = 0
  · have hu : dl co u ≤ 1 ∧ dl co v ≤ 1 := by unfold sz at c; omega
    exact pu_nz0 H hu.1 (mo_dl1 H hw.2.1 hu.2) hm (fun z => h ⟨c, z⟩)
  · refine pu_nz1 H (mo_ne H hv.2.1) hw.1 (mo_ne H hw.2.1) ?_ hm
    unfold sz at c
    omega
/-! powers of values -/
theorem lt_step {R : Type} [Lean.Grind.CommRing R] {co : R → Nat → Fin 5} (H : PL co) {x y P Q p q P' Q' : R} (h : Lt co x y P Q) (h' : Lt co (P * p) (Q * q) P' Q') : Lt co (x * p) (y * q) P' Q' := by
  refine ⟨h'.1, h'.2.1, mul_can H (mo_ne H h.2.1) ?_⟩
  have a := h.2.2
  have b := h'.2.2
  have c : Q * (x * p * Q') = x * Q * (p * Q') := by grind
  rw [c, a]
  have d : P * y * (p * Q') = y * (P * p * Q') := by grind
  rw [d, b]
  grind
theorem rd_self {R : Type} [Lean.Grind.CommRing R] {co : R → Nat → Fin 5} (H : PL co) {p q : R} (hc : Cp p q) (hq : Mo co q) : rdP co p q = p ∧ rdQ co p q = q := by
  have := rd_un H (p := p) (q := q) (mo_ne H hq) (P := p) (Q := q) ⟨hc, hq, by grind⟩
  exact ⟨this.1.symm, this.2.symm⟩
end
section
/-! the component's operators on values -/
def FX {R : Type} (M M' : Nat → Option R) (a : Nat) : Prop := ∀ r, r ≠ a → r ≠ a + 1 → (r < 40 ∨ 52 ≤ r) → M' r = M r
section
variable {f_count f_place f_operators f_values f_fault f_found f_factored f_pieces f_kernel : Int32} {a_kind a_with a_c a_top a_product a_there a_waiting a_powers a_matrix a_basis : Nat → Int32}
theorem x_red {R : Type} [Lean.Grind.CommRing R] {co : R → Nat → Fin 5} (H : PL co) {M : Nat → Option R} {p q : R} {a : Nat} {post : SX → Prop} (h : RX co a_c a_top M) (ha : a + 1 < 47) (hp : M a = some p) (hq : M (a + 1) = some q) (nq : q ≠ 0)
    (K : ∀ M' c t, RX co c t M' → M' a = some (rdP co p q) → M' (a + 1) = some (rdQ co p q) → (∀ r, r ≠ a → r ≠ a + 1 → (r < 47 ∨ 52 ≤ r) → M' r = M r) → post (f_count, f_place, f_operators, f_values, f_fault, f_found, f_factored, f_pieces, f_kernel, a_kind, a_with, c, t, a_product, a_there, a_waiting, a_powers, a_matrix, a_basis)) : wpX_reduce post (f_count, f_place, f_operators, f_values, f_fault, f_found, f_factored, f_pieces, f_kernel, a_kind, a_with, a_c, a_top, a_product, a_there, a_waiting, a_powers, a_matrix, a_basis) (nI a) :=
  x_reduce H h ha hp hq nq (fun P Q M' c t l hx h1 h2 fr => by
    have e := rd_un H nq l
    rw [e.1] at h1
    rw [e.2] at h2
    exact K M' c t hx h1 h2 fr)
theorem x_sum {R : Type} [Lean.Grind.CommRing R] {co : R → Nat → Fin 5} (H : PL co) {M : Nat → Option R} {p q u v : R} {a b : Nat} {φ : Int32} {f : Fin 5} {post : SX → Prop} (h : RX co a_c a_top M) (ha : a + 1 < b) (hb : b + 1 < 40) (h1 : M a = some p) (h2 : M (a + 1) = some q) (h3 : M b = some u) (h4 : M (b + 1) = some v) (d1 : dl co p ≤ 9) (d2 : dl co q ≤ 9) (d3 : dl co u ≤ 9) (d4 : dl co v ≤ 9) (nq : q ≠ 0) (nv : v ≠ 0) (hf : ∀ x y : Fin 5, md (cI x + φ * cI y) = cI (x + f * y))
    (K : ∀ M' c t pr, RX co c t M' → M' a = some (rdP co (p * v + mo co f 0 * (u * q)) (q * v)) → M' (a + 1) = some (rdQ co (p * v + mo co f 0 * (u * q)) (q * v)) → FX M M' a → post (f_count, f_place, f_operators, f_values, f_fault, f_found, f_factored, f_pieces, f_kernel, a_kind, a_with, c, t, pr, a_there, a_waiting, a_powers, a_matrix, a_basis)) : wpX_sum post (f_count, f_place, f_operators, f_values, f_fault, f_found, f_factored, f_pieces, f_kernel, a_kind, a_with, a_c, a_top, a_product, a_there, a_waiting, a_powers, a_matrix, a_basis) (nI a) (nI b) φ := by
  unfold wpX_sum
  rw [nI_1, nI_1]
  refine x_multiply H (z := 40) h (by omega) (by omega) (by omega) h1 h4 (by omega) (fun c1 t1 p1 x1 => ?_)
  refine x_multiply H (z := 41) x1 (by omega) (by omega) (by omega) (by (repeat rw [uo_n (by omega)]) <;> exact h3) (by (repeat rw [uo_n (by omega)]) <;> exact h2) (by omega) (fun c2 t2 p2 x2 => ?_)
  refine x_multiply H (z := 42) x2 (by omega) (by omega) (by omega) (by (repeat rw [uo_n (by omega)]) <;> exact h2) (by (repeat rw [uo_n (by omega)]) <;> exact h4) (by omega) (fun c3 t3 p3 x3 => ?_)
  have e1 := dl_mul_le H u q
  refine x_add H (a := 40) (b := 41) (up := 0) (f := f) x3 (by omega) (by omega) (by omega) (by (repeat rw [uo_n (by omega)]) <;> exact uo_s) (by (repeat rw [uo_n (by omega)]) <;> exact uo_s) hf (by omega) (fun c4 t4 x4 _ => ?_)
  refine x_copy H (a := 40) x4 (by omega) (by omega) uo_s (fun c5 t5 x5 => ?_)
  refine x_copy H (a := 42) x5 (by omega) (by omega) (by (repeat rw [uo_n (by omega)]) <;> exact uo_s) (fun c6 t6 x6 => ?_)
  refine x_red H x6 (by omega) (by (repeat rw [uo_n (by omega)]) <;> exact uo_s) uo_s (mul_nz H nq nv) (fun M' c t hx m1 m2 fr => K M' c t p3 hx m1 m2 (fun r q1 q2 q3 => ?_))
  rw [fr r q1 q2 (by omega)]
  exact (by (repeat rw [uo_n (by omega)]) <;> exact rfl)
theorem x_times {R : Type} [Lean.Grind.CommRing R] {co : R → Nat → Fin 5} (H : PL co) {M : Nat → Option R} {p q u v : R} {a b e : Nat} {post : SX → Prop} (h : RX co a_c a_top M) (ha : a + 1 < 40) (hb : b < 76) (he : e < 76) (hb4 : b ≠ 40) (he4 : e ≠ 40) (h1 : M a = some p) (h2 : M (a + 1) = some q) (h3 : M b = some u) (h4 : M e = some v) (d1 : dl co p ≤ 9) (d2 : dl co q ≤ 9) (d3 : dl co u ≤ 9) (d4 : dl co v ≤ 9) (nq : q ≠ 0) (nv : v ≠ 0)
    (K : ∀ M' c t pr, RX co c t M' → M' a = some (rdP co (p * u) (q * v)) → M' (a + 1) = some (rdQ co (p * u) (q * v)) → (∀ r, r ≠ a → r ≠ a + 1 → r ≠ 40 → r ≠ 41 → (r < 47 ∨ 52 ≤ r) → M' r = M r) → post (f_count, f_place, f_operators, f_values, f_fault, f_found, f_factored, f_pieces, f_kernel, a_kind, a_with, c, t, pr, a_there, a_waiting, a_powers, a_matrix, a_basis)) : wpX_times post (f_count, f_place, f_operators, f_values, f_fault, f_found, f_factored, f_pieces, f_kernel, a_kind, a_with, a_c, a_top, a_product, a_there, a_waiting, a_powers, a_matrix, a_basis) (nI a) (nI b) (nI e) := by
  unfold wpX_times
  rw [nI_1]
  refine x_multiply H (z := 40) h (by omega) (by omega) (by omega) h1 h3 (by omega) (fun c1 t1 p1 x1 => ?_)
  refine x_multiply H (z := 41) x1 (by omega) (by omega) (by omega) (by (repeat rw [uo_n (by omega)]) <;> exact h2) (by (repeat rw [uo_n (by omega)]) <;> exact h4) (by omega) (fun c2 t2 p2 x2 => ?_)
  refine x_copy H (a := 40) x2 (by omega) (by omega) (by (repeat rw [uo_n (by omega)]) <;> exact uo_s) (fun c3 t3 x3 => ?_)
  refine x_copy H (a := 41) x3 (by omega) (by omega) (by (repeat rw [uo_n (by omega)]) <;> exact uo_s) (fun c4 t4 x4 => ?_)
  refine x_red H x4 (by omega) (by (repeat rw [uo_n (by omega)]) <;> exact uo_s) uo_s (mul_nz H nq nv) (fun M' c t hx m1 m2 fr => K M' c t p2 hx m1 m2 (fun r q1 q2 q3 q4 q5 => ?_))
  rw [fr r q1 q2 (by omega)]
  exact (by (repeat rw [uo_n (by omega)]) <;> exact rfl)
theorem x_derivative {R : Type} [Lean.Grind.CommRing R] {co : R → Nat → Fin 5} (H : PL co) {M : Nat → Option R} {p q : R} {a : Nat} {post : SX → Prop} (h : RX co a_c a_top M) (ha : a + 1 < 40) (h1 : M a = some p) (h2 : M (a + 1) = some q) (d1 : dl co p ≤ 9) (d2 : dl co q ≤ 9) (nq : q ≠ 0)
    (K : ∀ M' c t pr, RX co c t M' → M' a = some (rdP co (de co p * q + mo co 4 0 * (p * de co q)) (q * q)) → M' (a + 1) = some (rdQ co (de co p * q + mo co 4 0 * (p * de co q)) (q * q)) → FX M M' a → post (f_count, f_place, f_operators, f_values, f_fault, f_found, f_factored, f_pieces, f_kernel, a_kind, a_with, c, t, pr, a_there, a_waiting, a_powers, a_matrix, a_basis)) : wpX_derivative post (f_count, f_place, f_operators, f_values, f_fault, f_found, f_factored, f_pieces, f_kernel, a_kind, a_with, a_c, a_top, a_product, a_there, a_waiting, a_powers, a_matrix, a_basis) (nI a) := by
  unfold wpX_derivative
  rw [nI_1]
  have e1 := de_dl H p 9 (by omega)
  have e2 := de_dl H q 9 (by omega)
  refine x_derive H (b := 43) h (by omega) (by omega) (by omega) h1 (fun c1 t1 x1 => ?_)
  refine x_derive H (b := 44) x1 (by omega) (by omega) (by omega) (by (repeat rw [uo_n (by omega)]) <;> exact h2) (fun c2 t2 x2 => ?_)
  refine x_multiply H (a := 43) (z := 40) x2 (by omega) (by omega) (by omega) (by (repeat rw [uo_n (by omega)]) <;> exact uo_s) (by (repeat rw [uo_n (by omega)]) <;> exact h2) (by omega) (fun c3 t3 p3 x3 => ?_)
  refine x_multiply H (b := 44) (z := 41) x3 (by omega) (by omega) (by omega) (by (repeat rw [uo_n (by omega)]) <;> exact h1) (by (repeat rw [uo_n (by omega)]) <;> exact uo_s) (by omega) (fun c4 t4 p4 x4 => ?_)
  refine x_multiply H (z := 42) x4 (by omega) (by omega) (by omega) (by (repeat rw [uo_n (by omega)]) <;> exact h2) (by (repeat rw [uo_n (by omega)]) <;> exact h2) (by omega) (fun c5 t5 p5 x5 => ?_)
  have e3 := dl_mul_le H p (de co q)
  refine x_add H (a := 40) (b := 41) (up := 0) (f := 4) x5 (by omega) (by omega) (by omega) (by (repeat rw [uo_n (by omega)]) <;> exact uo_s) (by (repeat rw [uo_n (by omega)]) <;> exact uo_s) (fun x y => c_addm x 4 y) (by omega) (fun c6 t6 x6 _ => ?_)
  refine x_copy H (a := 40) x6 (by omega) (by omega) uo_s (fun c7 t7 x7 => ?_)
  refine x_copy H (a := 42) x7 (by omega) (by omega) (by (repeat rw [uo_n (by omega)]) <;> exact uo_s) (fun c8 t8 x8 => ?_)
  refine x_red H x8 (by omega) (by (repeat rw [uo_n (by omega)]) <;> exact uo_s) uo_s (mul_nz H nq nq) (fun M' c t hx m1 m2 fr => K M' c t p5 hx m1 m2 (fun r q1 q2 q3 => ?_))
  rw [fr r q1 q2 (by omega)]
  exact (by (repeat rw [uo_n (by omega)]) <;> exact rfl)
theorem x_spr_l {R : Type} [Lean.Grind.CommRing R] {co : R → Nat → Fin 5} (H : PL co) {M0 : Nat → Option R} {p u v : R} {a b e m s : Nat} {post : SX → Prop} (ha : a < 76) (ha' : a < 40 ∨ a = 43) (hb : b + 1 < 40) (he : e = 43 ∨ e = 44) (hae : a ≠ e) (h1 : M0 a = some p) (h3 : M0 b = some u) (h4 : M0 (b + 1) = some v) (hm : m ≤ 8) (hs : s ≤ 8) (hms : m * s ≤ 8) (d1 : dl co p ≤ 9) (d3 : dl co u ≤ s + 1) (d4 : dl co v ≤ s + 1)
    (K : ∀ M' c t pr, RX co c t M' → M' e = some (PU co p u v m) → (∀ r, r ≠ e → r ≠ 45 → r ≠ 46 → M' r = M0 r) → post (f_count, f_place, f_operators, f_values, f_fault, f_found, f_factored, f_pieces, f_kernel, a_kind, a_with, c, t, pr, a_there, a_waiting, a_powers, a_matrix, a_basis)) : ∀ j M c t pr, j ≤ m + 1 → RX co c t M → M e = some (puT co p u v m j) → M 45 = some (v ^ (m + 1 - j)) → (∀ r, r ≠ e → r ≠ 45 → r ≠ 46 → M r = M0 r) →
      ∀ n, j < n → wX_spread_19 post (nI a) (nI b) (nI e) n (tI j) f_count f_place f_operators f_values f_fault f_found f_factored f_pieces f_kernel a_kind a_with c t pr a_there a_waiting a_powers a_matrix a_basis := by
  intro j
  induction j with
  | zero =>
    intro M c t pr hj hx m1 m2 fr n hn
    obtain ⟨n, rfl⟩ : ∃ m, n = m + 1 := ⟨n - 1, by omega⟩
    rw [pu_T0] at m1
    exact br_t (by decide) (K M c t pr hx m1 fr)
  | succ j ih =>
    intro M c t pr hj hx m1 m2 fr n hn
    obtain ⟨n, rfl⟩ : ∃ m, n = m + 1 := ⟨n - 1, by omega⟩
    refine br_f (by rw [ti_neg (by omega)]; omega) ?_
    rw [nI_1]
    have g1 : M a = some p := by rw [fr a (by omega) (by omega) (by omega)]; exact h1
    have g3 : M b = some u := by rw [fr b (by omega) (by omega) (by omega)]; exact h3
    have g4 : M (b + 1) = some v := by rw [fr (b + 1) (by omega) (by omega) (by omega)]; exact h4
    have e1 := pu_dl H (p := p) d3 d4 m (m - j) (j + 1) (by omega)
    have e2 := dl_pow_le H d4 (m - j)
    have k1 : (m - (j + 1)) * s ≤ m * s := Nat.mul_le_mul_right s (by omega)
    have k2 : (m - j) * s ≤ m * s := Nat.mul_le_mul_right s (by omega)
    rw [show m + 1 - (j + 1) = m - j by omega] at m2
    refine x_multiply H (z := 46) hx (by omega) (by omega) (by omega) m1 g3 (by omega) (fun c1 t1 p1 x1 => ?_)
    refine x_copy H (a := 46) x1 (by omega) (by omega) uo_s (fun c2 t2 x2 => ?_)
    obtain ⟨a1, a2, a3⟩ := x2 a ha p (by (repeat rw [uo_n (by omega)]) <;> exact g1)
    rw [ti_succ]
    refine ⟨in24 ha (by omega), ?_⟩
    rw [cl24 ha (by omega), a2 j (by omega)]
    refine x_add H (b := 45) (up := 0) (f := co p j) x2 (by omega) (by omega) (by omega) uo_s (by (repeat rw [uo_n (by omega)]) <;> exact m2) (fun x y => c_addm x (co p j) y) (by omega) (fun c3 t3 x3 _ => ?_)
    refine x_multiply H (a := 45) (z := 46) x3 (by omega) (by omega) (by omega) (by (repeat rw [uo_n (by omega)]) <;> exact m2) (by (repeat rw [uo_n (by omega)]) <;> exact g4) (by omega) (fun c4 t4 p4 x4 => ?_)
    refine x_copy H (a := 46) (b := 45) x4 (by omega) (by omega) uo_s (fun c5 t5 x5 => ?_)
    refine nm_r (e' := tI j) rfl (ih _ c5 t5 p4 (by omega) x5 ?_ ?_ (fun r q1 q2 q3 => ?_) n (by omega))
    · rw [pu_s H p u v (j := j) (by omega)]
      exact (by (repeat rw [uo_n (by omega)]) <;> exact uo_s)
    · rw [show m + 1 - j = (m - j) + 1 by omega, Lean.Grind.Semiring.pow_succ]
      exact uo_s
    · (repeat rw [uo_n (by omega)])
      exact fr r q1 q2 q3
theorem x_spread {R : Type} [Lean.Grind.CommRing R] {co : R → Nat → Fin 5} (H : PL co) {M : Nat → Option R} {p u v : R} {a b e m s : Nat} {post : SX → Prop} (h : RX co a_c a_top M) (ha : a < 76) (ha' : a < 40 ∨ a = 43) (hb : b + 1 < 40) (he : e = 43 ∨ e = 44) (hae : a ≠ e) (h1 : M a = some p) (h3 : M b = some u) (h4 : M (b + 1) = some v) (hm : m ≤ 8) (hs : s ≤ 8) (hms : m * s ≤ 8) (d1 : dl co p ≤ 9) (d3 : dl co u ≤ s + 1) (d4 : dl co v ≤ s + 1)
    (K : ∀ M' c t pr, RX co c t M' → M' e = some (PU co p u v m) → (∀ r, r ≠ e → r ≠ 45 → r ≠ 46 → M' r = M r) → post (f_count, f_place, f_operators, f_values, f_fault, f_found, f_factored, f_pieces, f_kernel, a_kind, a_with, c, t, pr, a_there, a_waiting, a_powers, a_matrix, a_basis)) : wpX_spread post (f_count, f_place, f_operators, f_values, f_fault, f_found, f_factored, f_pieces, f_kernel, a_kind, a_with, a_c, a_top, a_product, a_there, a_waiting, a_powers, a_matrix, a_basis) (nI a) (nI b) (nI m) (nI e) := by
  unfold wpX_spread
  refine x_only H (a := 45) (k := 0) (x := 1) h (by omega) (by omega) (by decide) (fun c1 t1 x1 => ?_)
  refine x_only H (k := 0) (x := 0) x1 (by omega) (by omega) (by decide) (fun c2 t2 x2 => ?_)
  refine ⟨10, ?_⟩
  rw [← ti_succ m]
  refine x_spr_l H (a := a) (M0 := M) ha ha' hb he hae h1 h3 h4 hm hs hms d1 d3 d4 K (m + 1) _ c2 t2 a_product (Nat.le_refl _) x2 ?_ ?_ (fun r q1 q2 q3 => (by (repeat rw [uo_n (by omega)]) <;> exact rfl)) 10 (by omega)
  · rw [pu_end H, ← mo_0 H 0]; exact uo_s
  · rw [Nat.sub_self, Lean.Grind.Semiring.pow_zero, ← mo_1 H]; exact (by (repeat rw [uo_n (by omega)]) <;> exact uo_s)
theorem x_compose62 {R : Type} [Lean.Grind.CommRing R] {co : R → Nat → Fin 5} (H : PL co) {M : Nat → Option R} {p q u v : R} {a b : Nat} {at' : Int32} {post : SX → Prop} (h : RX co a_c a_top M) (ha : a + 1 < b) (hb : b + 1 < 40) (h1 : M a = some p) (h2 : M (a + 1) = some q) (h3 : M b = some u) (h4 : M (b + 1) = some v) (vp : Va co p q) (vu : Va co u v) (hz : ¬ (sz co u v = 0 ∧ vv co q (co u 0) = 0))
    (K1 : 8 < sz co p q * sz co u v → post (f_count, at', f_operators, f_values, 4, f_found, f_factored, f_pieces, f_kernel, a_kind, a_with, a_c, a_top, a_product, a_there, a_waiting, a_powers, a_matrix, a_basis))
    (K2 : sz co p q * sz co u v ≤ 8 → ∀ M' c t pr, RX co c t M' → M' a = some (rdP co (PU co p u v (sz co p q)) (PU co q u v (sz co p q))) → M' (a + 1) = some (rdQ co (PU co p u v (sz co p q)) (PU co q u v (sz co p q))) → FX M M' a → post (f_count, f_place, f_operators, f_values, f_fault, f_found, f_factored, f_pieces, f_kernel, a_kind, a_with, c, t, pr, a_there, a_waiting, a_powers, a_matrix, a_basis)) : wX_compose_62 post (nI a) (nI b) at' f_count f_place f_operators f_values f_fault f_found f_factored f_pieces f_kernel a_kind a_with a_c a_top a_product a_there a_waiting a_powers a_matrix a_basis := by
  unfold wX_compose_62
  have sp := (va_sz H (p := p) vp.2.1).mpr vp.2.2
  have su := (va_sz H (p := u) vu.2.1).mpr vu.2.2
  have pos := dl_ne H (mo_ne H vu.2.1)
  refine x_size H h (by omega) h1 h2 ?_
  refine x_size H h (by omega) h3 h4 ?_
  have bnd : sz co p q * sz co u v ≤ 8 * 8 := Nat.mul_le_mul sp su
  rw [pk_mul]
  by_cases c : sz co p q * sz co u v ≤ 8
  · refine br_t (nI_le (b := 8) c (by decide)) ?_
    rw [nI_1]
    have hu : dl co u ≤ sz co u v + 1 := by unfold sz; omega
    have hv : dl co v ≤ sz co u v + 1 := by unfold sz; omega
    refine x_spread H (e := 43) h (by omega) (by omega) hb (Or.inl rfl) (by omega) h1 h3 h4 sp su c vp.2.2.1 hu hv (fun M1 c1 t1 p1 x1 m1 f1 => ?_)
    refine x_spread H (e := 44) x1 (by omega) (by omega) hb (Or.inr rfl) (by omega) (by rw [f1 _ (by omega) (by omega) (by omega)]; exact h2) (by rw [f1 _ (by omega) (by omega) (by omega)]; exact h3) (by rw [f1 _ (by omega) (by omega) (by omega)]; exact h4) sp su c vp.2.2.2 hu hv (fun M2 c2 t2 p2 x2 m2 f2 => ?_)
    refine x_copy H (a := 43) x2 (by omega) (by omega) (by rw [f2 _ (by omega) (by omega) (by omega)]; exact m1) (fun c3 t3 x3 => ?_)
    refine x_copy H (a := 44) x3 (by omega) (by omega) (by (repeat rw [uo_n (by omega)]) <;> exact m2) (fun c4 t4 x4 => ?_)
    refine x_red H x4 (by omega) (by (repeat rw [uo_n (by omega)]) <;> exact uo_s) uo_s (pu_nz H vp vu hz) (fun M' c' t hx n1 n2 fr => K2 c M' c' t p2 hx n1 n2 (fun r q1 q2 q3 => ?_))
    rw [fr r q1 q2 (by omega)]
    (repeat rw [uo_n (by omega)])
    rw [f2 r (by omega) (by omega) (by omega), f1 r (by omega) (by omega) (by omega)]
  · refine br_f (nI_ge (a := 8) (by omega) (by omega)) (K1 (by omega))
theorem x_compose {R : Type} [Lean.Grind.CommRing R] {co : R → Nat → Fin 5} (H : PL co) {M : Nat → Option R} {p q u v : R} {a b : Nat} {at' : Int32} {post : SX → Prop} (h : RX co a_c a_top M) (ha : a + 1 < b) (hb : b + 1 < 40) (h1 : M a = some p) (h2 : M (a + 1) = some q) (h3 : M b = some u) (h4 : M (b + 1) = some v) (vp : Va co p q) (vu : Va co u v)
    (K0 : sz co u v = 0 → vv co q (co u 0) = 0 → post (f_count, at', f_operators, f_values, 3, f_found, f_factored, f_pieces, f_kernel, a_kind, a_with, a_c, a_top, a_product, a_there, a_waiting, a_powers, a_matrix, a_basis))
    (K1 : ¬ (sz co u v = 0 ∧ vv co q (co u 0) = 0) → 8 < sz co p q * sz co u v → post (f_count, at', f_operators, f_values, 4, f_found, f_factored, f_pieces, f_kernel, a_kind, a_with, a_c, a_top, a_product, a_there, a_waiting, a_powers, a_matrix, a_basis))
    (K2 : ¬ (sz co u v = 0 ∧ vv co q (co u 0) = 0) → sz co p q * sz co u v ≤ 8 → ∀ M' c t pr, RX co c t M' → M' a = some (rdP co (PU co p u v (sz co p q)) (PU co q u v (sz co p q))) → M' (a + 1) = some (rdQ co (PU co p u v (sz co p q)) (PU co q u v (sz co p q))) → FX M M' a → post (f_count, f_place, f_operators, f_values, f_fault, f_found, f_factored, f_pieces, f_kernel, a_kind, a_with, c, t, pr, a_there, a_waiting, a_powers, a_matrix, a_basis)) : wpX_compose post (f_count, f_place, f_operators, f_values, f_fault, f_found, f_factored, f_pieces, f_kernel, a_kind, a_with, a_c, a_top, a_product, a_there, a_waiting, a_powers, a_matrix, a_basis) (nI a) (nI b) at' := by
  unfold wpX_compose
  obtain ⟨u1, u2, u3⟩ := h b (by omega) u h3
  obtain ⟨v1, v2, v3⟩ := h (b + 1) (by omega) v h4
  have pos := dl_ne H (mo_ne H vu.2.1)
  have e24 : 24 * nI b = nI (24 * b + 0) := by rw [show (24 : Int32) = nI 24 from rfl, pk_mul]; rfl
  have i24 : vp_in (24 * nI b) 1824 := by rw [e24]; exact vp_in_nI (by omega) (by omega)
  have r24 : a_c (24 * nI b).toNatClampNeg = cI (co u 0) := by rw [e24, nI_clamp (by omega)]; exact u2 0 (by omega)
  refine ⟨vp_in_nI (by omega) (by omega), ?_⟩
  rw [nI_1, nI_clamp (by omega), nI_clamp (by omega), u3, v3]
  by_cases c1 : 2 ≤ dl co u
  · refine br_t (by rw [← nI_0, ← ti_succ 0, ti_tlt (by omega) (by omega)]; omega) ?_
    unfold wX_compose_24 wX_compose_25
    have nz : ¬ (sz co u v = 0 ∧ vv co q (co u 0) = 0) := by unfold sz; omega
    exact ⟨i24, nm_r r24 (br_t rfl (x_compose62 H h ha hb h1 h2 h3 h4 vp vu nz (K1 nz) (K2 nz)))⟩
  · refine br_f (by rw [← nI_0, ← ti_succ 0, ti_tlt (by omega) (by omega)]; omega) ⟨vp_in_nI (by omega) (by omega), ?_⟩
    by_cases c2 : dl co v = 1
    · refine br_t (by rw [c2]; decide) ?_
      unfold wX_compose_25
      refine ⟨i24, nm_r r24 (br_f (by decide) ?_)⟩
      rw [nI_1]
      refine x_valueOf H h (by omega) h2 ?_
      have s0 : sz co u v = 0 := by unfold sz; omega
      by_cases c3 : vv co q (co u 0) = 0
      · exact br_t (by rw [c3]; rfl) (K0 s0 c3)
      · have nz : ¬ (sz co u v = 0 ∧ vv co q (co u 0) = 0) := fun z => c3 z.2
        exact br_f (fun z => c3 ((c_0 _).mp z)) (x_compose62 H h ha hb h1 h2 h3 h4 vp vu nz (K1 nz) (K2 nz))
    · refine br_f (by rw [← nI_0, ← ti_succ 0, ti_eq (by omega) (by omega)]; omega) ?_
      unfold wX_compose_24 wX_compose_25
      have nz : ¬ (sz co u v = 0 ∧ vv co q (co u 0) = 0) := by unfold sz; omega
      exact ⟨i24, nm_r r24 (br_t rfl (x_compose62 H h ha hb h1 h2 h3 h4 vp vu nz (K1 nz) (K2 nz)))⟩
end
end
section
/-! powers in the component -/
theorem rd_step {R : Type} [Lean.Grind.CommRing R] {co : R → Nat → Fin 5} (H : PL co) {x y p q : R} (hy : y ≠ 0) (hq : q ≠ 0) : rdP co (rdP co x y * p) (rdQ co x y * q) = rdP co (x * p) (y * q) ∧ rdQ co (rdP co x y * p) (rdQ co x y * q) = rdQ co (x * p) (y * q) := by
  have l := rd_lt H x hy
  have nz := mul_nz H (mo_ne H l.2.1) hq
  have l2 := rd_lt H (rdP co x y * p) nz
  exact rd_un H (mul_nz H hy hq) (lt_step H l l2)
theorem rd_11 {R : Type} [Lean.Grind.CommRing R] {co : R → Nat → Fin 5} (H : PL co) : rdP co (1 : R) 1 = 1 ∧ rdQ co (1 : R) 1 = 1 := rd_self H (cp_1 1) (mo_one H)
/-- the k-th power of a value -/
noncomputable def rwP {R : Type} [Lean.Grind.CommRing R] (co : R → Nat → Fin 5) (p q : R) (k : Nat) : R := rdP co (p ^ k) (q ^ k)
noncomputable def rwQ {R : Type} [Lean.Grind.CommRing R] (co : R → Nat → Fin 5) (p q : R) (k : Nat) : R := rdQ co (p ^ k) (q ^ k)
theorem rw_s {R : Type} [Lean.Grind.CommRing R] {co : R → Nat → Fin 5} (H : PL co) {p q : R} (hq : q ≠ 0) (k : Nat) : rdP co (rwP co p q k * p) (rwQ co p q k * q) = rwP co p q (k + 1) ∧ rdQ co (rwP co p q k * p) (rwQ co p q k * q) = rwQ co p q (k + 1) := by
  unfold rwP rwQ
  rw [Lean.Grind.Semiring.pow_succ, Lean.Grind.Semiring.pow_succ]
  exact rd_step H (pow_nz H hq k) hq
theorem rw_0 {R : Type} [Lean.Grind.CommRing R] {co : R → Nat → Fin 5} (H : PL co) (p q : R) : rwP co p q 0 = 1 ∧ rwQ co p q 0 = 1 := by
  unfold rwP rwQ
  rw [Lean.Grind.Semiring.pow_zero, Lean.Grind.Semiring.pow_zero]
  exact rd_11 H
theorem rw_dl {R : Type} [Lean.Grind.CommRing R] {co : R → Nat → Fin 5} (H : PL co) {p q : R} {s : Nat} (hq : q ≠ 0) (d1 : dl co p ≤ s + 1) (d2 : dl co q ≤ s + 1) (k : Nat) : dl co (rwP co p q k) ≤ k * s + 1 ∧ dl co (rwQ co p q k) ≤ k * s + 1 ∧ rwQ co p q k ≠ 0 := by
  have l := rd_lt H (p ^ k) (pow_nz H hq k)
  have d := lt_dl H (pow_nz H hq k) l
  have a := dl_pow_le H d1 k
  have b := dl_pow_le H d2 k
  exact ⟨Nat.le_trans d.1 a, Nat.le_trans d.2 b, mo_ne H l.2.1⟩
section
variable {f_count f_place f_operators f_values f_fault f_found f_factored f_pieces f_kernel : Int32} {a_kind a_with a_c a_top a_product a_there a_waiting a_powers a_matrix a_basis : Nat → Int32}
theorem x_rai_l {R : Type} [Lean.Grind.CommRing R] {co : R → Nat → Fin 5} (H : PL co) {M0 : Nat → Option R} {p q : R} {a k s : Nat} {post : SX → Prop} (ha : a + 1 < 40) (hk : k ≤ 8) (hs : s ≤ 8) (hks : k * s ≤ 8) (d1 : dl co p ≤ s + 1) (d2 : dl co q ≤ s + 1) (nq : q ≠ 0)
    (K : ∀ M' c t pr, RX co c t M' → M' a = some (rwP co p q k) → M' (a + 1) = some (rwQ co p q k) → FX M0 M' a → post (f_count, f_place, f_operators, f_values, f_fault, f_found, f_factored, f_pieces, f_kernel, a_kind, a_with, c, t, pr, a_there, a_waiting, a_powers, a_matrix, a_basis)) : ∀ d i M c t pr, i + d = k → RX co c t M → M 43 = some p → M 44 = some q → M a = some (rwP co p q i) → M (a + 1) = some (rwQ co p q i) → FX M0 M a →
      ∀ n, d < n → wX_raise_102 post (nI a) n (nI d) f_count f_place f_operators f_values f_fault f_found f_factored f_pieces f_kernel a_kind a_with c t pr a_there a_waiting a_powers a_matrix a_basis := by
  intro d
  induction d with
  | zero =>
    intro i M c t pr hi hx m1 m2 m3 m4 fr n hn
    obtain ⟨n, rfl⟩ : ∃ m, n = m + 1 := ⟨n - 1, by omega⟩
    rw [show i = k by omega] at m3 m4
    exact br_t (by decide) (K M c t pr hx m3 m4 fr)
  | succ d ih =>
    intro i M c t pr hi hx m1 m2 m3 m4 fr n hn
    obtain ⟨n, rfl⟩ : ∃ m, n = m + 1 := ⟨n - 1, by omega⟩
    refine br_f (nI_nle (by omega) (by omega)) ?_
    have w := rw_dl H nq d1 d2 i
    have k1 : i * s ≤ k * s := Nat.mul_le_mul_right s (by omega)
    have st := rw_s H (p := p) nq i
    refine x_times H (b := 43) (e := 44) hx ha (by omega) (by omega) (by omega) (by omega) m3 m4 m1 m2 (by omega) (by omega) (by omega) (by omega) w.2.2 nq (fun M' c' t' pr' hx' n1 n2 fr' => ?_)
    rw [st.1] at n1
    rw [st.2] at n2
    refine nm_r (pk_m1 d) (ih (i + 1) M' c' t' pr' (by omega) hx' (by rw [fr' 43 (by omega) (by omega) (by omega) (by omega) (by omega)]; exact m1) (by rw [fr' 44 (by omega) (by omega) (by omega) (by omega) (by omega)]; exact m2) n1 n2 (fun r q1 q2 q3 => ?_) n (by omega))
    rw [fr' r q1 q2 (by omega) (by omega) (by omega)]
    exact fr r q1 q2 q3
theorem x_rai81 {R : Type} [Lean.Grind.CommRing R] {co : R → Nat → Fin 5} (H : PL co) {M : Nat → Option R} {p q : R} {a b k s : Nat} {post : SX → Prop} (h : RX co a_c a_top M) (ha : a + 1 < 40) (hb : b = a ∨ b = a + 1) (hk : k ≤ 8) (hs : s ≤ 8) (hks : k * s ≤ 8) (d1 : dl co p ≤ s + 1) (d2 : dl co q ≤ s + 1) (nq : q ≠ 0) (m1 : M 43 = some p) (m2 : M b = some q)
    (K : ∀ M' c t pr, RX co c t M' → M' a = some (rwP co p q k) → M' (a + 1) = some (rwQ co p q k) → FX M M' a → post (f_count, f_place, f_operators, f_values, f_fault, f_found, f_factored, f_pieces, f_kernel, a_kind, a_with, c, t, pr, a_there, a_waiting, a_powers, a_matrix, a_basis)) : wX_raise_81 post (nI a) (nI k) (nI b) f_count f_place f_operators f_values f_fault f_found f_factored f_pieces f_kernel a_kind a_with a_c a_top a_product a_there a_waiting a_powers a_matrix a_basis := by
  unfold wX_raise_81
  rw [nI_1]
  refine x_copy H (b := 44) h (by omega) (by omega) m2 (fun c1 t1 x1 => ?_)
  refine x_only H (k := 0) (x := 1) x1 (by omega) (by omega) (by decide) (fun c2 t2 x2 => ?_)
  refine x_only H (k := 0) (x := 1) x2 (by omega) (by omega) (by decide) (fun c3 t3 x3 => ?_)
  have w0 := rw_0 H (co := co) p q
  refine ⟨9, x_rai_l H (M0 := M) ha hk hs hks d1 d2 nq K k 0 _ c3 t3 a_product (by omega) x3 (by (repeat rw [uo_n (by omega)]) <;> exact m1) (by (repeat rw [uo_n (by omega)]) <;> exact uo_s) ?_ ?_ (fun r q1 q2 q3 => (by (repeat rw [uo_n (by omega)]) <;> exact rfl)) 9 (by omega)⟩
  · rw [w0.1, ← mo_1 H]; exact (by (repeat rw [uo_n (by omega)]) <;> exact uo_s)
  · rw [w0.2, ← mo_1 H]; exact uo_s
theorem x_rai_p {R : Type} [Lean.Grind.CommRing R] {co : R → Nat → Fin 5} (H : PL co) {M : Nat → Option R} {p q : R} {a k : Nat} {at' : Int32} {post : SX → Prop} (h : RX co a_c a_top M) (ha : a + 1 < 40) (hk : k ≤ 8) (h1 : M a = some p) (h2 : M (a + 1) = some q) (vp : Va co p q)
    (K1 : 8 < k * sz co p q → post (f_count, at', f_operators, f_values, 4, f_found, f_factored, f_pieces, f_kernel, a_kind, a_with, a_c, a_top, a_product, a_there, a_waiting, a_powers, a_matrix, a_basis))
    (K2 : k * sz co p q ≤ 8 → ∀ M' c t pr, RX co c t M' → M' a = some (rwP co p q k) → M' (a + 1) = some (rwQ co p q k) → FX M M' a → post (f_count, f_place, f_operators, f_values, f_fault, f_found, f_factored, f_pieces, f_kernel, a_kind, a_with, c, t, pr, a_there, a_waiting, a_powers, a_matrix, a_basis)) : wpX_raise post (f_count, f_place, f_operators, f_values, f_fault, f_found, f_factored, f_pieces, f_kernel, a_kind, a_with, a_c, a_top, a_product, a_there, a_waiting, a_powers, a_matrix, a_basis) (nI a) (nI k) at' := by
  unfold wpX_raise
  have z : (0 : Int32) ≤ nI k := nI_pos' (by omega)
  have sp := (va_sz H (p := p) vp.2.1).mpr vp.2.2
  refine br_t z ?_
  unfold wX_raise_20
  refine br_t z ?_
  unfold wX_raise_30
  refine x_size H h (by omega) h1 h2 ?_
  have bnd : k * sz co p q ≤ 8 * 8 := Nat.mul_le_mul hk sp
  rw [pk_mul]
  by_cases c : k * sz co p q ≤ 8
  · refine br_t (nI_le (b := 8) c (by decide)) (br_t z ?_)
    unfold wX_raise_64
    refine x_copy H (b := 43) h (by omega) (by omega) h1 (fun c1 t1 x1 => br_t z ?_)
    rw [nI_1]
    have pos := dl_ne H (mo_ne H vp.2.1)
    refine x_rai81 H (s := sz co p q) x1 ha (Or.inr rfl) hk sp c (by unfold sz; omega) (by unfold sz; omega) (mo_ne H vp.2.1) uo_s (by (repeat rw [uo_n (by omega)]) <;> exact h2) (fun M' c' t' pr' hx m1 m2 fr => K2 c M' c' t' pr' hx m1 m2 (fun r q1 q2 q3 => ?_))
    rw [fr r q1 q2 q3]
    exact (by (repeat rw [uo_n (by omega)]) <;> exact rfl)
  · exact br_f (nI_ge (a := 8) (by omega) (by omega)) (K1 (by omega))
theorem nI_neg {k : Nat} (h1 : 1 ≤ k) (hk : k < 2 ^ 31) : ¬ (0 : Int32) ≤ -nI k := by
  rw [Int32.le_iff_toInt_le, sb_negT hk, show (0 : Int32).toInt = 0 from by decide]; omega
theorem nI_nn (k : Nat) : - -nI k = nI k := Int32.neg_neg
theorem x_rai_n {R : Type} [Lean.Grind.CommRing R] {co : R → Nat → Fin 5} (H : PL co) {M : Nat → Option R} {p q : R} {a k : Nat} {at' : Int32} {post : SX → Prop} (h : RX co a_c a_top M) (ha : a + 1 < 40) (hk1 : 1 ≤ k) (hk : k ≤ 8) (h1 : M a = some p) (h2 : M (a + 1) = some q) (vp : Va co p q)
    (K0 : p = 0 → post (f_count, at', f_operators, f_values, 3, f_found, f_factored, f_pieces, f_kernel, a_kind, a_with, a_c, a_top, a_product, a_there, a_waiting, a_powers, a_matrix, a_basis))
    (K1 : p ≠ 0 → 8 < k * sz co p q → post (f_count, at', f_operators, f_values, 4, f_found, f_factored, f_pieces, f_kernel, a_kind, a_with, a_c, a_top, a_product, a_there, a_waiting, a_powers, a_matrix, a_basis))
    (K2 : p ≠ 0 → k * sz co p q ≤ 8 → ∀ M' c t pr, RX co c t M' → M' a = some (rwP co q p k) → M' (a + 1) = some (rwQ co q p k) → FX M M' a → post (f_count, f_place, f_operators, f_values, f_fault, f_found, f_factored, f_pieces, f_kernel, a_kind, a_with, c, t, pr, a_there, a_waiting, a_powers, a_matrix, a_basis)) : wpX_raise post (f_count, f_place, f_operators, f_values, f_fault, f_found, f_factored, f_pieces, f_kernel, a_kind, a_with, a_c, a_top, a_product, a_there, a_waiting, a_powers, a_matrix, a_basis) (nI a) (-nI k) at' := by
  unfold wpX_raise
  have z := nI_neg hk1 (show k < 2 ^ 31 by omega)
  have sp := (va_sz H (p := p) vp.2.1).mpr vp.2.2
  obtain ⟨p1, p2, p3⟩ := h a (by omega) p h1
  refine br_f z ⟨vp_in_nI (by omega) (by omega), ?_⟩
  rw [nI_clamp (by omega), p3]
  by_cases pz : p = 0
  · refine br_f (by rw [ti_nn (by omega), pz, dl_0 H]; omega) (K0 pz)
  · refine br_t (by rw [ti_nn (by omega)]; exact dl_ne H pz) ?_
    unfold wX_raise_20
    refine br_f z ?_
    unfold wX_raise_30
    refine x_size H h (by omega) h1 h2 ?_
    have bnd : k * sz co p q ≤ 8 * 8 := Nat.mul_le_mul hk sp
    rw [nI_nn, pk_mul]
    by_cases c : k * sz co p q ≤ 8
    · refine br_t (nI_le (b := 8) c (by decide)) (br_f z ?_)
      unfold wX_raise_64
      rw [nI_1]
      refine x_copy H (b := 43) h (by omega) (by omega) h2 (fun c1 t1 x1 => br_f z ?_)
      have pos := dl_ne H (mo_ne H vp.2.1)
      refine x_rai81 H (s := sz co p q) x1 ha (Or.inl rfl) hk sp c (by unfold sz; omega) (by unfold sz; omega) pz uo_s (by (repeat rw [uo_n (by omega)]) <;> exact h1) (fun M' c' t' pr' hx m1 m2 fr => K2 pz c M' c' t' pr' hx m1 m2 (fun r q1 q2 q3 => ?_))
      rw [fr r q1 q2 q3]
      exact (by (repeat rw [uo_n (by omega)]) <;> exact rfl)
    · exact br_f (nI_ge (a := 8) (by omega) (by omega)) (K1 pz (by omega))
end
end
section
/-! the rows of the reference as polynomials -/
theorem ix20 (a k : Nat) : 20 * nI a + nI k = nI (20 * a + k) := by
  rw [show (20 : Int32) = nI 20 from rfl, pk_mul, nI_add]
theorem in20 {a k : Nat} (ha : a < 90) (hk : k < 20) : vp_in (20 * nI a + nI k) 1800 := by
  rw [ix20]; exact vp_in_nI (by omega) (by omega)
theorem cl20 {a k : Nat} (ha : a < 90) (hk : k < 20) : (20 * nI a + nI k).toNatClampNeg = 20 * a + k := by
  rw [ix20]; exact nI_clamp (by omega)
def RY {R : Type} (co : R → Nat → Fin 5) (c : Nat → Int32) (M : Nat → Option R) : Prop :=
  ∀ r, r < 90 → ∀ p, M r = some p → dl co p ≤ 20 ∧ (∀ k, k < 20 → c (20 * r + k) = cI (co p k))
theorem ry_up {R : Type} {co : R → Nat → Fin 5} {c c' : Nat → Int32} {M : Nat → Option R} {a : Nat} {p : R} (h : RY co c M) (hd : dl co p ≤ 20) (h1 : ∀ k, k < 20 → c' (20 * a + k) = cI (co p k)) (h2 : ∀ j, (j < 20 * a ∨ 20 * a + 20 ≤ j) → c' j = c j) : RY co c' (uo M a p) := by
  intro r hr p' hp
  by_cases e : r = a
  · rw [e] at hp ⊢
    rw [uo_s] at hp
    cases hp
    exact ⟨hd, h1⟩
  · rw [uo_n e] at hp
    have g := h r hr p' hp
    refine ⟨g.1, fun k hk => ?_⟩
    rw [h2 _ (by omega)]; exact g.2 k hk
theorem ry_ex {R : Type} {co : R → Nat → Fin 5} {c : Nat → Int32} {M M' : Nat → Option R} (h : RY co c M) (e : ∀ r p, M' r = some p → M r = some p) : RY co c M' := fun r hr p hp => h r hr p (e r p hp)
theorem y_inverse {post : Int32 → Prop} {x : Fin 5} (K : post (cI (x * x * x))) : wpY_inverse post (cI x) := by
  unfold wpY_inverse
  by_cases h2 : x = 2
  · subst h2
    exact br_t rfl K
  · refine br_f (fun z => h2 ((c_inj x 2).mp z)) ?_
    by_cases h3 : x = 3
    · subst h3
      exact br_t rfl K
    · refine br_f (fun z => h3 ((c_inj x 3).mp z)) ?_
      have : ∀ x : Fin 5, x ≠ 2 → x ≠ 3 → x * x * x = x := by decide
      rw [this x h2 h3] at K
      exact K
section
variable {f_count f_place f_opens f_top f_fault f_faultAt f_dry f_found : Int32} {a_c a_there a_kind a_num a_open a_openAt a_power a_table : Nat → Int32}
theorem y_deg_l {R : Type} [Lean.Grind.CommRing R] {co : R → Nat → Fin 5} (H : PL co) {p : R} {a : Nat} {post : Int32 → Prop} (ha : a < 90) (hc : ∀ k, k < 20 → a_c (20 * a + k) = cI (co p k)) (K : post (tI (dl co p))) :
    ∀ j, dl co p ≤ j → j ≤ 20 → ∀ n, j < n → wY_deg_3 post (nI a) f_count f_place f_opens f_top f_fault f_faultAt f_dry f_found a_c a_there a_kind a_num a_open a_openAt a_power a_table n (tI j) := by
  intro j
  induction j with
  | zero =>
    intro h0 _ n hn
    obtain ⟨n, rfl⟩ : ∃ m, n = m + 1 := ⟨n - 1, by omega⟩
    rw [show dl co p = 0 by omega] at K
    exact br_t (by decide) K
  | succ j ih =>
    intro h0 h1 n hn
    obtain ⟨n, rfl⟩ : ∃ m, n = m + 1 := ⟨n - 1, by omega⟩
    have hx : ¬ tI (j + 1) < 0 := by rw [ti_neg (by omega)]; omega
    have ei : 20 * nI a + tI (j + 1) = nI (20 * a + j) := by rw [ti_succ, ix20]
    refine br_f hx ⟨by rw [ei]; exact vp_in_nI (by omega) (by omega), ?_⟩
    rw [ei, nI_clamp (by omega), hc j (by omega)]
    by_cases z : co p j = 0
    · refine br_t (by rw [z]; rfl) (nm_r (e' := tI j) (by rw [ti_succ]; rfl) (ih ?_ (by omega) n (by omega)))
      refine dl_le H (fun k hk => ?_)
      by_cases e : k = j
      · rw [e]; exact z
      · exact dl_hi H (by omega)
    · have g := dl_gt H z
      rw [show dl co p = j + 1 by omega] at K
      exact br_f (fun w => z ((c_0 _).mp w)) K
theorem y_deg {R : Type} [Lean.Grind.CommRing R] {co : R → Nat → Fin 5} (H : PL co) {M : Nat → Option R} {p : R} {a : Nat} {post : Int32 → Prop} (h : RY co a_c M) (ha : a < 90) (hp : M a = some p) (K : post (tI (dl co p))) : wpY_deg post (f_count, f_place, f_opens, f_top, f_fault, f_faultAt, f_dry, f_found, a_c, a_there, a_kind, a_num, a_open, a_openAt, a_power, a_table) (nI a) := by
  unfold wpY_deg
  obtain ⟨p1, p2⟩ := h a ha p hp
  refine ⟨21, ?_⟩
  rw [show (19 : Int32) = tI 20 from by decide]
  exact y_deg_l H ha p2 K 20 p1 (by omega) 21 (by omega)
theorem y_become {R : Type} [Lean.Grind.CommRing R] {co : R → Nat → Fin 5} (H : PL co) {M : Nat → Option R} {x : Fin 5} {v : Int32} {a : Nat} {post : SY → Prop} (h : RY co a_c M) (ha : a < 90) (hv : md v = cI x)
    (K : ∀ c, RY co c (uo M a (mo co x 0)) → post (f_count, f_place, f_opens, f_top, f_fault, f_faultAt, f_dry, f_found, c, a_there, a_kind, a_num, a_open, a_openAt, a_power, a_table)) : wpY_become post (f_count, f_place, f_opens, f_top, f_fault, f_faultAt, f_dry, f_found, a_c, a_there, a_kind, a_num, a_open, a_openAt, a_power, a_table) (nI a) v := by
  unfold wpY_become
  have e20 : 20 * nI a = nI (20 * a + 0) := by rw [show (20 : Int32) = nI 20 from rfl, pk_mul]; rfl
  refine ⟨21, st_loop (fun n i c => wY_become_2 post (nI a) v f_count f_place f_opens f_top f_fault f_faultAt f_dry f_found n (nI i) c a_there a_kind a_num a_open a_openAt a_power a_table) a_c (20 * a) 20 (fun _ => 0) ?_ ?_ 21 (by omega)⟩
  · intro n
    refine br_t (nI_le (a := 20) (b := 20) (by decide) (by decide)) (y_mod ?_)
    rw [hv, e20]
    refine ⟨vp_in_nI (by omega) (by omega), nm_r (e' := upd (stR a_c (20 * a) 20 (fun _ => 0)) (20 * a + 0) (cI x)) (by rw [nI_clamp (by omega)]) (K _ (ry_up h ?_ (fun j hj => ?_) (fun j hj => ?_)))⟩
    · have := dl_c H x
      omega
    · rw [mo_co H]
      by_cases e : j = 0
      · rw [if_pos e, e]; exact pk_us
      · rw [if_neg e, pk_un (by omega), stR_in hj]; rfl
    · rw [pk_un (by omega), stR_out hj]
  · intro n i hi hn
    refine br_f (nI_ge (b := 20) hi (by decide)) ⟨in20 ha hi, nm_r (e' := upd (stR a_c (20 * a) i (fun _ => 0)) (20 * a + i) 0) (by rw [cl20 ha hi]) (nm_r (nI_1 i) hn)⟩
theorem y_copy {R : Type} [Lean.Grind.CommRing R] {co : R → Nat → Fin 5} (H : PL co) {M : Nat → Option R} {p : R} {a b : Nat} {post : SY → Prop} (h : RY co a_c M) (ha : a < 90) (hb : b < 90) (hp : M a = some p)
    (K : ∀ c, RY co c (uo M b p) → post (f_count, f_place, f_opens, f_top, f_fault, f_faultAt, f_dry, f_found, c, a_there, a_kind, a_num, a_open, a_openAt, a_power, a_table)) : wpY_copy post (f_count, f_place, f_opens, f_top, f_fault, f_faultAt, f_dry, f_found, a_c, a_there, a_kind, a_num, a_open, a_openAt, a_power, a_table) (nI a) (nI b) := by
  unfold wpY_copy
  obtain ⟨g1, g2⟩ := h a ha p hp
  refine ⟨21, st_loop (fun n i c => wY_copy_2 post (nI a) (nI b) f_count f_place f_opens f_top f_fault f_faultAt f_dry f_found n (nI i) c a_there a_kind a_num a_open a_openAt a_power a_table) a_c (20 * b) 20 (fun i => cI (co p i)) ?_ ?_ 21 (by omega)⟩
  · intro n
    exact br_t (nI_le (a := 20) (b := 20) (by decide) (by decide)) (K _ (ry_up h g1 (fun k hk => stR_in hk) (fun j hj => stR_out hj)))
  · intro n i hi hn
    refine br_f (nI_ge (b := 20) hi (by decide)) ⟨in20 ha hi, in20 hb hi, nm_r (e' := upd (stR a_c (20 * b) i (fun i => cI (co p i))) (20 * b + i) (cI (co p i))) ?_ (nm_r (nI_1 i) hn)⟩
    rw [cl20 ha hi, cl20 hb hi, stR_out (by omega), g2 i hi]
theorem y_add {R : Type} [Lean.Grind.CommRing R] {co : R → Nat → Fin 5} (H : PL co) {M : Nat → Option R} {p q : R} {a b : Nat} {φ : Int32} {f : Fin 5} {post : SY → Prop} (h : RY co a_c M) (ha : a < 90) (hb : b < 90) (hab : a ≠ b) (hp : M a = some p) (hq : M b = some q) (hf : ∀ x y : Fin 5, md (cI x + φ * cI y) = cI (x + f * y))
    (K : ∀ c, RY co c (uo M a (p + mo co f 0 * q)) → post (f_count, f_place, f_opens, f_top, f_fault, f_faultAt, f_dry, f_found, c, a_there, a_kind, a_num, a_open, a_openAt, a_power, a_table)) : wpY_add post (f_count, f_place, f_opens, f_top, f_fault, f_faultAt, f_dry, f_found, a_c, a_there, a_kind, a_num, a_open, a_openAt, a_power, a_table) (nI a) φ (nI b) := by
  unfold wpY_add
  obtain ⟨p1, p2⟩ := h a ha p hp
  obtain ⟨q1, q2⟩ := h b hb q hq
  refine ⟨21, st_loop (fun n i c => wY_add_3 post (nI a) φ (nI b) f_count f_place f_opens f_top f_fault f_faultAt f_dry f_found n (nI i) c a_there a_kind a_num a_open a_openAt a_power a_table) a_c (20 * a) 20 (fun i => cI (co p i + f * co q i)) ?_ ?_ 21 (by omega)⟩
  · intro n
    refine br_t (nI_le (a := 20) (b := 20) (by decide) (by decide)) (K _ (ry_up h ?_ (fun k hk => ?_) (fun j hj => stR_out hj)))
    · exact dl_le H (fun n hn => by rw [pl_add H, co_c H, dl_hi H (a := p) (by omega), dl_hi H (a := q) (by omega), f5_m0]; rfl)
    · rw [stR_in hk, pl_add H, co_c H]
  · intro n i hi hn
    refine br_f (nI_ge (b := 20) hi (by decide)) ⟨in20 ha hi, in20 hb hi, y_mod ?_⟩
    rw [cl20 ha hi, cl20 hb hi, stR_out (by omega), stR_out (by omega), p2 i hi, q2 i hi, hf]
    exact ⟨in20 ha hi, nm_r (e' := upd (stR a_c (20 * a) i (fun i => cI (co p i + f * co q i))) (20 * a + i) (cI (co p i + f * co q i))) rfl (nm_r (nI_1 i) hn)⟩
theorem y_scale {R : Type} [Lean.Grind.CommRing R] {co : R → Nat → Fin 5} (H : PL co) {M : Nat → Option R} {p : R} {a : Nat} {x : Fin 5} {post : SY → Prop} (h : RY co a_c M) (ha : a < 90) (hp : M a = some p)
    (K : ∀ c, RY co c (uo M a (mo co x 0 * p)) → post (f_count, f_place, f_opens, f_top, f_fault, f_faultAt, f_dry, f_found, c, a_there, a_kind, a_num, a_open, a_openAt, a_power, a_table)) : wpY_scale post (f_count, f_place, f_opens, f_top, f_fault, f_faultAt, f_dry, f_found, a_c, a_there, a_kind, a_num, a_open, a_openAt, a_power, a_table) (nI a) (cI x) := by
  unfold wpY_scale
  obtain ⟨p1, p2⟩ := h a ha p hp
  refine ⟨21, st_loop (fun n i c => wY_scale_2 post (nI a) (cI x) f_count f_place f_opens f_top f_fault f_faultAt f_dry f_found n (nI i) c a_there a_kind a_num a_open a_openAt a_power a_table) a_c (20 * a) 20 (fun i => cI (co p i * x)) ?_ ?_ 21 (by omega)⟩
  · intro n
    refine br_t (nI_le (a := 20) (b := 20) (by decide) (by decide)) (K _ (ry_up h ?_ (fun k hk => ?_) (fun j hj => stR_out hj)))
    · exact dl_le H (fun n hn => by rw [co_c H, dl_hi H (a := p) (by omega), f5_m0])
    · rw [stR_in hk, co_c H, f5_mcm]
  · intro n i hi hn
    refine br_f (nI_ge (b := 20) hi (by decide)) ⟨in20 ha hi, y_mod ?_⟩
    rw [cl20 ha hi, stR_out (by omega), p2 i hi, c_mulm]
    exact ⟨in20 ha hi, nm_r (e' := upd (stR a_c (20 * a) i (fun i => cI (co p i * x))) (20 * a + i) (cI (co p i * x))) rfl (nm_r (nI_1 i) hn)⟩
theorem y_derive {R : Type} [Lean.Grind.CommRing R] {co : R → Nat → Fin 5} (H : PL co) {M : Nat → Option R} {p : R} {a b : Nat} {post : SY → Prop} (h : RY co a_c M) (ha : a < 90) (hb : b < 90) (hab : a ≠ b) (hp : M a = some p)
    (K : ∀ c, RY co c (uo M b (de co p)) → post (f_count, f_place, f_opens, f_top, f_fault, f_faultAt, f_dry, f_found, c, a_there, a_kind, a_num, a_open, a_openAt, a_power, a_table)) : wpY_derive post (f_count, f_place, f_opens, f_top, f_fault, f_faultAt, f_dry, f_found, a_c, a_there, a_kind, a_num, a_open, a_openAt, a_power, a_table) (nI a) (nI b) := by
  unfold wpY_derive
  refine y_become H h hb (x := 0) (by decide) (fun c hx => ?_)
  obtain ⟨p1, p2⟩ := hx a ha p (by rw [uo_n hab]; exact hp)
  obtain ⟨z1, z2⟩ := hx b hb _ uo_s
  refine ⟨21, st_loop (fun n i c => wY_derive_8 post (nI a) (nI b) f_count f_place f_opens f_top f_fault f_faultAt f_dry f_found n (nI (i + 1)) c a_there a_kind a_num a_open a_openAt a_power a_table) c (20 * b) 19 (fun i => cI (Fin.ofNat 5 (i + 1) * co p (i + 1))) ?_ ?_ 21 (by omega)⟩
  · intro n
    refine br_t (nI_le (a := 20) (b := 20) (by decide) (by decide)) (K _ (ry_ex (ry_up (a := b) (p := de co p) hx ?_ (fun k hk => ?_) (fun j hj => stR_out (by omega))) ?_))
    · exact Nat.le_trans (de_dl H p (dl co p) (by omega)) p1
    · rw [de_co H]
      by_cases e : k < 19
      · rw [stR_in e]
      · rw [stR_out (by omega), z2 k hk, dl_hi H (a := p) (by omega), f5_m0, mo_0 H, pl_0 H]
    · intro r p' hr
      unfold uo at *
      by_cases q : r = b
      · rw [if_pos q] at hr ⊢; exact hr
      · rw [if_neg q] at hr ⊢; rw [if_neg q]; exact hr
  · intro n i hi hn
    refine br_f (nI_ge (a := i + 1) (b := 20) (by omega) (by decide)) ⟨in20 ha (by omega), y_mod ?_⟩
    rw [ix20 b (i + 1), ← Nat.add_assoc, nI_pred, nI_clamp (by omega), cl20 ha (by omega), stR_out (by omega), p2 (i + 1) (by omega), c_derm ⟨i + 1, by omega⟩]
    exact ⟨vp_in_nI (by omega) (by omega), nm_r (e' := upd (stR c (20 * b) i (fun i => cI (Fin.ofNat 5 (i + 1) * co p (i + 1)))) (20 * b + i) (cI (Fin.ofNat 5 (i + 1) * co p (i + 1)))) rfl (nm_r (nI_1 _) hn)⟩
theorem y_val_l {R : Type} [Lean.Grind.CommRing R] {co : R → Nat → Fin 5} (H : PL co) {p : R} {a : Nat} {x : Fin 5} {post : Int32 → Prop} (ha : a < 90) (hd : dl co p ≤ 20) (hc : ∀ k, k < 20 → a_c (20 * a + k) = cI (co p k)) (K : post (cI (vv co p x))) :
    ∀ j, j ≤ 20 → ∀ n, j < n → wY_valueOf_6 post (nI a) (cI x) f_count f_place f_opens f_top f_fault f_faultAt f_dry f_found a_c a_there a_kind a_num a_open a_openAt a_power a_table n (cI (ev (fun i => co p (j + i)) x (20 - j))) (tI j) := by
  intro j
  induction j with
  | zero =>
    intro _ n hn
    obtain ⟨n, rfl⟩ : ∃ m, n = m + 1 := ⟨n - 1, by omega⟩
    refine br_t (by decide) ?_
    rw [Nat.sub_zero, ev_congr x _ (fun i => co p (0 + i)) (co p) (fun i _ => by rw [Nat.zero_add]), ev_more x (dl co p) 20 (co p) hd (fun i h1 _ => dl_hi H h1)]
    exact K
  | succ j ih =>
    intro hj n hn
    obtain ⟨n, rfl⟩ : ∃ m, n = m + 1 := ⟨n - 1, by omega⟩
    have ei : 20 * nI a + tI (j + 1) = nI (20 * a + j) := by rw [ti_succ, ix20]
    refine br_f (by rw [ti_neg (by omega)]; omega) ⟨by rw [ei]; exact vp_in_nI (by omega) (by omega), y_mod ?_⟩
    rw [ei, nI_clamp (by omega), hc j (by omega), c_horm, ← ev_step (co p) x (by omega)]
    exact nm_r (e' := tI j) (by rw [ti_succ]; rfl) (ih (by omega) n (by omega))
theorem y_valueOf {R : Type} [Lean.Grind.CommRing R] {co : R → Nat → Fin 5} (H : PL co) {M : Nat → Option R} {p : R} {a : Nat} {x : Fin 5} {post : Int32 → Prop} (h : RY co a_c M) (ha : a < 90) (hp : M a = some p) (K : post (cI (vv co p x))) : wpY_valueOf post (f_count, f_place, f_opens, f_top, f_fault, f_faultAt, f_dry, f_found, a_c, a_there, a_kind, a_num, a_open, a_openAt, a_power, a_table) (nI a) (cI x) := by
  unfold wpY_valueOf
  obtain ⟨p1, p2⟩ := h a ha p hp
  refine ⟨21, ?_⟩
  have e : (0 : Int32) = cI (ev (fun i => co p (20 + i)) x (20 - 20)) := rfl
  rw [e, show (19 : Int32) = tI 20 from by decide]
  exact y_val_l H ha p1 p2 K 20 (Nat.le_refl _) 21 (by omega)
theorem y_size {R : Type} [Lean.Grind.CommRing R] {co : R → Nat → Fin 5} (H : PL co) {M : Nat → Option R} {p q : R} {a : Nat} {post : Int32 → Prop} (h : RY co a_c M) (ha : 2 * a + 1 < 90) (hp : M (2 * a) = some p) (hq : M (2 * a + 1) = some q) (K : post (nI (sz co p q))) : wpY_size post (f_count, f_place, f_opens, f_top, f_fault, f_faultAt, f_dry, f_found, a_c, a_there, a_kind, a_num, a_open, a_openAt, a_power, a_table) (nI a) := by
  unfold wpY_size
  have e2 : 2 * nI a = nI (2 * a) := by rw [show (2 : Int32) = nI 2 from rfl, pk_mul]
  have l1 := (h _ (by omega) p hp).1
  have l2 := (h _ ha q hq).1
  dsimp only
  rw [e2, nI_1]
  refine y_deg H h (by omega) hp ?_
  refine y_deg H h (by omega) hq ?_
  unfold sz at K
  by_cases c : dl co p ≤ dl co q
  · rw [Nat.max_eq_right c] at K
    refine br_t ((ti_tle (by omega) (by omega)).mpr c) ?_
    by_cases z : dl co q = 0
    · rw [z] at K ⊢
      exact br_f (by decide) K
    · obtain ⟨j, ej⟩ : ∃ j, dl co q = j + 1 := ⟨dl co q - 1, by omega⟩
      rw [ej] at K ⊢
      rw [ti_succ]
      exact br_t (nI_pos' (by omega)) K
  · rw [Nat.max_eq_left (by omega)] at K
    refine br_f (by rw [ti_tle (by omega) (by omega)]; exact c) ?_
    obtain ⟨j, ej⟩ : ∃ j, dl co p = j + 1 := ⟨dl co p - 1, by omega⟩
    rw [ej] at K ⊢
    rw [ti_succ]
    exact K
end
end
section
/-! multiplication and division in the reference -/
def psY (f g : Nat → Fin 5) (i k n : Nat) : Fin 5 :=
  sm_s (fun j => if j ≤ n then f j * g (n - j) else 0) i + (if i ≤ n ∧ n - i < k then f i * g (n - i) else 0)
theorem psY_row (f g : Nat → Fin 5) {i n : Nat} (hn : n < 20) : psY f g i (20 - i) n = psY f g (i + 1) 0 n := by
  unfold psY
  rw [if_neg (by omega : ¬ (i + 1 ≤ n ∧ n - (i + 1) < 0)), f5_a0]
  show _ = sm_s _ i + (if i ≤ n then f i * g (n - i) else 0)
  congr 1
  by_cases c : i ≤ n
  · rw [if_pos ⟨c, by omega⟩, if_pos c]
  · rw [if_neg (by omega), if_neg c]
theorem psY_s (f g : Nat → Fin 5) {i k n : Nat} : psY f g i (k + 1) n = if n = i + k then psY f g i k n + f i * g k else psY f g i k n := by
  unfold psY
  by_cases c : n = i + k
  · rw [if_pos c, if_pos (by omega), if_neg (by omega), f5_a0, show n - i = k by omega]
  · rw [if_neg c]
    congr 1
    by_cases q : i ≤ n ∧ n - i < k
    · rw [if_pos q, if_pos (by omega)]
    · rw [if_neg q, if_neg (by omega)]
theorem psY_0 (f g : Nat → Fin 5) (n : Nat) : psY f g 0 0 n = 0 := by
  unfold psY
  rw [if_neg (by omega)]; rfl
theorem psY_end (f g : Nat → Fin 5) {n : Nat} (hn : n < 20) : psY f g 20 0 n = cv f g n := by
  unfold psY
  rw [if_neg (by omega), f5_a0]
  unfold cv
  have k2 : ∀ N, n + 1 ≤ N → sm_s (fun j => if j ≤ n then f j * g (n - j) else 0) N = sm_s (fun j => if j ≤ n then f j * g (n - j) else 0) (n + 1) := by
    intro N
    induction N with
    | zero => intro h0; omega
    | succ N ih =>
      intro h0
      by_cases c : n = N
      · rw [c]
      · show sm_s _ N + (if N ≤ n then f N * g (n - N) else 0) = _
        rw [ih (by omega), if_neg (by omega), f5_a0]
  rw [k2 20 (by omega)]
  exact sm_congr _ (fun j hj => if_pos (by omega))
section
variable {f_count f_place f_opens f_top f_fault f_faultAt f_dry f_found : Int32} {a_c a_there a_kind a_num a_open a_openAt a_power a_table : Nat → Int32}
theorem y_pro_19 {f g : Nat → Fin 5} {c0 : Nat → Int32} {a b z i : Nat} {post : SY → Prop} {J : Int32 → (Nat → Int32) → (Nat → Int32) → (Nat → Int32) → (Nat → Int32) → (Nat → Int32) → (Nat → Int32) → (Nat → Int32) → (Nat → Int32) → Prop} (ha : a < 90) (hb : b < 90) (hz : z < 90) (haz : a ≠ z) (hbz : b ≠ z) (hi : i < 20) (hp : ∀ k, k < 20 → c0 (20 * a + k) = cI (f k)) (hq : ∀ k, k < 20 → c0 (20 * b + k) = cI (g k))
    (K : ∀ c, (∀ n, n < 20 → c (20 * z + n) = cI (psY f g (i + 1) 0 n)) → (∀ j, (j < 20 * z ∨ 20 * z + 20 ≤ j) → c j = c0 j) → J (nI (i + 1)) c a_there a_kind a_num a_open a_openAt a_power a_table) : ∀ d k, k + d = 20 - i → ∀ c, (∀ n, n < 20 → c (20 * z + n) = cI (psY f g i k n)) → (∀ j, (j < 20 * z ∨ 20 * z + 20 ≤ j) → c j = c0 j) → ∀ n, d < n → wY_product_19 post J (nI a) (nI b) (nI z) (nI i) f_count f_place f_opens f_top f_fault f_faultAt f_dry f_found n (nI k) c a_there a_kind a_num a_open a_openAt a_power a_table := by
  intro d
  induction d with
  | zero =>
    intro k hk c hc hout n hn
    obtain ⟨n, rfl⟩ : ∃ m, n = m + 1 := ⟨n - 1, by omega⟩
    refine br_t (by rw [nI_add]; exact nI_le (a := 20) (by omega) (by omega)) (nm_r (nI_1 i) (K c (fun n hn => ?_) hout))
    rw [hc n hn, show k = 20 - i by omega, psY_row f g hn]
  | succ d ih =>
    intro k hk c hc hout n hn
    obtain ⟨n, rfl⟩ : ∃ m, n = m + 1 := ⟨n - 1, by omega⟩
    have e : 20 * nI z + nI i + nI k = nI (20 * z + (i + k)) := by rw [ix20, nI_add]; congr 1; omega
    refine br_f (by rw [nI_add]; exact nI_ge (b := 20) (by omega) (by decide)) ⟨by rw [e]; exact vp_in_nI (by omega) (by omega), in20 ha hi, in20 hb (by omega), y_mod ?_⟩
    rw [e, nI_clamp (by omega), cl20 ha hi, cl20 hb (by omega), hout (20 * a + i) (by omega), hout (20 * b + k) (by omega), hp i hi, hq k (by omega), hc _ (by omega), c_addm]
    refine ⟨vp_in_nI (by omega) (by omega), nm_e (nm_r (nI_1 k) (ih (k + 1) (by omega) _ (fun n hn => ?_) (fun j hj => ?_) n (by omega)))⟩
    · rw [psY_s]
      by_cases q : n = i + k
      · rw [if_pos q, q]; exact pk_us
      · rw [if_neg q, pk_un (by omega)]; exact hc n hn
    · rw [pk_un (by omega)]; exact hout j hj
theorem y_pro_9 {f g : Nat → Fin 5} {c0 : Nat → Int32} {a b z : Nat} {post : SY → Prop} (ha : a < 90) (hb : b < 90) (hz : z < 90) (haz : a ≠ z) (hbz : b ≠ z) (hp : ∀ k, k < 20 → c0 (20 * a + k) = cI (f k)) (hq : ∀ k, k < 20 → c0 (20 * b + k) = cI (g k))
    (K : ∀ c, (∀ n, n < 20 → c (20 * z + n) = cI (cv f g n)) → (∀ j, (j < 20 * z ∨ 20 * z + 20 ≤ j) → c j = c0 j) → post (f_count, f_place, f_opens, f_top, f_fault, f_faultAt, f_dry, f_found, c, a_there, a_kind, a_num, a_open, a_openAt, a_power, a_table)) : ∀ d i, i + d = 20 → ∀ c, (∀ n, n < 20 → c (20 * z + n) = cI (psY f g i 0 n)) → (∀ j, (j < 20 * z ∨ 20 * z + 20 ≤ j) → c j = c0 j) → ∀ n, d < n → wY_product_9 post (nI a) (nI b) (nI z) f_count f_place f_opens f_top f_fault f_faultAt f_dry f_found n (nI i) c a_there a_kind a_num a_open a_openAt a_power a_table := by
  intro d
  induction d with
  | zero =>
    intro i hi c hc hout n hn
    obtain ⟨n, rfl⟩ : ∃ m, n = m + 1 := ⟨n - 1, by omega⟩
    refine br_t (nI_le (a := 20) (by omega) (by omega)) (K c (fun n hn => ?_) hout)
    rw [hc n hn, show i = 20 by omega, psY_end f g hn]
  | succ d ih =>
    intro i hi c hc hout n hn
    obtain ⟨n, rfl⟩ : ∃ m, n = m + 1 := ⟨n - 1, by omega⟩
    refine br_f (nI_ge (b := 20) (by omega) (by decide)) ⟨21, ?_⟩
    exact y_pro_19 ha hb hz haz hbz (by omega) hp hq (fun c' h1 h2 => ih (i + 1) (by omega) c' h1 h2 n (by omega)) (20 - i) 0 (by omega) c hc hout 21 (by omega)
theorem y_product {R : Type} [Lean.Grind.CommRing R] {co : R → Nat → Fin 5} (H : PL co) {M : Nat → Option R} {p q : R} {a b z : Nat} {post : SY → Prop} (h : RY co a_c M) (ha : a < 90) (hb : b < 90) (hz : z < 90) (haz : a ≠ z) (hbz : b ≠ z) (hp : M a = some p) (hq : M b = some q) (hd : dl co p + dl co q ≤ 21)
    (K : ∀ c, RY co c (uo M z (p * q)) → post (f_count, f_place, f_opens, f_top, f_fault, f_faultAt, f_dry, f_found, c, a_there, a_kind, a_num, a_open, a_openAt, a_power, a_table)) : wpY_product post (f_count, f_place, f_opens, f_top, f_fault, f_faultAt, f_dry, f_found, a_c, a_there, a_kind, a_num, a_open, a_openAt, a_power, a_table) (nI a) (nI b) (nI z) := by
  unfold wpY_product
  refine y_become H h hz (x := 0) (by decide) (fun c hx => ⟨21, ?_⟩)
  obtain ⟨p1, p2⟩ := hx a ha p (by rw [uo_n haz]; exact hp)
  obtain ⟨q1, q2⟩ := hx b hb q (by rw [uo_n hbz]; exact hq)
  obtain ⟨z1, z2⟩ := hx z hz _ uo_s
  refine y_pro_9 (c0 := c) ha hb hz haz hbz p2 q2 (fun c' h1 h2 => K c' (ry_ex (ry_up (a := z) (p := p * q) hx ?_ (fun k hk => ?_) h2) ?_)) 20 0 (by omega) c (fun n hn => ?_) (fun j _ => rfl) 21 (by omega)
  · have := dl_mul_le H p q
    omega
  · rw [h1 k hk, pl_mul H]
  · intro r p' hr
    unfold uo at *
    by_cases q : r = z
    · rw [if_pos q] at hr ⊢; exact hr
    · rw [if_neg q] at hr ⊢; rw [if_neg q]; exact hr
  · rw [z2 n hn, mo_0 H, pl_0 H, psY_0]
theorem y_div_93 {f : Fin 5} {g r : Nat → Fin 5} {c0 : Nat → Int32} {b z d up e : Nat} {x3 x6 : Int32} {post : SY → Prop} {J : Int32 → (Nat → Int32) → (Nat → Int32) → (Nat → Int32) → (Nat → Int32) → (Nat → Int32) → (Nat → Int32) → (Nat → Int32) → (Nat → Int32) → Prop} (hb : b < 90) (hz : z < 90) (hbz : b ≠ z) (he : e < 20) (hu : e = d + up) (hq : ∀ k, k < 20 → c0 (20 * b + k) = cI (g k)) (hr : ∀ k, k < 20 → c0 (20 * z + k) = cI (r k))
    (K : J (tI e) (stR c0 (20 * z + up) (d + 1) (fun k => cI (r (up + k) - f * g k))) a_there a_kind a_num a_open a_openAt a_power a_table) : ∀ n, d + 1 < n → wY_divide_93 post J (nI b) x3 (nI z) (nI d) x6 (nI e) (cI f) f_count f_place f_opens f_top f_fault f_faultAt f_dry f_found n 0 c0 a_there a_kind a_num a_open a_openAt a_power a_table := by
  have ee : ∀ k, 20 * nI z + nI e - nI d + nI k = nI (20 * z + up + k) := by
    intro k
    rw [ix20, pk_sub (by omega), nI_add]
    congr 1
    omega
  refine st_loop (fun n i c => wY_divide_93 post J (nI b) x3 (nI z) (nI d) x6 (nI e) (cI f) f_count f_place f_opens f_top f_fault f_faultAt f_dry f_found n (nI i) c a_there a_kind a_num a_open a_openAt a_power a_table) c0 (20 * z + up) (d + 1) (fun k => cI (r (up + k) - f * g k)) ?_ ?_
  · intro n
    exact br_t (nI_lt (by omega) (by omega)) (nm_r (e' := tI e) rfl K)
  · intro n i hi hn
    refine br_f (nI_nlt (by omega) (by omega)) ?_
    rw [ee]
    refine ⟨vp_in_nI (by omega) (by omega), in20 hb (by omega), y_mod ?_⟩
    rw [cl20 hb (by omega), nI_clamp (by omega), stR_out (by omega), stR_out (by omega), hq i (by omega), show 20 * z + up + i = 20 * z + (up + i) by omega, hr (up + i) (by omega), c_subm]
    refine ⟨vp_in_nI (by omega) (by omega), nm_r (e' := upd (stR c0 (20 * z + up) i (fun k => cI (r (up + k) - f * g k))) (20 * z + up + i) (cI (r (up + i) - f * g i))) (by rw [show 20 * z + (up + i) = 20 * z + up + i by omega]) (nm_r (nI_1 i) hn)⟩
theorem y_div_45 {R : Type} [Lean.Grind.CommRing R] {co : R → Nat → Fin 5} (H : PL co) {M : Nat → Option R} {p q : R} {b y z : Nat} {post : SY → Prop} (hb : b < 90) (hy : y < 90) (hz : z < 90) (hby : b ≠ y) (hbz : b ≠ z) (hyz : y ≠ z) (nq : q ≠ 0) (q9 : dl co q ≤ 20) (hM : M b = some q)
    (K : ∀ c, RY co c (uo (uo M y (qo co p q)) z (rm co p q)) → post (f_count, f_place, f_opens, f_top, f_fault, f_faultAt, f_dry, f_found, c, a_there, a_kind, a_num, a_open, a_openAt, a_power, a_table)) : ∀ E (r u : R) c, dl co r ≤ E → E ≤ 20 → RY co c (uo (uo M y u) z r) → p = u * q + r → (∀ k, k + dl co q ≤ E → co u k = 0) → ∀ n, E < n → wY_divide_45 post (nI b) (nI y) (nI z) (tI (dl co q)) (cI (ld co q * ld co q * ld co q)) f_count f_place f_opens f_top f_fault f_faultAt f_dry f_found n (tI E) c a_there a_kind a_num a_open a_openAt a_power a_table := by
  have dq := dl_ne H nq
  intro E
  induction E with
  | zero =>
    intro r u c hr hE hx e hu n hn
    obtain ⟨n, rfl⟩ : ∃ m, n = m + 1 := ⟨n - 1, by omega⟩
    have s := qr_un H e (by omega)
    refine br_t (by rw [ti_tlt (by omega) (by omega)]; omega) (K c ?_)
    rw [s.1, s.2]
    exact hx
  | succ E ih =>
    intro r u c hr hE hx e hu n hn
    obtain ⟨n, rfl⟩ : ∃ m, n = m + 1 := ⟨n - 1, by omega⟩
    by_cases lt : E + 1 < dl co q
    · have s := qr_un H e (by omega)
      refine br_t (by rw [ti_tlt (by omega) (by omega)]; omega) (K c ?_)
      rw [s.1, s.2]
      exact hx
    · obtain ⟨r1, r2⟩ := hx z hz r uo_s
      obtain ⟨q1, q2⟩ := hx b hb q (by rw [uo_n hbz, uo_n hby]; exact hM)
      obtain ⟨u1, u2⟩ := hx y hy u (by rw [uo_n hyz]; exact uo_s)
      obtain ⟨D, hD⟩ : ∃ D, dl co q = D + 1 := ⟨dl co q - 1, by omega⟩
      refine br_f (by rw [ti_tlt (by omega) (by omega)]; omega) ?_
      rw [ti_succ]
      refine ⟨in20 hz (by omega), y_mod ?_⟩
      rw [cl20 hz (by omega), r2 E (by omega), c_mulm, hD, ti_succ]
      generalize ef : co r E * (ld co q * ld co q * ld co q) = f
      generalize ek : E - D = k
      have ei : 20 * nI y + nI E - nI D = nI (20 * y + k) := by
        rw [ix20, pk_sub (by omega)]; congr 1; omega
      rw [ei, nI_clamp (by omega)]
      refine ⟨vp_in_nI (by omega) (by omega), nm_e ⟨22, ?_⟩⟩
      refine y_div_93 (up := k) (g := co q) (r := co r) hb hz hbz (by omega) (by omega) (fun j hj => by rw [pk_un (by omega)]; exact q2 j hj) (fun j hj => by rw [pk_un (by omega)]; exact r2 j hj) ?_ 22 (by omega)
      rw [← ti_succ D, ← hD]
      have cu : ∀ n, co (u + mo co f k) n = co u n + (if n = k then f else 0) := fun n => by rw [pl_add H, mo_co H]
      have cr : ∀ n, co (r - mo co f k * q) n = co r n - (if k ≤ n then f * co q (n - k) else 0) := fun n => by rw [pl_sub H, co_mo H]
      have h1 : RY co (upd c (20 * y + k) (cI f)) (uo (uo M y (u + mo co f k)) z r) := by
        have := ry_up (a := y) (c' := upd c (20 * y + k) (cI f)) (p := u + mo co f k) hx (dl_add H u1 (dl_le H (fun n hn => by rw [mo_co H, if_neg (by omega)]))) (fun j hj => ?_) (fun j hj => pk_un (by omega))
        · refine ry_ex this (fun r' p' hp => ?_)
          by_cases w1 : r' = z
          · rw [w1, uo_s] at hp
            rw [w1, uo_n (Ne.symm hyz), uo_s]; exact hp
          · rw [uo_n w1] at hp
            by_cases w2 : r' = y
            · rw [w2, uo_s] at hp
              rw [w2, uo_s]; exact hp
            · rw [uo_n w2] at hp
              rw [uo_n w2, uo_n w1, uo_n w2]; exact hp
        · rw [cu]
          by_cases w : j = k
          · rw [if_pos w, w, pk_us, hu k (by omega), f5_0a]
          · rw [if_neg w, pk_un (by omega), f5_a0]; exact u2 j hj
      have h2 : RY co (stR (upd c (20 * y + k) (cI f)) (20 * z + k) (D + 1) (fun j => cI (co r (k + j) - f * co q j))) (uo (uo M y (u + mo co f k)) z (r - mo co f k * q)) := by
        have := ry_up (a := z) (c' := stR (upd c (20 * y + k) (cI f)) (20 * z + k) (D + 1) (fun j => cI (co r (k + j) - f * co q j))) (p := r - mo co f k * q) h1 (dl_le H (fun n hn => ?_)) (fun j hj => ?_) (fun j hj => stR_out (by omega))
        · refine ry_ex this (fun r' p' hp => ?_)
          by_cases w1 : r' = z
          · rw [w1, uo_s] at hp
            rw [w1, uo_s]; exact hp
          · rw [uo_n w1] at hp
            rw [uo_n w1, uo_n w1]; exact hp
        · rw [cr, dl_hi H (a := r) (by omega), if_pos (by omega), dl_hi H (a := q) (by omega), f5_m0]; rfl
        · rw [cr]
          by_cases w : k ≤ j ∧ j < k + (D + 1)
          · have := stR_in (c := upd c (20 * y + k) (cI f)) (b := 20 * z + k) (w := D + 1) (i := j - k) (f := fun j => cI (co r (k + j) - f * co q j)) (by omega)
            rw [show 20 * z + k + (j - k) = 20 * z + j by omega] at this
            rw [this, if_pos w.1, show k + (j - k) = j by omega]
          · rw [stR_out (by omega), pk_un (by omega), r2 j hj]
            have x0 : ∀ x : Fin 5, x - 0 = x := by decide
            by_cases w3 : k ≤ j
            · rw [if_pos w3, dl_hi H (a := q) (by omega), f5_m0, x0]
            · rw [if_neg w3, x0]
      rw [← hD] at h2
      refine ih (r - mo co f k * q) (u + mo co f k) _ ?_ (by omega) h2 (by grind) (fun j hj => ?_) n (by omega)
      · refine dl_le H (fun n hn => ?_)
        rw [cr, if_pos (by omega)]
        by_cases w : n = E
        · rw [w, show E - k = dl co q - 1 by omega]
          show co r E - f * ld co q = 0
          rw [← ef]
          have : ∀ x y : Fin 5, y ≠ 0 → x - x * (y * y * y) * y = 0 := by decide
          exact this _ _ (ld_ne H nq)
        · rw [dl_hi H (a := r) (by omega), dl_hi H (a := q) (by omega), f5_m0]; rfl
      · rw [cu, if_neg (by omega), hu j (by omega)]; rfl
theorem y_divide {R : Type} [Lean.Grind.CommRing R] {co : R → Nat → Fin 5} (H : PL co) {M : Nat → Option R} {p q : R} {a b y z : Nat} {post : SY → Prop} (h : RY co a_c M) (ha : a < 90) (hb : b < 90) (hy : y < 90) (hz : z < 90) (hby : b ≠ y) (hbz : b ≠ z) (hyz : y ≠ z) (hp : M a = some p) (hq : M b = some q) (nq : q ≠ 0)
    (K : ∀ c, RY co c (uo (uo M y (qo co p q)) z (rm co p q)) → post (f_count, f_place, f_opens, f_top, f_fault, f_faultAt, f_dry, f_found, c, a_there, a_kind, a_num, a_open, a_openAt, a_power, a_table)) : wpY_divide post (f_count, f_place, f_opens, f_top, f_fault, f_faultAt, f_dry, f_found, a_c, a_there, a_kind, a_num, a_open, a_openAt, a_power, a_table) (nI a) (nI b) (nI y) (nI z) := by
  unfold wpY_divide
  obtain ⟨q1, q2⟩ := h b hb q hq
  obtain ⟨p1, p2⟩ := h a ha p hp
  have dq := dl_ne H nq
  refine y_deg H h hb hq ?_
  obtain ⟨D, hD⟩ : ∃ D, dl co q = D + 1 := ⟨dl co q - 1, by omega⟩
  have cD : co q D = ld co q := by unfold ld; rw [hD, Nat.add_sub_cancel]
  refine ⟨by rw [hD, ti_succ]; exact in20 hb (by omega), ?_⟩
  have e : a_c (20 * nI b + tI (dl co q)).toNatClampNeg = cI (ld co q) := by
    rw [hD, ti_succ, cl20 hb (by omega), q2 D (by omega), cD]
  rw [e]
  refine y_inverse ?_
  refine y_copy H h ha hz hp (fun c1 x1 => ?_)
  refine y_become H x1 hy (x := 0) (by decide) (fun c2 x2 => ?_)
  refine y_deg H x2 hz (p := p) (by rw [uo_n (Ne.symm hyz)]; exact uo_s) ⟨21, ?_⟩
  refine y_div_45 H hb hy hz hby hbz hyz nq q1 hq K (dl co p) p 0 c2 (Nat.le_refl _) p1 (ry_ex x2 (fun r p' hr => ?_)) (by grind) (fun k _ => pl_0 H k) 21 (by omega)
  by_cases w1 : r = z
  · rw [w1, uo_s] at hr
    rw [w1, uo_n (Ne.symm hyz), uo_s]; exact hr
  · rw [uo_n w1] at hr
    by_cases w2 : r = y
    · rw [w2, uo_s] at hr
      rw [w2, uo_s, mo_0 H]; exact hr
    · rw [uo_n w2] at hr
      rw [uo_n w2, uo_n w1]; exact hr
end
end
section
/-! trial division, pure -/
noncomputable def mon {R : Type} [Lean.Grind.CommRing R] (co : R → Nat → Fin 5) (d t : Nat) : R := mkp co (fun k => if k = d then 1 else Fin.ofNat 5 (t / 5 ^ k)) (d + 1)
theorem mon_co {R : Type} [Lean.Grind.CommRing R] {co : R → Nat → Fin 5} (H : PL co) (d t n : Nat) : co (mon co d t : R) n = if n < d + 1 then (if n = d then 1 else Fin.ofNat 5 (t / 5 ^ n)) else 0 := mk_co H _ _ _
theorem mon_dl {R : Type} [Lean.Grind.CommRing R] {co : R → Nat → Fin 5} (H : PL co) (d t : Nat) : dl co (mon co d t : R) = d + 1 ∧ Mo co (mon co d t : R) := by
  have e : co (mon co d t : R) d = 1 := by rw [mon_co H, if_pos (by omega), if_pos rfl]
  have l : dl co (mon co d t : R) = d + 1 := by
    refine dl_uniq H (fun n hn => ?_) (Or.inr ?_)
    · rw [mon_co H, if_neg (by omega)]
    · rw [Nat.add_sub_cancel, e]; decide
  refine ⟨l, ?_⟩
  show co _ (dl co _ - 1) = 1
  rw [l, Nat.add_sub_cancel, e]
theorem nbs_dig (t : Nat) : ∀ d, nbs (fun k => Fin.ofNat 5 (t / 5 ^ k)) d = t % 5 ^ d := by
  intro d
  induction d with
  | zero => rw [Nat.pow_zero, Nat.mod_one]; rfl
  | succ d ih =>
    show nbs (fun k => Fin.ofNat 5 (t / 5 ^ k)) d + (t / 5 ^ d % 5) * 5 ^ d = t % 5 ^ (d + 1)
    rw [ih, Nat.pow_succ, Nat.mod_mul, Nat.mul_comm]
theorem mon_nb {R : Type} [Lean.Grind.CommRing R] {co : R → Nat → Fin 5} (H : PL co) {d t : Nat} (hd : d < 24) (ht : t < 5 ^ d) : nb co (mon co d t : R) = 5 ^ d + t := by
  have l := mon_dl H (co := co) d t
  rw [nb_mon H l.1 hd l.2, nbs_congr (g := fun k => Fin.ofNat 5 (t / 5 ^ k)) d (fun i hi => by rw [mon_co H, if_pos (by omega), if_neg (by omega)]), nbs_dig, Nat.mod_eq_of_lt ht]
  omega
theorem nb_lt {R : Type} [Lean.Grind.CommRing R] {co : R → Nat → Fin 5} (H : PL co) {f : R} {d : Nat} (h : dl co f ≤ d) (hd : d ≤ 24) : nb co f < 5 ^ d := by
  unfold nb
  rw [nbs_zero (co f) d 24 hd (fun i h1 _ => dl_hi H (by omega))]
  exact nbs_lt _ _
theorem nb_ge {R : Type} [Lean.Grind.CommRing R] {co : R → Nat → Fin 5} (H : PL co) {f : R} {d : Nat} (h : d < dl co f) (hd : dl co f ≤ 24) : 5 ^ d ≤ nb co f := by
  have a := nb_deg H (a := mo co 1 d) (b := f) (by rw [dl_mo H (by decide)]; omega) hd
  by_cases e : dl co f = d + 1
  · unfold nb
    rw [nbs_zero (co f) (d + 1) 24 (by omega) (fun i h1 _ => dl_hi H (by omega))]
    show 5 ^ d ≤ nbs (co f) d + (co f d).val * 5 ^ d
    have l := dl_lead H (a := f) (by omega)
    rw [e, Nat.add_sub_cancel] at l
    have l' : 1 ≤ (co f d).val := by
      have : (co f d).val ≠ 0 := fun z => l (Fin.ext z)
      omega
    have := Nat.mul_le_mul_right (5 ^ d) l'
    omega
  · have b := a (by rw [dl_mo H (by decide)]; omega)
    refine Nat.le_of_lt (Nat.lt_of_le_of_lt ?_ b)
    unfold nb
    rw [nbs_zero (co (mo co 1 d)) (d + 1) 24 (by omega) (fun i h1 _ => by rw [mo_co H, if_neg (by omega)])]
    show 5 ^ d ≤ nbs (co (mo co 1 d)) d + (co (mo co 1 d : R) d).val * 5 ^ d
    rw [mo_co H, if_pos rfl]
    show 5 ^ d ≤ _ + 1 * 5 ^ d
    omega

/-- a list with one more at its end -/
def ap {α : Type} (g : Nat → α) (n : Nat) (x : α) : Nat → α := fun i => if i = n then x else g i
theorem ap_e {α : Type} {g : Nat → α} {n i : Nat} {x : α} (h : i = n) : ap g n x i = x := if_pos h
theorem ap_n {α : Type} {g : Nat → α} {n i : Nat} {x : α} (h : ¬ i = n) : ap g n x i = g i := if_neg h
/-- all irreducible polynomials with numbers below T are struck out of a; r is left -/
def Tr {R : Type} [Lean.Grind.CommRing R] (co : R → Nat → Fin 5) (a : R) (T : Nat) (r : R) (n : Nat) (g : Nat → R) (e : Nat → Nat) : Prop :=
  r ≠ 0 ∧ Dv r a ∧ (∀ f, Ir co f → Mo co f → nb co f < T → ¬ Dv f r ∧ (Dv f a → ∃ i, i < n ∧ g i = f)) ∧
  (∀ f, Ir co f → Mo co f → T ≤ nb co f → ∀ m, Vl f a m → Vl f r m) ∧
  (∀ i, i < n → Ir co (g i) ∧ Mo co (g i) ∧ 1 ≤ e i ∧ Vl (g i) a (e i) ∧ nb co (g i) < T) ∧
  (∀ i j, i < j → j < n → nb co (g i) < nb co (g j))
theorem tr_0 {R : Type} [Lean.Grind.CommRing R] {co : R → Nat → Fin 5} (H : PL co) {a : R} (ha : a ≠ 0) (hd : dl co a ≤ 9) (g : Nat → R) (e : Nat → Nat) : Tr co a 5 a 0 g e := by
  refine ⟨ha, dv_rfl a, fun f hf mf hn => ⟨fun d => ?_, fun d => ?_⟩, fun f _ _ _ m h => h, fun i h => absurd h (Nat.not_lt_zero i), fun i j _ h => absurd h (Nat.not_lt_zero j)⟩
  · have l := dv_dl H d ha
    have := nb_ge H (f := f) (d := 1) (by have := hf.1; omega) (by omega)
    omega
  · have l := dv_dl H d ha
    have := nb_ge H (f := f) (d := 1) (by have := hf.1; omega) (by omega)
    omega
theorem tr_dl {R : Type} [Lean.Grind.CommRing R] {co : R → Nat → Fin 5} (H : PL co) {a r : R} {T n : Nat} {g : Nat → R} {e : Nat → Nat} (ha : a ≠ 0) (h : Tr co a T r n g e) : dl co r ≤ dl co a := dv_dl H h.2.1 ha
theorem tr_no {R : Type} [Lean.Grind.CommRing R] {co : R → Nat → Fin 5} (H : PL co) {a r m : R} {T n : Nat} {g : Nat → R} {e : Nat → Nat} (ha : a ≠ 0) (hd : dl co a ≤ 9) (h : Tr co a T r n g e) (hm : nb co m = T) (hm9 : dl co m ≤ 24) (nd : ¬ Dv m r) : Tr co a (T + 1) r n g e := by
  obtain ⟨h1, h2, h3, h4, h5, h6⟩ := h
  refine ⟨h1, h2, fun f hf mf hn => ?_, fun f hf mf hn => h4 f hf mf (by omega), fun i hi => ?_, h6⟩
  · by_cases c : nb co f < T
    · exact h3 f hf mf c
    · have key : Dv f r ∨ Dv f a → f = m := fun d => by
        have l : dl co f ≤ 9 := by
          rcases d with d | d
          · exact Nat.le_trans (dv_dl H (dv_trans d h2) ha) hd
          · exact Nat.le_trans (dv_dl H d ha) hd
        exact nb_inj H (by omega) hm9 (by omega)
      refine ⟨fun d => nd (by rw [← key (Or.inl d)]; exact d), fun d => ?_⟩
      exfalso
      obtain ⟨j, hj⟩ := vl_ex H hf.1 ha
      have v := h4 f hf mf (by omega) j hj
      exact nd (by rw [← key (Or.inr d)]; exact vl_dv v (vl_pos hj d))
  · have := h5 i hi
    exact ⟨this.1, this.2.1, this.2.2.1, this.2.2.2.1, by omega⟩
theorem tr_ir {R : Type} [Lean.Grind.CommRing R] {co : R → Nat → Fin 5} (H : PL co) {a r m : R} {T n : Nat} {g : Nat → R} {e : Nat → Nat} (h : Tr co a T r n g e) (hm : nb co m = T) (hm9 : dl co m ≤ 24) (m2 : 2 ≤ dl co m) (mm : Mo co m) (d : Dv m r) : Ir co m := by
  obtain ⟨f, f1, f2, f3⟩ := ir_ex' H m2
  have l := dv_dl H f3 (mo_ne H mm)
  by_cases c : dl co f < dl co m
  · exact absurd (dv_trans f3 d) (h.2.2.1 f f1 f2 (by rw [← hm]; exact nb_deg H (by omega) hm9 c)).1
  · have : f = m := mo_eq H f2 mm f3 (by
      obtain ⟨w, hw⟩ := f3
      have nz : w * f ≠ 0 := by rw [← hw]; exact mo_ne H mm
      have d1 := dl_mul H (mul_l H nz) (mul_r H nz)
      rw [← hw] at d1
      have := dl_ne H (mul_l H nz)
      have := dl_ne H (mul_r H nz)
      obtain ⟨x, hx⟩ := un_dl H (a := w) (by omega)
      exact ⟨x, by grind⟩)
    rw [← this]; exact f1
theorem tr_yes {R : Type} [Lean.Grind.CommRing R] {co : R → Nat → Fin 5} (H : PL co) {a r r' m : R} {T n k : Nat} {g : Nat → R} {e : Nat → Nat} (ha : a ≠ 0) (hd : dl co a ≤ 9) (h : Tr co a T r n g e) (hm : nb co m = T) (hm9 : dl co m ≤ 24) (mi : Ir co m) (mm : Mo co m) (hk : 1 ≤ k) (er : r = m ^ k * r') (nd : ¬ Dv m r') :
    Tr co a (T + 1) r' (n + 1) (ap g n m) (ap e n k) := by
  obtain ⟨h1, h2, h3, h4, h5, h6⟩ := h
  have nr : m ^ k * r' ≠ 0 := by rw [← er]; exact h1
  have dr : Dv r' r := by rw [er]; exact dv_r _ _
  have vr : Vl m r k := by rw [er]; exact vl_mk H (ir_nz H mi) nd
  have va : Vl m a k := by
    obtain ⟨j, hj⟩ := vl_ex H mi.1 ha
    rw [← vl_un (h4 m mi mm (by omega) j hj) vr]
    exact hj
  refine ⟨mul_r H nr, dv_trans dr h2, fun f hf mf hn => ?_, fun f hf mf hn j hj => ?_, fun i hi => ?_, fun i j hij hj => ?_⟩
  · by_cases c : nb co f < T
    · have := h3 f hf mf c
      refine ⟨fun d => this.1 (dv_trans d dr), fun d => ?_⟩
      obtain ⟨i, hi, ei⟩ := this.2 d
      exact ⟨i, by omega, by rw [ap_n (by omega)]; exact ei⟩
    · have key : Dv f a → f = m := fun d => nb_inj H (Nat.le_trans (dv_dl H d ha) (by omega)) hm9 (by omega)
      refine ⟨fun d => ?_, fun d => ⟨n, by omega, by rw [ap_e rfl]; exact (key d).symm⟩⟩
      have := key (dv_trans d (dv_trans dr h2))
      rw [this] at d
      exact nd d
  · have v := h4 f hf mf (by omega) j hj
    have fm : f ≠ m := fun z => by rw [z] at hn; omega
    rw [er] at v
    have v0 : Vl f (m ^ k) 0 := vl_0.mpr (fun d => fm (ir_as H hf mi mf mm (ir_pw H hf d)))
    have := vl_quo H (m := j) hf (pow_nz H (ir_nz H mi) k) (mul_r H nr) (by rw [show r' * m ^ k = m ^ k * r' by grind]; exact v) v0
    rwa [Nat.sub_zero] at this
  · by_cases c : i = n
    · rw [ap_e c, ap_e c]
      exact ⟨mi, mm, hk, va, by omega⟩
    · rw [ap_n c, ap_n c]
      have := h5 i (by omega)
      exact ⟨this.1, this.2.1, this.2.2.1, this.2.2.2.1, by omega⟩
  · by_cases c : j = n
    · rw [ap_n (by omega), ap_e c, hm]
      exact (h5 i (by omega)).2.2.2.2
    · rw [ap_n (by omega), ap_n c]
      exact h6 i j hij (by omega)
/-- numbers that no monic polynomial has are passed over -/
theorem tr_up {R : Type} [Lean.Grind.CommRing R] {co : R → Nat → Fin 5} (H : PL co) {a r : R} {d n : Nat} {g : Nat → R} {e : Nat → Nat} (ha : a ≠ 0) (hd : dl co a ≤ 9) (h : Tr co a (5 ^ d + 5 ^ d) r n g e) : Tr co a (5 ^ (d + 1)) r n g e := by
  obtain ⟨h1, h2, h3, h4, h5, h6⟩ := h
  have pp : 5 ^ (d + 1) = 5 * 5 ^ d := by rw [Nat.pow_succ, Nat.mul_comm]
  have gap : ∀ f, Ir co f → Mo co f → dl co f ≤ 9 → nb co f < 5 ^ (d + 1) → nb co f < 5 ^ d + 5 ^ d := by
    intro f hf mf hl hn
    by_cases c : dl co f ≤ d + 1
    · by_cases c2 : dl co f = d + 1
      · rw [nb_mon H c2 (by omega) mf]
        have := nbs_lt (co f) d
        omega
      · have := nb_lt H (f := f) (d := dl co f) (Nat.le_refl _) (by omega)
        have : 5 ^ dl co f ≤ 5 ^ d := Nat.pow_le_pow_right (by omega) (by omega)
        omega
    · have := nb_ge H (f := f) (d := d + 1) (by omega) (by omega)
      omega
  refine ⟨h1, h2, fun f hf mf hn => ⟨fun dv => ?_, fun dv => ?_⟩, fun f hf mf hn => h4 f hf mf (by omega), fun i hi => ?_, h6⟩
  · exact (h3 f hf mf (gap f hf mf (Nat.le_trans (dv_dl H (dv_trans dv h2) ha) hd) hn)).1 dv
  · exact (h3 f hf mf (gap f hf mf (Nat.le_trans (dv_dl H dv ha) hd) hn)).2 dv
  · have := h5 i hi
    exact ⟨this.1, this.2.1, this.2.2.1, this.2.2.2.1, by omega⟩
theorem tr_end0 {R : Type} [Lean.Grind.CommRing R] {co : R → Nat → Fin 5} (H : PL co) {a r : R} {T n : Nat} {g : Nat → R} {e : Nat → Nat} (ha : a ≠ 0) (h : Tr co a T r n g e) (hr : dl co r ≤ 1) : Fc co a n g e := by
  obtain ⟨h1, h2, h3, h4, h5, h6⟩ := h
  refine ⟨fun i hi => ⟨(h5 i hi).1, (h5 i hi).2.1, (h5 i hi).2.2.1, (h5 i hi).2.2.2.1⟩, fun f hf mf d => ?_, h6⟩
  by_cases c : nb co f < T
  · exact (h3 f hf mf c).2 d
  · exfalso
    obtain ⟨j, hj⟩ := vl_ex H hf.1 ha
    have v := h4 f hf mf (by omega) j hj
    have := dv_dl H (vl_dv v (vl_pos hj d)) h1
    have := hf.1
    omega
theorem tr_end1 {R : Type} [Lean.Grind.CommRing R] {co : R → Nat → Fin 5} (H : PL co) {a r : R} {T n d : Nat} {g : Nat → R} {e : Nat → Nat} (ha : a ≠ 0) (hd : dl co a ≤ 9) (h : Tr co a T r n g e) (hr : 2 ≤ dl co r) (hT : 5 ^ d ≤ T) (h2d : dl co r ≤ 2 * d) :
    Fc co a (n + 1) (ap g n (mo co (ld co r * ld co r * ld co r) 0 * r)) (ap e n 1) := by
  obtain ⟨h1, h2, h3, h4, h5, h6⟩ := h
  have nx := f5_inv0 _ (ld_ne H h1)
  have l9 : dl co r ≤ 9 := Nat.le_trans (dv_dl H h2 ha) hd
  -- an irreducible divisor of r has degree d at least
  have big : ∀ f, Ir co f → Mo co f → Dv f r → T ≤ nb co f ∧ d < dl co f := by
    intro f hf mf dv
    have t : T ≤ nb co f := by
      by_cases c : nb co f < T
      · exact absurd dv (h3 f hf mf c).1
      · omega
    refine ⟨t, ?_⟩
    by_cases c : dl co f ≤ d
    · have l := dv_dl H dv h1
      have x := nb_lt H (f := f) (d := dl co f) (Nat.le_refl _) (by omega)
      have : 5 ^ dl co f ≤ 5 ^ d := Nat.pow_le_pow_right (by omega) c
      omega
    · omega
  have ir : Ir co r := by
    refine ⟨hr, fun x y e => ?_⟩
    have nz : x * y ≠ 0 := by rw [← e]; exact h1
    have dm := dl_mul H (mul_l H nz) (mul_r H nz)
    rw [← e] at dm
    have x1 := dl_ne H (mul_l H nz)
    have y1 := dl_ne H (mul_r H nz)
    by_cases cx : dl co x = 1
    · exact Or.inl cx
    · by_cases cy : dl co y = 1
      · exact Or.inr cy
      · exfalso
        obtain ⟨f, f1, f2, f3⟩ := ir_ex' H (a := x) (by omega)
        obtain ⟨f', f1', f2', f3'⟩ := ir_ex' H (a := y) (by omega)
        have b1 := big f f1 f2 (by rw [e]; exact dv_trans f3 (dv_l _ _))
        have b2 := big f' f1' f2' (by rw [e]; exact dv_trans f3' (dv_r _ _))
        have l1 := dv_dl H f3 (mul_l H nz)
        have l2 := dv_dl H f3' (mul_r H nz)
        omega
  generalize ez : mo co (ld co r * ld co r * ld co r) 0 * r = z
  have mz : Mo co z := by rw [← ez]; exact mo_mak H h1
  have dz : Dv z r := by rw [← ez]; exact dv_c2 H nx (dv_rfl r)
  have zr : Dv r z := by rw [← ez]; exact dv_r _ _
  have lz : dl co z = dl co r := by rw [← ez]; exact dl_unm H (dl_mo H nx 0)
  have iz : Ir co z := by
    obtain ⟨f, f1, f2, f3⟩ := ir_ex' H (a := z) (by omega)
    have := ir.2
    obtain ⟨w, hw⟩ := dv_trans f3 dz
    rcases ir.2 w f hw with c | c
    · obtain ⟨x, hx⟩ := un_dl H c
      have : f = z := mo_eq H f2 mz f3 (dv_trans dz ⟨x, by grind⟩)
      rw [← this]; exact f1
    · have := f1.1
      omega
  have bz := big z iz mz dz
  have vr : Vl z r 1 := by
    constructor
    · rw [Lean.Grind.Semiring.pow_one]; exact dz
    · intro c
      have := dv_dl H c h1
      rw [dl_pow H (mo_ne H mz)] at this
      omega
  refine ⟨fun i hi => ?_, fun f hf mf dv => ?_, fun i j hij hj => ?_⟩
  · by_cases c : i = n
    · rw [ap_e c, ap_e c]
      refine ⟨iz, mz, Nat.le_refl 1, ?_⟩
      obtain ⟨j, hj⟩ := vl_ex H iz.1 ha
      rw [← vl_un (h4 z iz mz bz.1 j hj) vr]
      exact hj
    · rw [ap_n c, ap_n c]
      have := h5 i (by omega)
      exact ⟨this.1, this.2.1, this.2.2.1, this.2.2.2.1⟩
  · by_cases c : nb co f < T
    · obtain ⟨i, hi, ei⟩ := (h3 f hf mf c).2 dv
      exact ⟨i, by omega, by rw [ap_n (by omega)]; exact ei⟩
    · refine ⟨n, by omega, ?_⟩
      rw [ap_e rfl]
      obtain ⟨j, hj⟩ := vl_ex H hf.1 ha
      have v := h4 f hf mf (by omega) j hj
      exact (ir_as H hf iz mf mz (dv_trans (vl_dv v (vl_pos hj dv)) zr)).symm
  · by_cases c : j = n
    · rw [ap_n (by omega), ap_e c]
      exact Nat.lt_of_lt_of_le (h5 i (by omega)).2.2.2.2 bz.1
    · rw [ap_n (by omega), ap_n c]
      exact h6 i j hij (by omega)
theorem tr_cnt {R : Type} [Lean.Grind.CommRing R] {co : R → Nat → Fin 5} (H : PL co) {a r m : R} {T n : Nat} {g : Nat → R} {e : Nat → Nat} (ha : a ≠ 0) (hd : dl co a ≤ 9) (h : Tr co a T r n g e) (mi : Ir co m) (mm : Mo co m) (hT : T ≤ nb co m) (d : Dv m r) : n < 8 := by
  have c := ir_cnt H ha (g := ap g n m) (n := n + 1) (fun i hi => ?_) (fun i j hi hj hne => ?_)
  · omega
  · by_cases c : i = n
    · rw [ap_e c]; exact ⟨mi, mm, dv_trans d h.2.1⟩
    · rw [ap_n c]
      have := h.2.2.2.2.1 i (by omega)
      exact ⟨this.1, this.2.1, vl_dv this.2.2.2.1 this.2.2.1⟩
  · intro q
    by_cases c1 : i = n
    · by_cases c2 : j = n
      · omega
      · rw [ap_e c1, ap_n c2] at q
        have := (h.2.2.2.2.1 j (by omega)).2.2.2.2
        rw [← q] at this
        omega
    · by_cases c2 : j = n
      · rw [ap_n c1, ap_e c2] at q
        have := (h.2.2.2.2.1 i (by omega)).2.2.2.2
        rw [q] at this
        omega
      · rw [ap_n c1, ap_n c2] at q
        rcases Nat.lt_or_gt_of_ne hne with x | x
        · have := h.2.2.2.2.2 i j x (by omega)
          rw [q] at this
          omega
        · have := h.2.2.2.2.2 j i x (by omega)
          rw [q] at this
          omega
end
section
/-! trial division in the reference -/
section
variable {f_count f_place f_opens f_top f_fault f_faultAt f_dry f_found : Int32} {a_c a_there a_kind a_num a_open a_openAt a_power a_table : Nat → Int32}
theorem y_monic {R : Type} [Lean.Grind.CommRing R] {co : R → Nat → Fin 5} (H : PL co) {M : Nat → Option R} {d t : Nat} {post : SY → Prop} (h : RY co a_c M) (hd : d ≤ 10) (ht : t < 2 ^ 30) (K : ∀ c, RY co c (uo M 70 (mon co d t)) → post (f_count, f_place, f_opens, f_top, f_fault, f_faultAt, f_dry, f_found, c, a_there, a_kind, a_num, a_open, a_openAt, a_power, a_table)) : wpY_monic post (f_count, f_place, f_opens, f_top, f_fault, f_faultAt, f_dry, f_found, a_c, a_there, a_kind, a_num, a_open, a_openAt, a_power, a_table) (nI d) (nI t) := by
  unfold wpY_monic
  refine y_become H (a := 70) h (by omega) (x := 0) (by decide) (fun c hx => ?_)
  obtain ⟨z1, z2⟩ := hx 70 (by omega) _ uo_s
  have e14 : ∀ k, (1400 : Int32) + nI k = nI (1400 + k) := fun k => nI_add 1400 k
  have dv : ∀ k, nI (t / 5 ^ k) / 5 = nI (t / 5 ^ (k + 1)) := by
    intro k
    have := Nat.div_le_self t (5 ^ k)
    rw [show (5 : Int32) = nI 5 from rfl, pk_div (by omega) (by omega) (by omega), Nat.div_div_eq_div_mul, Nat.pow_succ]
  have dm : ∀ k, nI (t / 5 ^ k) - nI (t / 5 ^ k) / 5 * 5 = cI (Fin.ofNat 5 (t / 5 ^ k)) := by
    intro k
    have := Nat.div_le_self t (5 ^ k)
    rw [show (5 : Int32) = nI 5 from rfl, pk_rem (by omega) (by omega) (by omega)]; rfl
  have st := st_loop (fun n i c => wY_monic_12 post (nI d) f_count f_place f_opens f_top f_fault f_faultAt f_dry f_found n (nI (t / 5 ^ i)) (nI i) c a_there a_kind a_num a_open a_openAt a_power a_table) c 1400 d (fun k => cI (Fin.ofNat 5 (t / 5 ^ k))) ?_ ?_ 12 (by omega)
  · refine ⟨12, ?_⟩
    rw [Nat.pow_zero, Nat.div_one] at st
    exact st
  · intro n
    refine br_t (nI_le (Nat.le_refl _) (by omega)) ?_
    rw [e14, nI_clamp (by omega)]
    refine ⟨vp_in_nI (by omega) (by omega), nm_e (K _ (ry_ex (ry_up (a := 70) (p := mon co d t) hx ?_ (fun k hk => ?_) (fun j hj => ?_)) ?_))⟩
    · rw [(mon_dl H d t).1]; omega
    · rw [mon_co H]
      by_cases q1 : k = d
      · rw [if_pos (by omega), if_pos q1, q1]; exact pk_us
      · rw [pk_un (by omega)]
        by_cases q2 : k < d
        · rw [if_pos (by omega), if_neg q1]
          exact stR_in (b := 1400) q2
        · rw [if_neg (by omega), stR_out (by omega)]
          have := z2 k hk
          rw [mo_0 H, pl_0 H] at this
          exact this
    · rw [pk_un (by omega), stR_out (by omega)]
    · intro r p' hr
      by_cases q : r = 70
      · rw [q, uo_s] at hr ⊢; exact hr
      · rw [uo_n q] at hr ⊢; rw [uo_n q]; exact hr
  · intro n i hi hn
    refine br_f (nI_ge hi (by omega)) ⟨by decide, ?_⟩
    rw [e14, nI_clamp (by omega)]
    refine ⟨vp_in_nI (by omega) (by omega), nm_r (e' := upd (stR c 1400 i (fun k => cI (Fin.ofNat 5 (t / 5 ^ k)))) (1400 + i) (cI (Fin.ofNat 5 (t / 5 ^ i)))) (by rw [dm]) ⟨by decide, nm_r (dv i) (nm_r (nI_1 i) hn)⟩⟩
theorem y_str_l {R : Type} [Lean.Grind.CommRing R] {co : R → Nat → Fin 5} (H : PL co) {M0 : Nat → Option R} {a0 f : R} {a b : Nat} {post : Int32 → SY → Prop} (ha : a < 80) (hb : b < 80) (hab : a ≠ b) (hM : M0 b = some f) (f2 : 2 ≤ dl co f) (na : a0 ≠ 0) (d0 : dl co a0 ≤ 20)
    (K : ∀ k r M c, a0 = f ^ k * r → ¬ Dv f r → RY co c M → M a = some r → (∀ i, i ≠ a → i ≠ 80 → i ≠ 81 → M i = M0 i) → post (nI k) (f_count, f_place, f_opens, f_top, f_fault, f_faultAt, f_dry, f_found, c, a_there, a_kind, a_num, a_open, a_openAt, a_power, a_table)) : ∀ d k (r : R) M c (z : Int32), dl co r + (if z = 0 then 0 else 1) ≤ d → a0 = f ^ k * r → (z = 0 → ¬ Dv f r) → RY co c M → M a = some r → (∀ i, i ≠ a → i ≠ 80 → i ≠ 81 → M i = M0 i) → ∀ n, d < n → wY_strike_6 post (nI a) (nI b) 99 n (nI k) z f_count f_place f_opens f_top f_fault f_faultAt f_dry f_found c a_there a_kind a_num a_open a_openAt a_power a_table := by
  intro d
  have nf : f ≠ 0 := dl_nz H (by omega)
  have kb : ∀ k r, a0 = f ^ k * r → k < 20 ∧ r ≠ 0 := by
    intro k r e
    have nz : f ^ k * r ≠ 0 := by rw [← e]; exact na
    have l := dl_mul H (mul_l H nz) (mul_r H nz)
    rw [← e, dl_pow H nf] at l
    have := dl_ne H (mul_r H nz)
    have : k * 1 ≤ k * (dl co f - 1) := Nat.mul_le_mul_left _ (by omega)
    exact ⟨by omega, mul_r H nz⟩
  induction d with
  | zero =>
    intro k r M c z hd e hz hx m1 fr n hn
    have := dl_ne H (kb k r e).2
    omega
  | succ d ih =>
    intro k r M c z hd e hz hx m1 fr n hn
    obtain ⟨n, rfl⟩ : ∃ m, n = m + 1 := ⟨n - 1, by omega⟩
    obtain ⟨k20, nr⟩ := kb k r e
    by_cases z0 : z = 0
    · exact br_t z0 (K k r M c e (hz z0) hx m1 fr)
    · rw [if_neg z0] at hd
      have fb : M b = some f := by rw [fr b (by omega) (by omega) (by omega)]; exact hM
      have lr := (hx a (by omega) r m1).1
      have lf := (hx b (by omega) f fb).1
      refine br_f z0 (br_f (nI_ge (b := 99) (by omega) (by decide)) ?_)
      refine y_deg H hx (by omega) m1 ?_
      refine y_deg H hx (by omega) fb ?_
      by_cases lt : dl co r < dl co f
      · exact br_t ((ti_tlt (by omega) (by omega)).mpr lt) (K k r M c e (fun dv => nr (dv_small H dv lt)) hx m1 fr)
      · refine br_f (by rw [ti_tlt (by omega) (by omega)]; exact lt) ?_
        refine y_divide H (y := 80) (z := 81) hx (by omega) (by omega) (by omega) (by omega) (by omega) (by omega) (by omega) m1 fb nf (fun c1 x1 => ?_)
        refine y_deg H (a := 81) x1 (by omega) uo_s ?_
        have lm := (qr_spec H r nf).2
        by_cases dz : dl co (rm co r f) = 0
        · have dv : Dv f r := (rm_dv H nf).mp (dl_eq0 H dz)
          refine br_f (by rw [ti_nn (by omega)]; omega) ?_
          unfold wY_strike_54
          refine br_f (by decide) ?_
          refine y_copy H (a := 80) x1 (by omega) (by omega) (p := qo co r f) (by (repeat rw [uo_n (by omega)]) <;> exact uo_s) (fun c2 x2 => ?_)
          obtain ⟨w, ew⟩ := dv
          have qw : qo co r f = w := by rw [ew]; exact qo_mul H nf
          have nw : w ≠ 0 := mul_l H (b := f) (by rw [← ew]; exact nr)
          have lw := dl_mul H nw nf
          rw [← ew] at lw
          rw [qw] at x2
          refine nm_r (nI_1 k) (ih (k + 1) w _ c2 1 ?_ ?_ (fun q => absurd q (by decide)) x2 uo_s (fun i q1 q2 q3 => ?_) n (by omega))
          · rw [if_neg (by decide)]; omega
          · rw [e, ew, Lean.Grind.Semiring.pow_succ]; grind
          · (repeat rw [uo_n (by omega)])
            exact fr i q1 q2 q3
        · refine br_t (by rw [ti_nn (by omega)]; omega) ?_
          unfold wY_strike_54
          refine br_t rfl ?_
          refine ih k r _ c1 0 (by rw [if_pos rfl]; omega) e (fun _ dv => dz ?_) x1 (by (repeat rw [uo_n (by omega)]) <;> exact m1) (fun i q1 q2 q3 => ?_) n (by omega)
          · rw [(rm_dv H nf).mpr dv, dl_0 H]
          · (repeat rw [uo_n (by omega)])
            exact fr i q1 q2 q3
theorem y_strike {R : Type} [Lean.Grind.CommRing R] {co : R → Nat → Fin 5} (H : PL co) {M : Nat → Option R} {p f : R} {a b : Nat} {post : Int32 → SY → Prop} (h : RY co a_c M) (ha : a < 80) (hb : b < 80) (hab : a ≠ b) (hp : M a = some p) (hf : M b = some f) (f2 : 2 ≤ dl co f) (np : p ≠ 0)
    (K : ∀ k r M' c, p = f ^ k * r → ¬ Dv f r → RY co c M' → M' a = some r → (∀ i, i ≠ a → i ≠ 80 → i ≠ 81 → M' i = M i) → post (nI k) (f_count, f_place, f_opens, f_top, f_fault, f_faultAt, f_dry, f_found, c, a_there, a_kind, a_num, a_open, a_openAt, a_power, a_table)) : wpY_strike post (f_count, f_place, f_opens, f_top, f_fault, f_faultAt, f_dry, f_found, a_c, a_there, a_kind, a_num, a_open, a_openAt, a_power, a_table) (nI a) (nI b) 99 := by
  unfold wpY_strike
  have l := (h a (by omega) p hp).1
  exact ⟨30, y_str_l H ha hb hab hf f2 np l K 21 0 p M a_c 1 (by rw [if_neg (by decide)]; omega) (by rw [Lean.Grind.Semiring.pow_zero]; grind) (fun q => absurd q (by decide)) h hp (fun _ _ _ _ => rfl) 30 (by omega)⟩
theorem y_keep {R : Type} [Lean.Grind.CommRing R] {co : R → Nat → Fin 5} (H : PL co) {M : Nat → Option R} {p : R} {a k : Nat} {e : Int32} {post : SY → Prop} (h : RY co a_c M) (ha : a < 90) (hp : M a = some p) (hk : k < 8)
    (K : ∀ c, RY co c (uo M (72 + k) p) → post (f_count, f_place, f_opens, f_top, f_fault, f_faultAt, f_dry, nI (k + 1), c, a_there, a_kind, a_num, a_open, a_openAt, upd a_power k e, a_table)) : wpY_keep post (f_count, f_place, f_opens, f_top, f_fault, f_faultAt, f_dry, nI k, a_c, a_there, a_kind, a_num, a_open, a_openAt, a_power, a_table) (nI a) e := by
  unfold wpY_keep
  dsimp only
  rw [show (72 : Int32) + nI k = nI (72 + k) from nI_add 72 k]
  refine y_copy H h ha (by omega) hp (fun c hx => ?_)
  refine ⟨vp_in_nI hk (by omega), nm_r (e' := upd a_power k e) (by rw [nI_clamp (by omega)]) (nm_r (nI_1 k) (K c hx))⟩
/-- the list of factors in the reference's rows -/
def LY {R : Type} (M : Nat → Option R) (pw : Nat → Int32) (n : Nat) (g : Nat → R) (e : Nat → Nat) : Prop := ∀ i, i < n → M (72 + i) = some (g i) ∧ pw i = nI (e i)
theorem ly_ap {R : Type} {M M' : Nat → Option R} {pw : Nat → Int32} {n : Nat} {g : Nat → R} {e : Nat → Nat} {x : R} {k : Nat} (h : LY M pw n g e) (hM : M' = uo M (72 + n) x) : LY M' (upd pw n (nI k)) (n + 1) (ap g n x) (ap e n k) := by
  intro i hi
  rw [hM]
  by_cases c : i = n
  · rw [ap_e c, ap_e c, c]
    exact ⟨uo_s, pk_us⟩
  · rw [ap_n c, ap_n c, uo_n (by omega), pk_un c]
    exact h i (by omega)
/-- what the reference's split does not touch -/
def FY {R : Type} (M M' : Nat → Option R) : Prop := ∀ r, (r < 70 ∨ 82 ≤ r) → M' r = M r
theorem y_spl_50 {R : Type} [Lean.Grind.CommRing R] {co : R → Nat → Fin 5} (H : PL co) {M0 : Nat → Option R} {a : R} {d : Nat} {post : SY → Prop} {J : Int32 → Int32 → Int32 → Int32 → Int32 → Int32 → Int32 → Int32 → Int32 → (Nat → Int32) → (Nat → Int32) → (Nat → Int32) → (Nat → Int32) → (Nat → Int32) → (Nat → Int32) → (Nat → Int32) → (Nat → Int32) → Prop} (na : a ≠ 0) (h9 : dl co a ≤ 9) (hd1 : 1 ≤ d) (hd : d ≤ 4)
    (K : ∀ T r n g e M c pw, Tr co a T r n g e → (T = 5 ^ d + 5 ^ d ∨ (5 ^ d ≤ T ∧ dl co r ≤ 2 * d)) → RY co c M → M 71 = some r → LY M pw n g e → FY M0 M → J (nI (d + 1)) f_count f_place f_opens f_top f_fault f_faultAt f_dry (nI n) c a_there a_kind a_num a_open a_openAt pw a_table) : ∀ s t r n g e M c pw, t + s = 5 ^ d → Tr co a (5 ^ d + t) r n g e → RY co c M → M 71 = some r → LY M pw n g e → FY M0 M → ∀ m, s < m → wY_split_50 post J (nI d) (nI (5 ^ d)) m (nI t) f_count f_place f_opens f_top f_fault f_faultAt f_dry (nI n) c a_there a_kind a_num a_open a_openAt pw a_table := by
  have p5 : 5 ^ d ≤ 625 := by
    have : 5 ^ d ≤ 5 ^ 4 := Nat.pow_le_pow_right (by omega) hd
    omega
  have e2 : 2 * nI d = nI (2 * d) := by rw [show (2 : Int32) = nI 2 from rfl, pk_mul]
  intro s
  induction s with
  | zero =>
    intro t r n g e M c pw ht hT hx m1 hl fr m hm
    obtain ⟨m, rfl⟩ : ∃ k, m = k + 1 := ⟨m - 1, by omega⟩
    exact br_t (nI_le (by omega) (by omega)) (nm_r (nI_1 d) (K _ r n g e M c pw hT (Or.inl (by omega)) hx m1 hl fr))
  | succ s ih =>
    intro t r n g e M c pw ht hT hx m1 hl fr m hm
    obtain ⟨m, rfl⟩ : ∃ k, m = k + 1 := ⟨m - 1, by omega⟩
    have lr := tr_dl H na hT
    refine br_f (nI_ge (by omega) (by omega)) ?_
    refine y_deg H (a := 71) hx (by omega) m1 ?_
    rw [e2]
    by_cases sm : dl co r ≤ 2 * d
    · exact br_t ((ti_lt (by omega) (by omega)).mpr sm) (nm_r (nI_1 d) (K _ r n g e M c pw hT (Or.inr ⟨by omega, sm⟩) hx m1 hl fr))
    · refine br_f (by rw [ti_lt (by omega) (by omega)]; exact sm) ?_
      have ml := mon_dl H (co := co) d t
      have mn : nb co (mon co d t : R) = 5 ^ d + t := mon_nb H (by omega) (by omega)
      refine y_monic H hx (by omega) (by omega) (fun c1 x1 => ?_)
      refine y_strike H (a := 71) (b := 70) x1 (by omega) (by omega) (by omega) (by (repeat rw [uo_n (by omega)]) <;> exact m1) uo_s (by omega) hT.1 (fun k r' M2 c2 er nd x2 m2 f2 => ?_)
      have fr2 : FY M0 M2 := fun i hi => by
        rw [f2 i (by omega) (by omega) (by omega), uo_n (by omega)]
        exact fr i hi
      have hl2 : LY M2 pw n g e := fun i hi => by
        have := hl i hi
        have n8 : i < 8 := by
          have := fc_cnt H na (n := n) (g := g) (e := e)
          have q := hT.2.2.2.2.1 i hi
          have := ir_cnt H na (g := g) (n := n) (fun i hi => ⟨(hT.2.2.2.2.1 i hi).1, (hT.2.2.2.2.1 i hi).2.1, vl_dv (hT.2.2.2.2.1 i hi).2.2.2.1 (hT.2.2.2.2.1 i hi).2.2.1⟩) (fun i j hi hj hne q => by
            rcases Nat.lt_or_gt_of_ne hne with x | x
            · have := hT.2.2.2.2.2 i j x hj
              rw [q] at this
              omega
            · have := hT.2.2.2.2.2 j i x hi
              rw [q] at this
              omega)
          omega
        rw [f2 (72 + i) (by omega) (by omega) (by omega), uo_n (by omega)]
        exact this
      by_cases k0 : k = 0
      · rw [k0, Lean.Grind.Semiring.pow_zero] at er
        have er' : r' = r := by rw [er]; grind
        rw [er'] at nd m2
        rw [k0]
        refine br_t (by decide) (nm_r (nI_1 t) (ih (t + 1) r n g e M2 c2 pw (by omega) ?_ x2 m2 hl2 fr2 m (by omega)))
        exact tr_no H na h9 hT mn (by omega) nd
      · have dv : Dv (mon co d t) r := by
          rw [er]
          exact dv_trans (dv_pow1 _ (by omega)) (dv_l _ _)
        have mi := tr_ir H hT mn (by omega) (by omega) ml.2 dv
        have n8 := tr_cnt H na h9 hT mi ml.2 (by omega) dv
        have k9 : k ≤ 20 := by
          have nz : mon co d t ^ k * r' ≠ 0 := by rw [← er]; exact hT.1
          have l := dl_mul H (mul_l H nz) (mul_r H nz)
          rw [← er, dl_pow H (mo_ne H ml.2)] at l
          have := dl_ne H (mul_r H nz)
          have : k * 1 ≤ k * (dl co (mon co d t) - 1) := Nat.mul_le_mul_left _ (by omega)
          omega
        refine br_f (nI_nle (by omega) (by omega)) ?_
        refine y_keep H (a := 70) x2 (by omega) (p := mon co d t) (by rw [f2 70 (by omega) (by omega) (by omega)]; exact uo_s) n8 (fun c3 x3 => ?_)
        refine nm_r (nI_1 t) (ih (t + 1) r' (n + 1) (ap g n (mon co d t)) (ap e n k) _ c3 _ (by omega) (tr_yes H na h9 hT mn (by omega) mi ml.2 (by omega) er nd) x3 (by (repeat rw [uo_n (by omega)]) <;> exact m2) (ly_ap hl2 rfl) (fun i hi => ?_) m (by omega))
        rw [uo_n (by omega)]
        exact fr2 i hi
theorem y_spl_31 {R : Type} [Lean.Grind.CommRing R] {co : R → Nat → Fin 5} (H : PL co) {M0 : Nat → Option R} {a : R} {d : Nat} {post : SY → Prop} {J : Int32 → Int32 → Int32 → Int32 → Int32 → Int32 → Int32 → Int32 → Int32 → (Nat → Int32) → (Nat → Int32) → (Nat → Int32) → (Nat → Int32) → (Nat → Int32) → (Nat → Int32) → (Nat → Int32) → (Nat → Int32) → Prop} (na : a ≠ 0) (h9 : dl co a ≤ 9) (hd1 : 1 ≤ d) (hd : d ≤ 4)
    (K : ∀ T r n g e M c pw, Tr co a T r n g e → (T = 5 ^ d + 5 ^ d ∨ (5 ^ d ≤ T ∧ dl co r ≤ 2 * d)) → RY co c M → M 71 = some r → LY M pw n g e → FY M0 M → J (nI (d + 1)) f_count f_place f_opens f_top f_fault f_faultAt f_dry (nI n) c a_there a_kind a_num a_open a_openAt pw a_table) {r : R} {n : Nat} {g : Nat → R} {e : Nat → Nat} {M : Nat → Option R} {c pw : Nat → Int32} (hT : Tr co a (5 ^ d) r n g e) (hx : RY co c M) (m1 : M 71 = some r) (hl : LY M pw n g e) (fr : FY M0 M) : ∀ s k, k + s = d → ∀ m, s < m → wY_split_31 post J (nI d) f_count f_place f_opens f_top f_fault f_faultAt f_dry (nI n) c a_there a_kind a_num a_open a_openAt pw a_table m (nI (5 ^ k)) (nI k) := by
  intro s
  induction s with
  | zero =>
    intro k hk m hm
    obtain ⟨m, rfl⟩ : ∃ k, m = k + 1 := ⟨m - 1, by omega⟩
    have p5 : 5 ^ d ≤ 625 := by
      have : 5 ^ d ≤ 5 ^ 4 := Nat.pow_le_pow_right (by omega) hd
      omega
    refine br_t (nI_le (by omega) (by omega)) ⟨700, ?_⟩
    rw [show k = d by omega]
    exact y_spl_50 H na h9 hd1 hd K (5 ^ d) 0 r n g e M c pw (by omega) hT hx m1 hl fr 700 (by omega)
  | succ s ih =>
    intro k hk m hm
    obtain ⟨m, rfl⟩ : ∃ k, m = k + 1 := ⟨m - 1, by omega⟩
    refine br_f (nI_ge (by omega) (by omega)) (nm_r (e' := nI (5 ^ (k + 1))) (by rw [show (5 : Int32) = nI 5 from rfl, pk_mul, Nat.pow_succ]) (nm_r (nI_1 k) (ih (k + 1) (by omega) m (by omega))))
theorem y_spl_f {R : Type} [Lean.Grind.CommRing R] {co : R → Nat → Fin 5} (H : PL co) {M0 : Nat → Option R} {a : R} {post : SY → Prop} (na : a ≠ 0) (h9 : dl co a ≤ 9)
    (K : ∀ n g e M c pw, Fc co a n g e → RY co c M → LY M pw n g e → FY M0 M → post (f_count, f_place, f_opens, f_top, f_fault, f_faultAt, f_dry, nI n, c, a_there, a_kind, a_num, a_open, a_openAt, pw, a_table)) {d δ T n : Nat} {r : R} {g : Nat → R} {e : Nat → Nat} {M : Nat → Option R} {c pw : Nat → Int32} (hT : Tr co a T r n g e) (hδ : 5 ^ δ ≤ T) (hr : dl co r ≤ 2 * δ) (hrd : dl co r ≤ 2 * d) (hd : d < 100) (hx : RY co c M) (m1 : M 71 = some r) (hl : LY M pw n g e) (fr : FY M0 M) (m : Nat) : wY_split_14 post (m + 1) (nI d) f_count f_place f_opens f_top f_fault f_faultAt f_dry (nI n) c a_there a_kind a_num a_open a_openAt pw a_table := by
  have lr := tr_dl H na hT
  have e2 : 2 * nI d = nI (2 * d) := by rw [show (2 : Int32) = nI 2 from rfl, pk_mul]
  refine y_deg H (a := 71) hx (by omega) m1 ?_
  rw [e2]
  refine br_t ((ti_lt (by omega) (by omega)).mpr hrd) ?_
  refine y_deg H (a := 71) hx (by omega) m1 ?_
  have r1 := dl_ne H hT.1
  by_cases c1 : dl co r = 1
  · refine br_f (by rw [c1]; decide) (K n g e M c pw (tr_end0 H na hT (by omega)) hx hl fr)
  · refine br_t ((ti_ge (i := 1) (by omega) (by omega)).mpr (by omega)) ?_
    refine y_deg H (a := 71) hx (by omega) m1 ?_
    obtain ⟨D, hD⟩ : ∃ D, dl co r = D + 1 := ⟨dl co r - 1, by omega⟩
    have ei : 1420 + tI (dl co r) = nI (1420 + D) := by rw [hD, ti_succ]; exact nI_add 1420 D
    have ec : c (1420 + D) = cI (ld co r) := by
      have := (hx 71 (by omega) r m1).2 D (by omega)
      rw [show 20 * 71 + D = 1420 + D by omega] at this
      rw [this]
      unfold ld
      rw [hD, Nat.add_sub_cancel]
    rw [ei, nI_clamp (by omega), ec]
    refine ⟨vp_in_nI (by omega) (by omega), y_inverse ?_⟩
    have fc := tr_end1 H na h9 hT (by omega) hδ hr
    have n8 : n < 8 := by have := fc_cnt H na fc; omega
    refine y_scale H (a := 71) hx (by omega) m1 (fun c1 x1 => ?_)
    refine y_keep H (a := 71) (e := 1) x1 (by omega) uo_s n8 (fun c2 x2 => ?_)
    refine K (n + 1) _ _ _ c2 _ fc x2 (ly_ap (M := uo M 71 (mo co (ld co r * ld co r * ld co r) 0 * r)) (k := 1) (fun i hi => ?_) rfl) (fun i hi => ?_)
    · rw [uo_n (by omega)]; exact hl i hi
    · rw [uo_n (by omega), uo_n (by omega)]; exact fr i hi
theorem y_spl_14 {R : Type} [Lean.Grind.CommRing R] {co : R → Nat → Fin 5} (H : PL co) {M0 : Nat → Option R} {a : R} {post : SY → Prop} (na : a ≠ 0) (h9 : dl co a ≤ 9)
    (K : ∀ n g e M c pw, Fc co a n g e → RY co c M → LY M pw n g e → FY M0 M → post (f_count, f_place, f_opens, f_top, f_fault, f_faultAt, f_dry, nI n, c, a_there, a_kind, a_num, a_open, a_openAt, pw, a_table)) : ∀ s d T r n g e M c pw, d + s = 6 → 1 ≤ d → Tr co a T r n g e → (T = 5 ^ d ∨ (5 ^ (d - 1) ≤ T ∧ dl co r ≤ 2 * (d - 1))) → RY co c M → M 71 = some r → LY M pw n g e → FY M0 M → ∀ m, s < m → wY_split_14 post m (nI d) f_count f_place f_opens f_top f_fault f_faultAt f_dry (nI n) c a_there a_kind a_num a_open a_openAt pw a_table := by
  intro s
  induction s with
  | zero =>
    intro d T r n g e M c pw hs hd1 hT hor hx m1 hl fr m hm
    obtain ⟨m, rfl⟩ : ∃ k, m = k + 1 := ⟨m - 1, by omega⟩
    have lr := tr_dl H na hT
    rcases hor with h | h
    · exact y_spl_f H na h9 K (δ := d) hT (by omega) (by omega) (by omega) (by omega) hx m1 hl fr m
    · exact y_spl_f H na h9 K hT h.1 h.2 (by omega) (by omega) hx m1 hl fr m
  | succ s ih =>
    intro d T r n g e M c pw hs hd1 hT hor hx m1 hl fr m hm
    obtain ⟨m, rfl⟩ : ∃ k, m = k + 1 := ⟨m - 1, by omega⟩
    have lr := tr_dl H na hT
    rcases hor with h | h
    · by_cases sm : dl co r ≤ 2 * d
      · exact y_spl_f H na h9 K (δ := d) hT (by omega) sm sm (by omega) hx m1 hl fr m
      · have e2 : 2 * nI d = nI (2 * d) := by rw [show (2 : Int32) = nI 2 from rfl, pk_mul]
        refine y_deg H (a := 71) hx (by omega) m1 ?_
        rw [e2]
        refine br_f (by rw [ti_lt (by omega) (by omega)]; exact sm) ⟨6, ?_⟩
        rw [h] at hT
        refine y_spl_31 H na h9 hd1 (by omega) (fun T' r' n' g' e' M' c' pw' hT' hor' hx' m1' hl' fr' => ?_) hT hx m1 hl fr d 0 (by omega) 6 (by omega)
        rcases hor' with q | q
        · rw [q] at hT'
          exact ih (d + 1) _ r' n' g' e' M' c' pw' (by omega) (by omega) (tr_up H na h9 hT') (Or.inl rfl) hx' m1' hl' fr' m (by omega)
        · exact ih (d + 1) T' r' n' g' e' M' c' pw' (by omega) (by omega) hT' (Or.inr ⟨q.1, q.2⟩) hx' m1' hl' fr' m (by omega)
    · exact y_spl_f H na h9 K hT h.1 h.2 (by omega) (by omega) hx m1 hl fr m
theorem y_split {R : Type} [Lean.Grind.CommRing R] {co : R → Nat → Fin 5} (H : PL co) {M : Nat → Option R} {p : R} {a : Nat} {post : SY → Prop} (h : RY co a_c M) (ha : a < 90) (hp : M a = some p) (np : p ≠ 0) (h9 : dl co p ≤ 9)
    (K : ∀ n g e M' c pw, Fc co p n g e → RY co c M' → LY M' pw n g e → FY M M' → post (f_count, f_place, f_opens, f_top, f_fault, f_faultAt, f_dry, nI n, c, a_there, a_kind, a_num, a_open, a_openAt, pw, a_table)) : wpY_split post (f_count, f_place, f_opens, f_top, f_fault, f_faultAt, f_dry, f_found, a_c, a_there, a_kind, a_num, a_open, a_openAt, a_power, a_table) (nI a) := by
  unfold wpY_split
  refine y_copy H (b := 71) h ha (by omega) hp (fun c x => ⟨7, ?_⟩)
  exact y_spl_14 H (M0 := M) np h9 K 5 1 5 p 0 (fun _ => p) (fun _ => 0) _ c a_power (by omega) (by omega) (tr_0 H np h9 _ _) (Or.inl rfl) x uo_s (fun i hi => absurd hi (Nat.not_lt_zero i)) (fun i hi => uo_n (by omega)) 7 (by omega)
end
end
section
/-! the reference's values -/
theorem tw_2 (a : Nat) : 2 * nI a = nI (2 * a) := by rw [show (2 : Int32) = nI 2 from rfl, pk_mul]
/-- p, q less a common factor; no irreducible divisor of G is left in both -/
def Rd {R : Type} [Lean.Grind.CommRing R] (co : R → Nat → Fin 5) (p q p' q' : R) : Prop := ∃ h, p = h * p' ∧ q = h * q'
theorem rd_refl {R : Type} [Lean.Grind.CommRing R] {co : R → Nat → Fin 5} (p q : R) : Rd co p q p q := ⟨1, by grind, by grind⟩
theorem rd_tr {R : Type} [Lean.Grind.CommRing R] {co : R → Nat → Fin 5} {p q p1 q1 p2 q2 : R} (h : Rd co p q p1 q1) (g : Rd co p1 q1 p2 q2) : Rd co p q p2 q2 := by
  obtain ⟨x, x1, x2⟩ := h
  obtain ⟨y, y1, y2⟩ := g
  exact ⟨x * y, by grind, by grind⟩
/-- what take leaves is in lowest terms -/
theorem tk_lt {R : Type} [Lean.Grind.CommRing R] {co : R → Nat → Fin 5} (H : PL co) {p q p1 q1 p2 q2 G W : R} (nq : q ≠ 0) (hc : ∀ f, Ir co f → Mo co f → Dv f p → Dv f q → Dv f G ∨ Dv f W) (r1 : Rd co p q p1 q1) (r2 : Rd co p1 q1 p2 q2) (g1 : p1 ≠ 0 → ∀ f, Ir co f → Mo co f → Dv f G → ¬ (Dv f p1 ∧ Dv f q1)) (g2 : p2 ≠ 0 → ∀ f, Ir co f → Mo co f → Dv f W → ¬ (Dv f p2 ∧ Dv f q2)) (np : p2 ≠ 0) :
    Lt co p q (mo co (ld co q2 * ld co q2 * ld co q2) 0 * p2) (mo co (ld co q2 * ld co q2 * ld co q2) 0 * q2) := by
  obtain ⟨h, e1, e2⟩ := rd_tr r1 r2
  obtain ⟨h2, e3, e4⟩ := r2
  have nq2 : q2 ≠ 0 := mul_r H (a := h) (by rw [← e2]; exact nq)
  have np1 : p1 ≠ 0 := by
    intro z
    rw [z] at e3
    have nh : h2 ≠ 0 := by
      intro w
      obtain ⟨x, x1, x2⟩ := r1
      rw [w] at e4
      exact nq (by rw [x2, e4]; grind)
    rcases mul_dom H e3.symm with w | w
    · exact nh w
    · exact np w
  have cp : Cp p2 q2 := by
    apply Classical.byContradiction
    intro c
    obtain ⟨f, f1, f2, f3, f4⟩ := ir_com H c nq2
    rcases hc f f1 f2 (by rw [e1]; exact dv_mul _ f3) (by rw [e2]; exact dv_mul _ f4) with d | d
    · exact g1 np1 f f1 f2 d ⟨by rw [e3]; exact dv_mul _ f3, by rw [e4]; exact dv_mul _ f4⟩
    · exact g2 np f f1 f2 d ⟨f3, f4⟩
  have x : mo co (ld co q2) 0 * mo co (ld co q2 * ld co q2 * ld co q2) 0 = (1 : R) := by
    rw [mo_mul H, f5_inv _ (ld_ne H nq2), mo_1 H]
  obtain ⟨s, t, est⟩ := cp
  exact ⟨⟨s * mo co (ld co q2) 0, t * mo co (ld co q2) 0, by grind⟩, mo_mak H nq2, by rw [e1, e2]; grind⟩
section
variable {f_count f_place f_opens f_top f_fault f_faultAt f_dry f_found : Int32} {a_c a_there a_kind a_num a_open a_openAt a_power a_table : Nat → Int32}
theorem y_red_18 {R : Type} [Lean.Grind.CommRing R] {co : R → Nat → Fin 5} (H : PL co) {M0 : Nat → Option R} {p q f : R} {v i : Nat} {post : SY → Prop} {J : Int32 → Int32 → Int32 → Int32 → Int32 → Int32 → Int32 → Int32 → Int32 → (Nat → Int32) → (Nat → Int32) → (Nat → Int32) → (Nat → Int32) → (Nat → Int32) → (Nat → Int32) → (Nat → Int32) → (Nat → Int32) → Prop} (hv : 2 * v + 1 < 70) (hi : i < 8) (h1 : M0 (72 + i) = some f) (f2 : 2 ≤ dl co f) (nq : q ≠ 0)
    (K : ∀ p' q' M c, Rd co p q p' q' → (p' ≠ 0 → ¬ (Dv f p' ∧ Dv f q')) → RY co c M → M (2 * v) = some p' → M (2 * v + 1) = some q' → (∀ r, r ≠ 2 * v → r ≠ 2 * v + 1 → r ≠ 81 → r ≠ 82 → r ≠ 83 → M r = M0 r) → J (nI (i + 1)) f_count f_place f_opens f_top f_fault f_faultAt f_dry f_found c a_there a_kind a_num a_open a_openAt a_power a_table) : ∀ d p' q' M c (z : Int32), dl co q' + (if z = 0 then 0 else 1) ≤ d → Rd co p q p' q' → (z = 0 → p' ≠ 0 → ¬ (Dv f p' ∧ Dv f q')) → RY co c M → M (2 * v) = some p' → M (2 * v + 1) = some q' → (∀ r, r ≠ 2 * v → r ≠ 2 * v + 1 → r ≠ 81 → r ≠ 82 → r ≠ 83 → M r = M0 r) → ∀ n, d < n → wY_reduce_18 post J (nI v) (nI i) n z f_count f_place f_opens f_top f_fault f_faultAt f_dry f_found c a_there a_kind a_num a_open a_openAt a_power a_table := by
  have nf : f ≠ 0 := dl_nz H (by omega)
  intro d
  induction d with
  | zero =>
    intro p' q' M c z hd hr hz hx m1 m2 fr n hn
    exfalso
    obtain ⟨h, e1, e2⟩ := hr
    have := dl_ne H (mul_r H (a := h) (b := q') (by rw [← e2]; exact nq))
    omega
  | succ d ih =>
    intro p' q' M c z hd hr hz hx m1 m2 fr n hn
    obtain ⟨n, rfl⟩ : ∃ m, n = m + 1 := ⟨n - 1, by omega⟩
    have nq' : q' ≠ 0 := by
      obtain ⟨h, e1, e2⟩ := hr
      exact mul_r H (a := h) (by rw [← e2]; exact nq)
    by_cases z0 : z = 0
    · exact br_t z0 (nm_r (nI_1 i) (K p' q' M c hr (hz z0) hx m1 m2 fr))
    · rw [if_neg z0] at hd
      refine br_f z0 ?_
      rw [tw_2, show (72 : Int32) + nI i = nI (72 + i) from nI_add 72 i]
      have fi : M (72 + i) = some f := by rw [fr _ (by omega) (by omega) (by omega) (by omega) (by omega)]; exact h1
      refine y_divide H (y := 82) (z := 81) hx (by omega) (by omega) (by omega) (by omega) (by omega) (by omega) (by omega) m1 fi nf (fun c1 x1 => ?_)
      have lp := (qr_spec H p' nf).2
      have lq := (qr_spec H q' nf).2
      have lf := (hx _ (by omega) f fi).1
      have lp' := (hx _ (by omega) p' m1).1
      -- the last step: what is asked of the flag
      have stop : ∀ M2 c2, RY co c2 M2 → M2 (2 * v) = some p' → M2 (2 * v + 1) = some q' → (∀ r, r ≠ 2 * v → r ≠ 2 * v + 1 → r ≠ 81 → r ≠ 82 → r ≠ 83 → M2 r = M0 r) → (p' ≠ 0 → ¬ (Dv f p' ∧ Dv f q')) → wY_reduce_18 post J (nI v) (nI i) n 0 f_count f_place f_opens f_top f_fault f_faultAt f_dry f_found c2 a_there a_kind a_num a_open a_openAt a_power a_table := fun M2 c2 g1 g2 g3 g4 g5 => ih p' q' M2 c2 0 (by rw [if_pos rfl]; omega) hr (fun _ => g5) g1 g2 g3 g4 n (by omega)
      have second : ∀ (w : Int32), (w = 0 → p' ≠ 0 → ¬ Dv f p') → (w ≠ 0 → Dv f p') → wY_reduce_62 post J (wY_reduce_18 post J (nI v) (nI i) n) (nI v) (nI i) w f_count f_place f_opens f_top f_fault f_faultAt f_dry f_found c1 a_there a_kind a_num a_open a_openAt a_power a_table := by
        intro w hw0 hw1
        unfold wY_reduce_62
        rw [tw_2, nI_1, show (72 : Int32) + nI i = nI (72 + i) from nI_add 72 i]
        refine y_divide H (y := 83) (z := 81) x1 (by omega) (by omega) (by omega) (by omega) (by omega) (by omega) (by omega) (by (repeat rw [uo_n (by omega)]) <;> exact m2) (by (repeat rw [uo_n (by omega)]) <;> exact fi) nf (fun c2 x2 => ?_)
        have fr2 : ∀ r, r ≠ 2 * v → r ≠ 2 * v + 1 → r ≠ 81 → r ≠ 82 → r ≠ 83 → uo (uo (uo (uo M 82 (qo co p' f)) 81 (rm co p' f)) 83 (qo co q' f)) 81 (rm co q' f) r = M0 r := fun r q1 q2 q3 q4 q5 => by
          (repeat rw [uo_n (by omega)])
          exact fr r q1 q2 q3 q4 q5
        by_cases w0 : w = 0
        · refine br_t w0 ?_
          unfold wY_reduce_99 wY_reduce_100
          exact br_t rfl (stop _ c2 x2 (by (repeat rw [uo_n (by omega)]) <;> exact m1) (by (repeat rw [uo_n (by omega)]) <;> exact m2) fr2 (fun np dd => hw0 w0 np dd.1))
        · refine br_f w0 ?_
          refine y_deg H (a := 81) x2 (by omega) uo_s ?_
          by_cases dz : dl co (rm co q' f) = 0
          · have dq : Dv f q' := (rm_dv H nf).mp (dl_eq0 H dz)
            have dp := hw1 w0
            refine br_f (by rw [ti_nn (by omega)]; omega) ?_
            unfold wY_reduce_100
            rw [tw_2, nI_1]
            refine br_f (by decide) ?_
            obtain ⟨x, ex⟩ := dp
            obtain ⟨y, ey⟩ := dq
            have qx : qo co p' f = x := by rw [ex]; exact qo_mul H nf
            have qy : qo co q' f = y := by rw [ey]; exact qo_mul H nf
            refine y_copy H (a := 82) x2 (by omega) (by omega) (p := x) (by rw [← qx]; exact (by (repeat rw [uo_n (by omega)]) <;> exact uo_s)) (fun c3 x3 => ?_)
            refine y_copy H (a := 83) x3 (by omega) (by omega) (p := y) (by rw [← qy]; exact (by (repeat rw [uo_n (by omega)]) <;> exact uo_s)) (fun c4 x4 => ?_)
            have ny : y ≠ 0 := mul_l H (b := f) (by rw [← ey]; exact nq')
            have ly := dl_mul H ny nf
            rw [← ey] at ly
            refine ih x y _ c4 1 (by rw [if_neg (by decide)]; omega) (rd_tr hr ⟨f, by rw [ex]; grind, by rw [ey]; grind⟩) (fun q => absurd q (by decide)) x4 (by (repeat rw [uo_n (by omega)]) <;> exact uo_s) uo_s (fun r q1 q2 q3 q4 q5 => ?_) n (by omega)
            rw [uo_n (by omega), uo_n (by omega)]
            exact fr2 r q1 q2 q3 q4 q5
          · refine br_t (by rw [ti_nn (by omega)]; omega) ?_
            unfold wY_reduce_99 wY_reduce_100
            refine br_t rfl (stop _ c2 x2 (by (repeat rw [uo_n (by omega)]) <;> exact m1) (by (repeat rw [uo_n (by omega)]) <;> exact m2) fr2 (fun _ dd => dz ?_))
            rw [(rm_dv H nf).mpr dd.2, dl_0 H]
      refine y_deg H (a := 81) x1 (by omega) uo_s ?_
      by_cases dz : dl co (rm co p' f) = 0
      · have dp : Dv f p' := (rm_dv H nf).mp (dl_eq0 H dz)
        refine br_f (by rw [ti_nn (by omega)]; omega) ?_
        refine y_deg H (p := p') x1 (by omega) (by (repeat rw [uo_n (by omega)]) <;> exact m1) ?_
        by_cases pz : p' = 0
        · refine br_t (by rw [ti_neg (by omega), pz, dl_0 H]) ?_
          unfold wY_reduce_61
          exact second 0 (fun _ np => absurd pz np) (fun q => absurd rfl q)
        · refine br_f (by rw [ti_neg (by omega)]; have := dl_ne H pz; omega) ?_
          exact second 1 (fun q => absurd q (by decide)) (fun _ => dp)
      · refine br_t (by rw [ti_nn (by omega)]; omega) ?_
        unfold wY_reduce_61
        exact second 0 (fun _ _ dd => dz (by rw [(rm_dv H nf).mpr dd, dl_0 H])) (fun q => absurd rfl q)
theorem y_red_7 {R : Type} [Lean.Grind.CommRing R] {co : R → Nat → Fin 5} (H : PL co) {M0 : Nat → Option R} {p q G : R} {v n : Nat} {g : Nat → R} {e : Nat → Nat} {post : SY → Prop} (hv : 2 * v + 1 < 70) (hn : n ≤ 8) (fc : Fc co G n g e) (hl : ∀ i, i < n → M0 (72 + i) = some (g i)) (nq : q ≠ 0) (q9 : dl co q ≤ 20)
    (K : ∀ p' q' M c, Rd co p q p' q' → (p' ≠ 0 → ∀ f, Ir co f → Mo co f → Dv f G → ¬ (Dv f p' ∧ Dv f q')) → RY co c M → M (2 * v) = some p' → M (2 * v + 1) = some q' → (∀ r, r ≠ 2 * v → r ≠ 2 * v + 1 → r ≠ 81 → r ≠ 82 → r ≠ 83 → M r = M0 r) → post (f_count, f_place, f_opens, f_top, f_fault, f_faultAt, f_dry, nI n, c, a_there, a_kind, a_num, a_open, a_openAt, a_power, a_table)) : ∀ d i p' q' M c, i + d = n → Rd co p q p' q' → (∀ j, j < i → p' ≠ 0 → ¬ (Dv (g j) p' ∧ Dv (g j) q')) → RY co c M → M (2 * v) = some p' → M (2 * v + 1) = some q' → (∀ r, r ≠ 2 * v → r ≠ 2 * v + 1 → r ≠ 81 → r ≠ 82 → r ≠ 83 → M r = M0 r) → ∀ m, d < m → wY_reduce_7 post (nI v) m (nI i) f_count f_place f_opens f_top f_fault f_faultAt f_dry (nI n) c a_there a_kind a_num a_open a_openAt a_power a_table := by
  intro d
  induction d with
  | zero =>
    intro i p' q' M c hi hr hg hx m1 m2 fr m hm
    obtain ⟨m, rfl⟩ : ∃ k, m = k + 1 := ⟨m - 1, by omega⟩
    refine br_t (nI_le (by omega) (by omega)) (K p' q' M c hr (fun np f hf mf dv => ?_) hx m1 m2 fr)
    obtain ⟨j, hj, ej⟩ := fc.2.1 f hf mf dv
    rw [← ej]
    exact hg j (by omega) np
  | succ d ih =>
    intro i p' q' M c hi hr hg hx m1 m2 fr m hm
    obtain ⟨m, rfl⟩ : ∃ k, m = k + 1 := ⟨m - 1, by omega⟩
    have nq' : q' ≠ 0 := by
      obtain ⟨h, e1, e2⟩ := hr
      exact mul_r H (a := h) (by rw [← e2]; exact nq)
    have l' := (hx _ (by omega) q' m2).1
    refine br_f (nI_ge (by omega) (by omega)) ⟨30, ?_⟩
    refine y_red_18 H (M0 := M0) (p := p') (q := q') hv (by omega) (hl i (by omega)) (fc.1 i (by omega)).1.1 nq' (fun p2 q2 M2 c2 hr2 hg2 hx2 n1 n2 fr2 => ?_) 21 p' q' M c 1 (by rw [if_neg (by decide)]; omega) (rd_refl p' q') (fun q => absurd q (by decide)) hx m1 m2 fr 30 (by omega)
    refine ih (i + 1) p2 q2 M2 c2 (by omega) (rd_tr hr hr2) (fun j hj np dd => ?_) hx2 n1 n2 fr2 m (by omega)
    by_cases c : j = i
    · rw [c] at dd
      exact hg2 np dd
    · obtain ⟨h, e1, e2⟩ := hr2
      have np' : p' ≠ 0 := by
        rw [e1]
        refine mul_nz H ?_ np
        intro w
        rw [w] at e2
        exact nq' (by rw [e2]; grind)
      exact hg j (by omega) np' ⟨by rw [e1]; exact dv_mul _ dd.1, by rw [e2]; exact dv_mul _ dd.2⟩
theorem y_reduce {R : Type} [Lean.Grind.CommRing R] {co : R → Nat → Fin 5} (H : PL co) {M : Nat → Option R} {p q G : R} {v b : Nat} {post : SY → Prop} (h : RY co a_c M) (hv : 2 * v + 1 < 70) (hb : b < 90) (h1 : M (2 * v) = some p) (h2 : M (2 * v + 1) = some q) (h3 : M b = some G) (nq : q ≠ 0) (nG : G ≠ 0) (G9 : dl co G ≤ 9)
    (K : ∀ p' q' M' c n pw, Rd co p q p' q' → (p' ≠ 0 → ∀ f, Ir co f → Mo co f → Dv f G → ¬ (Dv f p' ∧ Dv f q')) → RY co c M' → M' (2 * v) = some p' → M' (2 * v + 1) = some q' → (∀ r, r ≠ 2 * v → r ≠ 2 * v + 1 → (r < 70 ∨ 84 ≤ r) → M' r = M r) → post (f_count, f_place, f_opens, f_top, f_fault, f_faultAt, f_dry, n, c, a_there, a_kind, a_num, a_open, a_openAt, pw, a_table)) : wpY_reduce post (f_count, f_place, f_opens, f_top, f_fault, f_faultAt, f_dry, f_found, a_c, a_there, a_kind, a_num, a_open, a_openAt, a_power, a_table) (nI v) (nI b) := by
  unfold wpY_reduce
  have q20 := (h _ (by omega) q h2).1
  refine y_split H h hb h3 nG G9 (fun n g e M1 c1 pw fc x1 hl fr => ?_)
  have n8 : n ≤ 8 := by have := fc_cnt H nG fc; omega
  refine ⟨9, y_red_7 H (M0 := M1) hv n8 fc (fun i hi => (hl i hi).1) nq q20 (fun p' q' M2 c2 hr hg x2 m1 m2 fr2 => K p' q' M2 c2 _ _ hr hg x2 m1 m2 (fun r q1 q2 q3 => ?_)) n 0 p q M1 c1 (by omega) (rd_refl p q) (fun j hj => absurd hj (Nat.not_lt_zero j)) x1 (by rw [fr _ (by omega)]; exact h1) (by rw [fr _ (by omega)]; exact h2) (fun _ _ _ _ _ _ => rfl) 9 (by omega)⟩
  rw [fr2 r q1 q2 (by omega) (by omega) (by omega)]
  exact fr r (by omega)
theorem y_settle0 {R : Type} [Lean.Grind.CommRing R] {co : R → Nat → Fin 5} (H : PL co) {M : Nat → Option R} {q : R} {v : Nat} {post : SY → Prop} (h : RY co a_c M) (hv : 2 * v + 1 < 70) (h1 : M (2 * v) = some 0) (h2 : M (2 * v + 1) = some q)
    (K : ∀ c, RY co c (uo M (2 * v + 1) 1) → post (f_count, f_place, f_opens, f_top, f_fault, f_faultAt, f_dry, f_found, c, a_there, a_kind, a_num, a_open, a_openAt, a_power, a_table)) : wpY_settle post (f_count, f_place, f_opens, f_top, f_fault, f_faultAt, f_dry, f_found, a_c, a_there, a_kind, a_num, a_open, a_openAt, a_power, a_table) (nI v) := by
  unfold wpY_settle
  dsimp only
  rw [tw_2, nI_1]
  refine y_deg H h (by omega) h1 ?_
  refine br_f (by rw [dl_0 H]; decide) ?_
  refine y_become H (x := 1) h (by omega) (by decide) (fun c hx => K c ?_)
  rw [mo_1 H] at hx
  exact hx
theorem y_settle1 {R : Type} [Lean.Grind.CommRing R] {co : R → Nat → Fin 5} (H : PL co) {M : Nat → Option R} {p q : R} {v : Nat} {post : SY → Prop} (h : RY co a_c M) (hv : 2 * v + 1 < 90) (h1 : M (2 * v) = some p) (h2 : M (2 * v + 1) = some q) (np : p ≠ 0) (nq : q ≠ 0)
    (K : ∀ c, RY co c (uo (uo M (2 * v) (mo co (ld co q * ld co q * ld co q) 0 * p)) (2 * v + 1) (mo co (ld co q * ld co q * ld co q) 0 * q)) → post (f_count, f_place, f_opens, f_top, f_fault, f_faultAt, f_dry, f_found, c, a_there, a_kind, a_num, a_open, a_openAt, a_power, a_table)) : wpY_settle post (f_count, f_place, f_opens, f_top, f_fault, f_faultAt, f_dry, f_found, a_c, a_there, a_kind, a_num, a_open, a_openAt, a_power, a_table) (nI v) := by
  unfold wpY_settle
  dsimp only
  rw [tw_2, nI_1]
  have lp := (h _ (by omega) p h1).1
  obtain ⟨lq, cq⟩ := h _ (by omega) q h2
  refine y_deg H h (by omega) h1 ?_
  refine br_t (by rw [ti_nn (by omega)]; exact dl_ne H np) ?_
  refine y_deg H h (by omega) h2 ?_
  have dq := dl_ne H nq
  obtain ⟨D, hD⟩ : ∃ D, dl co q = D + 1 := ⟨dl co q - 1, by omega⟩
  have ec : a_c (20 * nI (2 * v + 1) + tI (dl co q)).toNatClampNeg = cI (ld co q) := by
    rw [hD, ti_succ, cl20 (by omega) (by omega), cq D (by omega)]
    unfold ld
    rw [hD, Nat.add_sub_cancel]
  rw [ec]
  refine ⟨by rw [hD, ti_succ]; exact in20 (by omega) (by omega), y_inverse ?_⟩
  refine y_scale H h (by omega) h1 (fun c1 x1 => ?_)
  exact y_scale H x1 (by omega) (by (repeat rw [uo_n (by omega)]) <;> exact h2) K
theorem y_take {R : Type} [Lean.Grind.CommRing R] {co : R → Nat → Fin 5} (H : PL co) {M : Nat → Option R} {p q G W : R} {v a b : Nat} {post : SY → Prop} (h : RY co a_c M) (hv : 2 * v + 1 < 66) (ha : a < 70 ∨ 84 ≤ a) (ha9 : a < 90) (hav : a ≠ 2 * v) (hav' : a ≠ 2 * v + 1) (hb : b < 70 ∨ 84 ≤ b) (hb9 : b < 90) (hbv : b ≠ 2 * v) (hbv' : b ≠ 2 * v + 1) (h1 : M 84 = some p) (h2 : M 86 = some q) (h3 : M a = some G) (h4 : M b = some W) (nq : q ≠ 0) (nG : G ≠ 0) (G9 : dl co G ≤ 9) (nW : W ≠ 0) (W9 : dl co W ≤ 9) (hc : ∀ f, Ir co f → Mo co f → Dv f p → Dv f q → Dv f G ∨ Dv f W)
    (K : ∀ M' c n pw, RY co c M' → M' (2 * v) = some (rdP co p q) → M' (2 * v + 1) = some (rdQ co p q) → (∀ r, r ≠ 2 * v → r ≠ 2 * v + 1 → (r < 70 ∨ 84 ≤ r) → M' r = M r) → post (f_count, f_place, f_opens, f_top, f_fault, f_faultAt, f_dry, n, c, a_there, a_kind, a_num, a_open, a_openAt, pw, a_table)) : wpY_take post (f_count, f_place, f_opens, f_top, f_fault, f_faultAt, f_dry, f_found, a_c, a_there, a_kind, a_num, a_open, a_openAt, a_power, a_table) (nI v) (nI a) (nI b) := by
  unfold wpY_take
  dsimp only
  rw [tw_2, nI_1]
  refine y_copy H (a := 84) h (by omega) (by omega) h1 (fun c1 x1 => ?_)
  refine y_copy H (a := 86) x1 (by omega) (by omega) (by (repeat rw [uo_n (by omega)]) <;> exact h2) (fun c2 x2 => ?_)
  refine y_reduce H x2 (by omega) ha9 (by (repeat rw [uo_n (by omega)]) <;> exact uo_s) uo_s (by (repeat rw [uo_n (by omega)]) <;> exact h3) nq nG G9 (fun p1 q1 M1 c3 n1 pw1 r1 g1 x3 m1 m2 f1 => ?_)
  have nq1 : q1 ≠ 0 := by
    obtain ⟨x, x1, x2⟩ := r1
    exact mul_r H (a := x) (by rw [← x2]; exact nq)
  refine y_reduce H x3 (by omega) hb9 m1 m2 (by rw [f1 b hbv hbv' hb]; exact (by (repeat rw [uo_n (by omega)]) <;> exact h4)) nq1 nW W9 (fun p2 q2 M2 c4 n2 pw2 r2 g2 x4 n1' n2' f2 => ?_)
  have nq2 : q2 ≠ 0 := by
    obtain ⟨x, x1, x2⟩ := r2
    exact mul_r H (a := x) (by rw [← x2]; exact nq1)
  have fr : ∀ r, r ≠ 2 * v → r ≠ 2 * v + 1 → (r < 70 ∨ 84 ≤ r) → M2 r = M r := fun r w1 w2 w3 => by
    rw [f2 r w1 w2 w3, f1 r w1 w2 w3]
    exact (by (repeat rw [uo_n (by omega)]) <;> exact rfl)
  by_cases pz : p2 = 0
  · rw [pz] at n1'
    have pz0 : p = 0 := by
      obtain ⟨x, x1, x2⟩ := rd_tr r1 r2
      rw [x1, pz]; grind
    have l := rd_un H nq (p := p) (P := 0) (Q := 1) ⟨cp_1 0, mo_one H, by rw [pz0]; grind⟩
    refine y_settle0 H x4 (by omega) n1' n2' (fun c5 x5 => K _ c5 _ _ x5 (by rw [← l.1]; exact (by (repeat rw [uo_n (by omega)]) <;> exact n1')) (by rw [← l.2]; exact uo_s) (fun r w1 w2 w3 => ?_))
    rw [uo_n w2]; exact fr r w1 w2 w3
  · have l := rd_un H nq (tk_lt H nq hc r1 r2 g1 g2 pz)
    refine y_settle1 H x4 (by omega) n1' n2' pz nq2 (fun c5 x5 => K _ c5 _ _ x5 (by rw [← l.1]; exact (by (repeat rw [uo_n (by omega)]) <;> exact uo_s)) (by rw [← l.2]; exact uo_s) (fun r w1 w2 w3 => ?_))
    rw [uo_n w2, uo_n w1]; exact fr r w1 w2 w3
end
end
section
/-! the reference's operators -/
def FV {R : Type} (M M' : Nat → Option R) (v : Nat) : Prop := ∀ r, r ≠ 2 * v → r ≠ 2 * v + 1 → r < 66 → M' r = M r
theorem mul_pw {R : Type} [Lean.Grind.CommRing R] (a b : R) (n : Nat) : (a * b) ^ n = a ^ n * b ^ n := by
  induction n with
  | zero => grind
  | succ n ih => rw [Lean.Grind.Semiring.pow_succ, Lean.Grind.Semiring.pow_succ, Lean.Grind.Semiring.pow_succ, ih]; grind
theorem rd_sc {R : Type} [Lean.Grind.CommRing R] {co : R → Nat → Fin 5} (H : PL co) {p q c : R} (nq : q ≠ 0) (nc : c ≠ 0) : rdP co (c * p) (c * q) = rdP co p q ∧ rdQ co (c * p) (c * q) = rdQ co p q := by
  have l := rd_lt H p nq
  have := rd_un H (p := c * p) (q := c * q) (mul_nz H nc nq) (P := rdP co p q) (Q := rdQ co p q) ⟨l.1, l.2.1, by have := l.2.2; grind⟩
  exact ⟨this.1.symm, this.2.symm⟩
theorem rw_sc {R : Type} [Lean.Grind.CommRing R] {co : R → Nat → Fin 5} (H : PL co) {p q c : R} (nq : q ≠ 0) (nc : c ≠ 0) (k : Nat) : rwP co (c * p) (c * q) k = rwP co p q k ∧ rwQ co (c * p) (c * q) k = rwQ co p q k := by
  unfold rwP rwQ
  rw [mul_pw, mul_pw]
  exact rd_sc H (pow_nz H nq k) (pow_nz H nc k)
theorem sz_pow {R : Type} [Lean.Grind.CommRing R] {co : R → Nat → Fin 5} (H : PL co) {p q : R} (hc : Cp p q) (hq : Mo co q) (k : Nat) : sz co (rwP co p q k) (rwQ co p q k) = k * sz co p q := by
  have r := rd_self H (cp_pp hc k k) (mo_pow H hq k)
  unfold rwP rwQ
  rw [r.1, r.2]
  unfold sz
  have q1 := dl_ne H (mo_ne H hq)
  rw [dl_pow H (mo_ne H hq)]
  by_cases z : p = 0
  · have : dl co (p ^ k) ≤ 1 := by
      cases k with
      | zero => rw [Lean.Grind.Semiring.pow_zero, dl_1 H]; omega
      | succ k => rw [Lean.Grind.Semiring.pow_succ, z, show (0 : R) ^ k * 0 = 0 by grind, dl_0 H]; omega
    rw [Nat.max_eq_right (by omega), z, dl_0 H, Nat.max_eq_right (by omega)]
    omega
  · rw [dl_pow H z]
    have p1 := dl_ne H z
    rcases Nat.le_total (dl co p) (dl co q) with c | c
    · have : k * (dl co p - 1) ≤ k * (dl co q - 1) := Nat.mul_le_mul_left _ (by omega)
      rw [Nat.max_eq_right (by omega), Nat.max_eq_right c]
      omega
    · have : k * (dl co q - 1) ≤ k * (dl co p - 1) := Nat.mul_le_mul_left _ (by omega)
      rw [Nat.max_eq_left (by omega), Nat.max_eq_left c]
      omega
section
variable {f_count f_place f_opens f_top f_fault f_faultAt f_dry f_found : Int32} {a_c a_there a_kind a_num a_open a_openAt a_power a_table : Nat → Int32}
theorem y_sum {R : Type} [Lean.Grind.CommRing R] {co : R → Nat → Fin 5} (H : PL co) {M : Nat → Option R} {p q u x : R} {v w : Nat} {φ : Int32} {f : Fin 5} {post : SY → Prop} (h : RY co a_c M) (hv : 2 * v + 1 < 66) (hw : 2 * w + 1 < 66) (hvw : v ≠ w) (h1 : M (2 * v) = some p) (h2 : M (2 * v + 1) = some q) (h3 : M (2 * w) = some u) (h4 : M (2 * w + 1) = some x) (d1 : dl co p ≤ 9) (d2 : dl co q ≤ 9) (d3 : dl co u ≤ 9) (d4 : dl co x ≤ 9) (nq : q ≠ 0) (nx : x ≠ 0) (hf : ∀ x y : Fin 5, md (cI x + φ * cI y) = cI (x + f * y))
    (K : ∀ M' c n pw, RY co c M' → M' (2 * v) = some (rdP co (p * x + mo co f 0 * (u * q)) (q * x)) → M' (2 * v + 1) = some (rdQ co (p * x + mo co f 0 * (u * q)) (q * x)) → FV M M' v → post (f_count, f_place, f_opens, f_top, f_fault, f_faultAt, f_dry, n, c, a_there, a_kind, a_num, a_open, a_openAt, pw, a_table)) : wpY_sum post (f_count, f_place, f_opens, f_top, f_fault, f_faultAt, f_dry, f_found, a_c, a_there, a_kind, a_num, a_open, a_openAt, a_power, a_table) (nI v) (nI w) φ := by
  unfold wpY_sum
  dsimp only
  rw [tw_2, tw_2, nI_1, nI_1]
  refine y_product H (z := 84) h (by omega) (by omega) (by omega) (by omega) (by omega) h1 h4 (by omega) (fun c1 x1 => ?_)
  refine y_product H (z := 85) x1 (by omega) (by omega) (by omega) (by omega) (by omega) (by (repeat rw [uo_n (by omega)]) <;> exact h3) (by (repeat rw [uo_n (by omega)]) <;> exact h2) (by omega) (fun c2 x2 => ?_)
  refine y_add H (a := 84) (b := 85) (f := f) x2 (by omega) (by omega) (by omega) (by (repeat rw [uo_n (by omega)]) <;> exact uo_s) (by (repeat rw [uo_n (by omega)]) <;> exact uo_s) hf (fun c3 x3 => ?_)
  refine y_product H (z := 86) x3 (by omega) (by omega) (by omega) (by omega) (by omega) (by (repeat rw [uo_n (by omega)]) <;> exact h2) (by (repeat rw [uo_n (by omega)]) <;> exact h4) (by omega) (fun c4 x4 => ?_)
  refine y_copy H (b := 87) x4 (by omega) (by omega) (by (repeat rw [uo_n (by omega)]) <;> exact h2) (fun c5 x5 => ?_)
  refine y_take H (a := 87) (b := 2 * w + 1) x5 hv (by omega) (by omega) (by omega) (by omega) (by omega) (by omega) (by omega) (by omega) (by (repeat rw [uo_n (by omega)]) <;> exact uo_s) (by (repeat rw [uo_n (by omega)]) <;> exact uo_s) uo_s (by (repeat rw [uo_n (by omega)]) <;> exact h4) (mul_nz H nq nx) nq d2 nx d4 (fun g g1 g2 g3 g4 => ir_pr H g1 g4) (fun M' c n pw hx m1 m2 fr => K M' c n pw hx m1 m2 (fun r q1 q2 q3 => ?_))
  rw [fr r q1 q2 (by omega)]
  exact (by (repeat rw [uo_n (by omega)]) <;> exact rfl)
theorem y_times {R : Type} [Lean.Grind.CommRing R] {co : R → Nat → Fin 5} (H : PL co) {M : Nat → Option R} {p q u x : R} {v w : Nat} {post : SY → Prop} (h : RY co a_c M) (hv : 2 * v + 1 < 66) (hw : 2 * w + 1 < 70) (hvw : v ≠ w) (h1 : M (2 * v) = some p) (h2 : M (2 * v + 1) = some q) (h3 : M (2 * w) = some u) (h4 : M (2 * w + 1) = some x) (d1 : dl co p ≤ 9) (d2 : dl co q ≤ 9) (d3 : dl co u ≤ 9) (d4 : dl co x ≤ 9) (nq : q ≠ 0) (nx : x ≠ 0)
    (K : ∀ M' c n pw, RY co c M' → M' (2 * v) = some (rdP co (p * u) (q * x)) → M' (2 * v + 1) = some (rdQ co (p * u) (q * x)) → (∀ r, r ≠ 2 * v → r ≠ 2 * v + 1 → r < 70 → M' r = M r) → post (f_count, f_place, f_opens, f_top, f_fault, f_faultAt, f_dry, n, c, a_there, a_kind, a_num, a_open, a_openAt, pw, a_table)) : wpY_times post (f_count, f_place, f_opens, f_top, f_fault, f_faultAt, f_dry, f_found, a_c, a_there, a_kind, a_num, a_open, a_openAt, a_power, a_table) (nI v) (nI w) := by
  unfold wpY_times
  dsimp only
  rw [tw_2, tw_2, nI_1, nI_1]
  refine y_product H (z := 84) h (by omega) (by omega) (by omega) (by omega) (by omega) h1 h3 (by omega) (fun c1 x1 => ?_)
  refine y_product H (z := 86) x1 (by omega) (by omega) (by omega) (by omega) (by omega) (by (repeat rw [uo_n (by omega)]) <;> exact h2) (by (repeat rw [uo_n (by omega)]) <;> exact h4) (by omega) (fun c4 x4 => ?_)
  refine y_copy H (b := 87) x4 (by omega) (by omega) (by (repeat rw [uo_n (by omega)]) <;> exact h2) (fun c5 x5 => ?_)
  refine y_take H (a := 87) (b := 2 * w + 1) x5 hv (by omega) (by omega) (by omega) (by omega) (by omega) (by omega) (by omega) (by omega) (by (repeat rw [uo_n (by omega)]) <;> exact uo_s) (by (repeat rw [uo_n (by omega)]) <;> exact uo_s) uo_s (by (repeat rw [uo_n (by omega)]) <;> exact h4) (mul_nz H nq nx) nq d2 nx d4 (fun g g1 g2 g3 g4 => ir_pr H g1 g4) (fun M' c n pw hx m1 m2 fr => K M' c n pw hx m1 m2 (fun r q1 q2 q3 => ?_))
  rw [fr r q1 q2 (by omega)]
  exact (by (repeat rw [uo_n (by omega)]) <;> exact rfl)
theorem y_flip {R : Type} [Lean.Grind.CommRing R] {co : R → Nat → Fin 5} (H : PL co) {M : Nat → Option R} {p q : R} {v : Nat} {post : SY → Prop} (h : RY co a_c M) (hv : 2 * v + 1 < 66) (h1 : M (2 * v) = some p) (h2 : M (2 * v + 1) = some q) (np : p ≠ 0) (nq : q ≠ 0)
    (K : ∀ M' c, RY co c M' → M' (2 * v) = some (mo co (ld co p * ld co p * ld co p) 0 * q) → M' (2 * v + 1) = some (mo co (ld co p * ld co p * ld co p) 0 * p) → (∀ r, r ≠ 2 * v → r ≠ 2 * v + 1 → r ≠ 88 → M' r = M r) → post (f_count, f_place, f_opens, f_top, f_fault, f_faultAt, f_dry, f_found, c, a_there, a_kind, a_num, a_open, a_openAt, a_power, a_table)) : wpY_flip post (f_count, f_place, f_opens, f_top, f_fault, f_faultAt, f_dry, f_found, a_c, a_there, a_kind, a_num, a_open, a_openAt, a_power, a_table) (nI v) := by
  unfold wpY_flip
  dsimp only
  rw [tw_2, nI_1]
  refine y_copy H (b := 88) h (by omega) (by omega) h1 (fun c1 x1 => ?_)
  refine y_copy H x1 (by omega) (by omega) (by (repeat rw [uo_n (by omega)]) <;> exact h2) (fun c2 x2 => ?_)
  refine y_copy H (a := 88) x2 (by omega) (by omega) (by (repeat rw [uo_n (by omega)]) <;> exact uo_s) (fun c3 x3 => ?_)
  refine y_settle1 H x3 (by omega) (by (repeat rw [uo_n (by omega)]) <;> exact uo_s) uo_s nq np (fun c4 x4 => K _ c4 x4 (by (repeat rw [uo_n (by omega)]) <;> exact uo_s) uo_s (fun r q1 q2 q3 => (by (repeat rw [uo_n (by omega)]) <;> exact rfl)))
theorem y_large {R : Type} [Lean.Grind.CommRing R] {co : R → Nat → Fin 5} (H : PL co) {M : Nat → Option R} {p q : R} {v : Nat} {at' : Int32} {post : SY → Prop} (h : RY co a_c M) (hv : 2 * v + 1 < 90) (h1 : M (2 * v) = some p) (h2 : M (2 * v + 1) = some q)
    (K1 : sz co p q ≤ 8 → post (f_count, f_place, f_opens, f_top, 0, f_faultAt, f_dry, f_found, a_c, a_there, a_kind, a_num, a_open, a_openAt, a_power, a_table)) (K2 : 8 < sz co p q → post (f_count, f_place, f_opens, f_top, 4, at', f_dry, f_found, a_c, a_there, a_kind, a_num, a_open, a_openAt, a_power, a_table)) : wpY_large post (f_count, f_place, f_opens, f_top, 0, f_faultAt, f_dry, f_found, a_c, a_there, a_kind, a_num, a_open, a_openAt, a_power, a_table) (nI v) at' := by
  unfold wpY_large
  have l1 := (h _ (by omega) p h1).1
  have l2 := (h _ hv q h2).1
  refine y_size H h hv h1 h2 ?_
  by_cases c : sz co p q ≤ 8
  · exact br_t (nI_le (b := 8) c (by decide)) (K1 c)
  · refine br_f (nI_ge (a := 8) (by omega) (by unfold sz; omega)) ?_
    exact br_t rfl (K2 (by omega))
theorem y_slope {R : Type} [Lean.Grind.CommRing R] {co : R → Nat → Fin 5} (H : PL co) {M : Nat → Option R} {p q : R} {v : Nat} {at' : Int32} {post : SY → Prop} (h : RY co a_c M) (hv : 2 * v + 1 < 66) (h1 : M (2 * v) = some p) (h2 : M (2 * v + 1) = some q) (d1 : dl co p ≤ 9) (d2 : dl co q ≤ 9) (nq : q ≠ 0)
    (K1 : sz co (rdP co (de co p * q + mo co 4 0 * (p * de co q)) (q * q)) (rdQ co (de co p * q + mo co 4 0 * (p * de co q)) (q * q)) ≤ 8 → ∀ M' c n pw, RY co c M' → M' (2 * v) = some (rdP co (de co p * q + mo co 4 0 * (p * de co q)) (q * q)) → M' (2 * v + 1) = some (rdQ co (de co p * q + mo co 4 0 * (p * de co q)) (q * q)) → FV M M' v → post (f_count, f_place, f_opens, f_top, 0, f_faultAt, f_dry, n, c, a_there, a_kind, a_num, a_open, a_openAt, pw, a_table))
    (K2 : 8 < sz co (rdP co (de co p * q + mo co 4 0 * (p * de co q)) (q * q)) (rdQ co (de co p * q + mo co 4 0 * (p * de co q)) (q * q)) → ∀ M' c n pw, RY co c M' → FV M M' v → post (f_count, f_place, f_opens, f_top, 4, at', f_dry, n, c, a_there, a_kind, a_num, a_open, a_openAt, pw, a_table)) : wpY_slope post (f_count, f_place, f_opens, f_top, 0, f_faultAt, f_dry, f_found, a_c, a_there, a_kind, a_num, a_open, a_openAt, a_power, a_table) (nI v) at' := by
  unfold wpY_slope
  dsimp only
  rw [tw_2, nI_1]
  have e1 := de_dl H p 9 (by omega)
  have e2 := de_dl H q 9 (by omega)
  refine y_derive H (b := 88) h (by omega) (by omega) (by omega) h1 (fun c1 x1 => ?_)
  refine y_derive H (b := 89) x1 (by omega) (by omega) (by omega) (by (repeat rw [uo_n (by omega)]) <;> exact h2) (fun c2 x2 => ?_)
  refine y_product H (a := 88) (z := 84) x2 (by omega) (by omega) (by omega) (by omega) (by omega) (by (repeat rw [uo_n (by omega)]) <;> exact uo_s) (by (repeat rw [uo_n (by omega)]) <;> exact h2) (by omega) (fun c3 x3 => ?_)
  refine y_product H (b := 89) (z := 85) x3 (by omega) (by omega) (by omega) (by omega) (by omega) (by (repeat rw [uo_n (by omega)]) <;> exact h1) (by (repeat rw [uo_n (by omega)]) <;> exact uo_s) (by omega) (fun c4 x4 => ?_)
  refine y_add H (a := 84) (b := 85) (f := 4) x4 (by omega) (by omega) (by omega) (by (repeat rw [uo_n (by omega)]) <;> exact uo_s) (by (repeat rw [uo_n (by omega)]) <;> exact uo_s) c_addn (fun c5 x5 => ?_)
  refine y_copy H (b := 87) x5 (by omega) (by omega) (by (repeat rw [uo_n (by omega)]) <;> exact h2) (fun c6 x6 => ?_)
  refine y_product H (a := 87) (b := 87) (z := 86) x6 (by omega) (by omega) (by omega) (by omega) (by omega) uo_s uo_s (by omega) (fun c7 x7 => ?_)
  refine y_take H (a := 87) (b := 87) x7 hv (by omega) (by omega) (by omega) (by omega) (by omega) (by omega) (by omega) (by omega) (by (repeat rw [uo_n (by omega)]) <;> exact uo_s) uo_s (by (repeat rw [uo_n (by omega)]) <;> exact uo_s) (by (repeat rw [uo_n (by omega)]) <;> exact uo_s) (mul_nz H nq nq) nq d2 nq d2 (fun g g1 g2 g3 g4 => Or.inl ((ir_pr H g1 g4).elim id id)) (fun M' c n pw hx m1 m2 fr => ?_)
  have fr' : FV M M' v := fun r q1 q2 q3 => by
    rw [fr r q1 q2 (by omega)]
    exact (by (repeat rw [uo_n (by omega)]) <;> exact rfl)
  exact y_large H hx (by omega) m1 m2 (fun s => K1 s M' c n pw hx m1 m2 fr') (fun s => K2 s M' c n pw hx fr')
theorem y_put_37 {R : Type} [Lean.Grind.CommRing R] {co : R → Nat → Fin 5} (H : PL co) {M0 : Nat → Option R} {x : Fin 5} {u y : R} {w m s k b : Nat} {x1 : Int32} {post : SY → Prop} {J : Int32 → Int32 → Int32 → Int32 → Int32 → Int32 → Int32 → Int32 → Int32 → (Nat → Int32) → (Nat → Int32) → (Nat → Int32) → (Nat → Int32) → (Nat → Int32) → (Nat → Int32) → (Nat → Int32) → (Nat → Int32) → Prop} {B : R} (hw : 2 * w + 1 < 66) (hb : b = 84 ∨ b = 86) (hm : m ≤ 8) (hk : k ≤ m) (hs : s ≤ 8) (hms : m * s ≤ 8) (h3 : M0 (2 * w) = some u) (h4 : M0 (2 * w + 1) = some y) (d3 : dl co u ≤ s + 1) (d4 : dl co y ≤ s + 1) (h5 : M0 b = some B)
    (K : ∀ M c, RY co c M → M b = some (B + mo co x 0 * (u ^ k * y ^ (m - k))) → (∀ r, r ≠ 68 → r ≠ 69 → r ≠ b → M r = M0 r) → J (nI (k + 1)) f_count f_place f_opens f_top f_fault f_faultAt f_dry f_found c a_there a_kind a_num a_open a_openAt a_power a_table) : ∀ d j M c, j + d = m → RY co c M → M 68 = some (mo co x 0 * (u ^ min j k * y ^ (j - min j k))) → (∀ r, r ≠ 68 → r ≠ 69 → M r = M0 r) → ∀ n, d < n → wY_put_37 post J x1 (nI w) (nI m) (nI b) (nI k) n (nI j) f_count f_place f_opens f_top f_fault f_faultAt f_dry f_found c a_there a_kind a_num a_open a_openAt a_power a_table := by
  intro d
  induction d with
  | zero =>
    intro j M c hj hx m1 fr n hn
    obtain ⟨n, rfl⟩ : ∃ m, n = m + 1 := ⟨n - 1, by omega⟩
    refine br_t (nI_le (by omega) (by omega)) ?_
    rw [show j = m by omega, Nat.min_eq_right hk] at m1
    refine y_add H (b := 68) (f := 1) hx (by omega) (by omega) (by omega) (by rw [fr b (by omega) (by omega)]; exact h5) m1 (fun x y => c_addm x 1 y) (fun c' hx' => nm_r (nI_1 k) (K _ c' hx' ?_ (fun r q1 q2 q3 => ?_)))
    · rw [uo_s, mo_1 H]
      congr 1
      grind
    · rw [uo_n q3]; exact fr r q1 q2
  | succ d ih =>
    intro j M c hj hx m1 fr n hn
    obtain ⟨n, rfl⟩ : ∃ m, n = m + 1 := ⟨n - 1, by omega⟩
    have km : (j - min j k) * s + (min j k) * s ≤ m * s := by
      rw [← Nat.add_mul]
      exact Nat.mul_le_mul_right s (by omega)
    have a1 := dl_pow_le H d3 (min j k)
    have a2 := dl_pow_le H d4 (j - min j k)
    have a3 := dl_mul_le H (u ^ min j k) (y ^ (j - min j k))
    have a4 := dl_mul_le H (mo co x 0) (u ^ min j k * y ^ (j - min j k))
    have a5 := dl_c H x
    refine br_f (nI_ge (by omega) (by omega)) ?_
    rw [tw_2, nI_1]
    by_cases c1 : k ≤ j
    · refine br_t (nI_le c1 (by omega)) ?_
      unfold wY_put_64
      refine y_product H (a := 68) (z := 69) hx (by omega) (by omega) (by omega) (by omega) (by omega) m1 (by rw [fr _ (by omega) (by omega)]; exact h4) (by omega) (fun c2 x2 => ?_)
      refine y_copy H (a := 69) (b := 68) x2 (by omega) (by omega) uo_s (fun c3 x3 => ?_)
      refine nm_r (nI_1 j) (ih (j + 1) _ c3 (by omega) x3 ?_ (fun r q1 q2 => ?_) n (by omega))
      · rw [uo_s, show min (j + 1) k = min j k by omega, show j + 1 - min j k = (j - min j k) + 1 by omega, Lean.Grind.Semiring.pow_succ]
        congr 1
        grind
      · rw [uo_n q1, uo_n q2]; exact fr r q1 q2
    · refine br_f (nI_ge (by omega) (by omega)) ?_
      unfold wY_put_64
      refine y_product H (a := 68) (z := 69) hx (by omega) (by omega) (by omega) (by omega) (by omega) m1 (by rw [fr _ (by omega) (by omega)]; exact h3) (by omega) (fun c2 x2 => ?_)
      refine y_copy H (a := 69) (b := 68) x2 (by omega) (by omega) uo_s (fun c3 x3 => ?_)
      refine nm_r (nI_1 j) (ih (j + 1) _ c3 (by omega) x3 ?_ (fun r q1 q2 => ?_) n (by omega))
      · rw [uo_s, show min (j + 1) k = min j k + 1 by omega, show j + 1 - (min j k + 1) = j - min j k by omega, Lean.Grind.Semiring.pow_succ]
        congr 1
        grind
      · rw [uo_n q1, uo_n q2]; exact fr r q1 q2
theorem y_put_10 {R : Type} [Lean.Grind.CommRing R] {co : R → Nat → Fin 5} (H : PL co) {M0 : Nat → Option R} {p u y : R} {a w m s b : Nat} {post : SY → Prop} (ha : a < 66) (hw : 2 * w + 1 < 66) (hb : b = 84 ∨ b = 86) (hm : m ≤ 8) (hs : s ≤ 8) (hms : m * s ≤ 8) (h1 : M0 a = some p) (h3 : M0 (2 * w) = some u) (h4 : M0 (2 * w + 1) = some y) (d3 : dl co u ≤ s + 1) (d4 : dl co y ≤ s + 1)
    (K : ∀ M c, RY co c M → M b = some (PU co p u y m) → (∀ r, r ≠ 68 → r ≠ 69 → r ≠ b → M r = M0 r) → post (f_count, f_place, f_opens, f_top, f_fault, f_faultAt, f_dry, f_found, c, a_there, a_kind, a_num, a_open, a_openAt, a_power, a_table)) : ∀ d k M c, k + d = m + 1 → RY co c M → M b = some (sR (fun k => mo co (co p k) 0 * (u ^ k * y ^ (m - k))) k) → (∀ r, r ≠ 68 → r ≠ 69 → r ≠ b → M r = M0 r) → ∀ n, d < n → wY_put_10 post (nI a) (nI w) (nI m) (nI b) n (nI k) f_count f_place f_opens f_top f_fault f_faultAt f_dry f_found c a_there a_kind a_num a_open a_openAt a_power a_table := by
  intro d
  induction d with
  | zero =>
    intro k M c hk hx m1 fr n hn
    obtain ⟨n, rfl⟩ : ∃ m, n = m + 1 := ⟨n - 1, by omega⟩
    rw [show k = m + 1 by omega] at m1
    exact br_t (nI_lt (by omega) (by omega)) (K M c hx m1 fr)
  | succ d ih =>
    intro k M c hk hx m1 fr n hn
    obtain ⟨n, rfl⟩ : ∃ m, n = m + 1 := ⟨n - 1, by omega⟩
    have pa : M a = some p := by rw [fr a (by omega) (by omega) (by omega)]; exact h1
    have cp := (hx a (by omega) p pa).2 k (by omega)
    refine br_f (nI_nlt (by omega) (by omega)) ⟨in20 (by omega) (by omega), ?_⟩
    rw [cl20 (by omega) (by omega), cp]
    have mc : ∀ x : Fin 5, md (cI x) = cI x := by decide
    refine y_become H (a := 68) hx (by omega) (mc _) (fun c2 x2 => ⟨10, ?_⟩)
    refine y_put_37 H (M0 := uo M 68 (mo co (co p k) 0)) (x := co p k) (B := sR (fun k => mo co (co p k) 0 * (u ^ k * y ^ (m - k))) k) hw hb hm (by omega) hs hms (by rw [uo_n (by omega), fr _ (by omega) (by omega) (by omega)]; exact h3) (by rw [uo_n (by omega), fr _ (by omega) (by omega) (by omega)]; exact h4) d3 d4 (by (repeat rw [uo_n (by omega)]) <;> exact m1) (fun M3 c3 x3 m3 fr3 => ?_) m 0 _ c2 (by omega) x2 ?_ (fun r _ _ => rfl) 10 (by omega)
    · refine ih (k + 1) M3 c3 (by omega) x3 m3 (fun r q1 q2 q3 => ?_) n (by omega)
      rw [fr3 r q1 q2 q3, uo_n q1]
      exact fr r q1 q2 q3
    · rw [uo_s, Nat.zero_min, Nat.sub_zero, Lean.Grind.Semiring.pow_zero, Lean.Grind.Semiring.pow_zero]
      congr 1
      grind
theorem y_put {R : Type} [Lean.Grind.CommRing R] {co : R → Nat → Fin 5} (H : PL co) {M : Nat → Option R} {p u y : R} {a w m s b : Nat} {post : SY → Prop} (h : RY co a_c M) (ha : a < 66) (hw : 2 * w + 1 < 66) (hb : b = 84 ∨ b = 86) (hm : m ≤ 8) (hs : s ≤ 8) (hms : m * s ≤ 8) (h1 : M a = some p) (h3 : M (2 * w) = some u) (h4 : M (2 * w + 1) = some y) (d3 : dl co u ≤ s + 1) (d4 : dl co y ≤ s + 1)
    (K : ∀ M' c, RY co c M' → M' b = some (PU co p u y m) → (∀ r, r ≠ 68 → r ≠ 69 → r ≠ b → M' r = M r) → post (f_count, f_place, f_opens, f_top, f_fault, f_faultAt, f_dry, f_found, c, a_there, a_kind, a_num, a_open, a_openAt, a_power, a_table)) : wpY_put post (f_count, f_place, f_opens, f_top, f_fault, f_faultAt, f_dry, f_found, a_c, a_there, a_kind, a_num, a_open, a_openAt, a_power, a_table) (nI a) (nI w) (nI m) (nI b) := by
  unfold wpY_put
  refine y_become H (x := 0) h (by omega) (by decide) (fun c x => ⟨11, ?_⟩)
  refine y_put_10 H (M0 := uo M b (mo co 0 0)) ha hw hb hm hs hms (by (repeat rw [uo_n (by omega)]) <;> exact h1) (by (repeat rw [uo_n (by omega)]) <;> exact h3) (by (repeat rw [uo_n (by omega)]) <;> exact h4) d3 d4 (fun M' c' x' m' fr' => K M' c' x' m' (fun r q1 q2 q3 => ?_)) (m + 1) 0 _ c (by omega) x ?_ (fun r _ _ _ => rfl) 11 (by omega)
  · rw [fr' r q1 q2 q3, uo_n q3]
  · rw [uo_s, mo_0 H]; rfl
theorem y_inp43 {R : Type} [Lean.Grind.CommRing R] {co : R → Nat → Fin 5} (H : PL co) {M : Nat → Option R} {p q u y : R} {v w : Nat} {at' : Int32} {post : SY → Prop} (h : RY co a_c M) (hv : 2 * v + 1 < 66) (hw : 2 * w + 1 < 66) (hvw : v ≠ w) (h1 : M (2 * v) = some p) (h2 : M (2 * v + 1) = some q) (h3 : M (2 * w) = some u) (h4 : M (2 * w + 1) = some y) (vp : Va co p q) (vu : Va co u y) (hz : ¬ (sz co u y = 0 ∧ vv co q (co u 0) = 0))
    (K1 : 8 < sz co p q * sz co u y → post (f_count, f_place, f_opens, f_top, 4, at', f_dry, f_found, a_c, a_there, a_kind, a_num, a_open, a_openAt, a_power, a_table))
    (K2 : sz co p q * sz co u y ≤ 8 → ∀ M' c n pw, RY co c M' → M' (2 * v) = some (rdP co (PU co p u y (sz co p q)) (PU co q u y (sz co p q))) → M' (2 * v + 1) = some (rdQ co (PU co p u y (sz co p q)) (PU co q u y (sz co p q))) → FV M M' v → post (f_count, f_place, f_opens, f_top, 0, f_faultAt, f_dry, n, c, a_there, a_kind, a_num, a_open, a_openAt, pw, a_table)) : wY_inPlace_43 post (nI v) (nI w) at' (nI (sz co p q)) f_count f_place f_opens f_top 0 f_faultAt f_dry f_found a_c a_there a_kind a_num a_open a_openAt a_power a_table := by
  unfold wY_inPlace_43
  have sp := (va_sz H (p := p) vp.2.1).mpr vp.2.2
  have su := (va_sz H (p := u) vu.2.1).mpr vu.2.2
  have pos := dl_ne H (mo_ne H vu.2.1)
  refine y_size H h (by omega) h3 h4 ?_
  have bnd : sz co p q * sz co u y ≤ 8 * 8 := Nat.mul_le_mul sp su
  rw [pk_mul]
  by_cases c : sz co p q * sz co u y ≤ 8
  · refine br_t (nI_le (b := 8) c (by decide)) ?_
    rw [tw_2, nI_1]
    have hu : dl co u ≤ sz co u y + 1 := by unfold sz; omega
    have hy : dl co y ≤ sz co u y + 1 := by unfold sz; omega
    have nz := pu_nz H vp vu hz
    have d0 := pu_dl H (p := q) hu hy (sz co p q) (sz co p q + 1) 0 (by omega)
    rw [pu_T0, Nat.sub_zero] at d0
    refine y_put H (b := 84) h (by omega) hw (Or.inl rfl) sp su c h1 h3 h4 hu hy (fun M1 c1 x1 m1 f1 => ?_)
    refine y_put H (b := 86) x1 (by omega) hw (Or.inr rfl) sp su c (by rw [f1 _ (by omega) (by omega) (by omega)]; exact h2) (by rw [f1 _ (by omega) (by omega) (by omega)]; exact h3) (by rw [f1 _ (by omega) (by omega) (by omega)]; exact h4) hu hy (fun M2 c2 x2 m2 f2 => ?_)
    refine y_copy H (a := 86) (b := 87) x2 (by omega) (by omega) m2 (fun c3 x3 => ?_)
    refine y_take H (a := 87) (b := 87) x3 hv (by omega) (by omega) (by omega) (by omega) (by omega) (by omega) (by omega) (by omega) (by rw [uo_n (by omega), f2 _ (by omega) (by omega) (by omega)]; exact m1) (by (repeat rw [uo_n (by omega)]) <;> exact m2) uo_s uo_s nz nz (by omega) nz (by omega) (fun g g1 g2 g3 g4 => Or.inl g4) (fun M' c' n pw hx m1 m2 fr => K2 c M' c' n pw hx m1 m2 (fun r q1 q2 q3 => ?_))
    rw [fr r q1 q2 (by omega), uo_n (by omega), f2 r (by omega) (by omega) (by omega), f1 r (by omega) (by omega) (by omega)]
  · refine br_f (nI_ge (a := 8) (by omega) (by omega)) ?_
    exact br_t rfl (K1 (by omega))
theorem y_inPlace {R : Type} [Lean.Grind.CommRing R] {co : R → Nat → Fin 5} (H : PL co) {M : Nat → Option R} {p q u y : R} {v w : Nat} {at' : Int32} {post : SY → Prop} (h : RY co a_c M) (hv : 2 * v + 1 < 66) (hw : 2 * w + 1 < 66) (hvw : v ≠ w) (h1 : M (2 * v) = some p) (h2 : M (2 * v + 1) = some q) (h3 : M (2 * w) = some u) (h4 : M (2 * w + 1) = some y) (vp : Va co p q) (vu : Va co u y)
    (K0 : sz co u y = 0 → vv co q (co u 0) = 0 → post (f_count, f_place, f_opens, f_top, 3, at', f_dry, f_found, a_c, a_there, a_kind, a_num, a_open, a_openAt, a_power, a_table))
    (K1 : ¬ (sz co u y = 0 ∧ vv co q (co u 0) = 0) → 8 < sz co p q * sz co u y → post (f_count, f_place, f_opens, f_top, 4, at', f_dry, f_found, a_c, a_there, a_kind, a_num, a_open, a_openAt, a_power, a_table))
    (K2 : ¬ (sz co u y = 0 ∧ vv co q (co u 0) = 0) → sz co p q * sz co u y ≤ 8 → ∀ M' c n pw, RY co c M' → M' (2 * v) = some (rdP co (PU co p u y (sz co p q)) (PU co q u y (sz co p q))) → M' (2 * v + 1) = some (rdQ co (PU co p u y (sz co p q)) (PU co q u y (sz co p q))) → FV M M' v → post (f_count, f_place, f_opens, f_top, 0, f_faultAt, f_dry, n, c, a_there, a_kind, a_num, a_open, a_openAt, pw, a_table)) : wpY_inPlace post (f_count, f_place, f_opens, f_top, 0, f_faultAt, f_dry, f_found, a_c, a_there, a_kind, a_num, a_open, a_openAt, a_power, a_table) (nI v) (nI w) at' := by
  unfold wpY_inPlace
  have su := (va_sz H (p := u) vu.2.1).mpr vu.2.2
  refine y_size H h (by omega) h1 h2 ?_
  refine y_size H h (by omega) h3 h4 ?_
  obtain ⟨u1, u2⟩ := h _ (by omega) u h3
  have e40 : 40 * nI w = nI (20 * (2 * w) + 0) := by
    rw [show (40 : Int32) = nI 40 from rfl, pk_mul]
    congr 1
    omega
  by_cases s0 : sz co u y = 0
  · refine br_t (by rw [s0]; rfl) ?_
    rw [e40, nI_clamp (by omega), u2 0 (by omega), tw_2, nI_1]
    refine ⟨vp_in_nI (by omega) (by omega), ?_⟩
    refine y_valueOf H h (by omega) h2 ?_
    by_cases c3 : vv co q (co u 0) = 0
    · refine br_t (by rw [c3]; rfl) ?_
      exact br_t rfl (K0 s0 c3)
    · have nz : ¬ (sz co u y = 0 ∧ vv co q (co u 0) = 0) := fun z => c3 z.2
      exact br_f (fun z => c3 ((c_0 _).mp z)) (y_inp43 H h hv hw hvw h1 h2 h3 h4 vp vu nz (K1 nz) (K2 nz))
  · have nz : ¬ (sz co u y = 0 ∧ vv co q (co u 0) = 0) := fun z => s0 z.1
    exact br_f (nI_ne0 (by omega) (by omega)) (y_inp43 H h hv hw hvw h1 h2 h3 h4 vp vu nz (K1 nz) (K2 nz))
theorem y_rai_l {R : Type} [Lean.Grind.CommRing R] {co : R → Nat → Fin 5} (H : PL co) {M0 : Nat → Option R} {p q : R} {v k : Nat} {at' : Int32} {post : SY → Prop} (hv : 2 * v + 1 < 66) (hk : k ≤ 8) (hc : Cp p q) (hq : Mo co q) (d1 : dl co p ≤ 9) (d2 : dl co q ≤ 9)
    (K1 : 8 < k * sz co p q → ∀ M' c n pw, RY co c M' → FV M0 M' v → post (f_count, f_place, f_opens, f_top, 4, at', f_dry, n, c, a_there, a_kind, a_num, a_open, a_openAt, pw, a_table))
    (K2 : k * sz co p q ≤ 8 → ∀ M' c n pw, RY co c M' → M' (2 * v) = some (rwP co p q k) → M' (2 * v + 1) = some (rwQ co p q k) → FV M0 M' v → post (f_count, f_place, f_opens, f_top, 0, f_faultAt, f_dry, n, c, a_there, a_kind, a_num, a_open, a_openAt, pw, a_table)) : ∀ d i M c n pw, i + d = k → i * sz co p q ≤ 8 → RY co c M → M 66 = some p → M 67 = some q → M (2 * v) = some (rwP co p q i) → M (2 * v + 1) = some (rwQ co p q i) → FV M0 M v → ∀ m, d + 1 < m → wY_raise_81 post (nI v) at' (nI k) m (nI i) f_count f_place f_opens f_top 0 f_faultAt f_dry n c a_there a_kind a_num a_open a_openAt pw a_table := by
  have nq := mo_ne H hq
  intro d
  induction d with
  | zero =>
    intro i M c n pw hi hs hx m1 m2 m3 m4 fr m hm
    obtain ⟨m, rfl⟩ : ∃ k, m = k + 1 := ⟨m - 1, by omega⟩
    rw [show i = k by omega] at m3 m4 hs
    exact br_t (nI_le (by omega) (by omega)) (K2 hs M c n pw hx m3 m4 fr)
  | succ d ih =>
    intro i M c n pw hi hs hx m1 m2 m3 m4 fr m hm
    obtain ⟨m, rfl⟩ : ∃ k, m = k + 1 := ⟨m - 1, by omega⟩
    refine br_f (nI_ge (by omega) (by omega)) (br_t rfl ?_)
    have pos := dl_ne H nq
    have w := rw_dl H (p := p) (s := sz co p q) nq (by unfold sz; omega) (by unfold sz; omega) i
    have st := rw_s H (p := p) nq i
    refine y_times H (w := 33) hx hv (by omega) (by omega) m3 m4 m1 m2 (by omega) (by omega) d1 d2 w.2.2 nq (fun M' c' n' pw' hx' n1 n2 fr' => ?_)
    rw [st.1] at n1
    rw [st.2] at n2
    have sp := sz_pow H hc hq (i + 1)
    have fr2 : FV M0 M' v := fun r q1 q2 q3 => by rw [fr' r q1 q2 (by omega)]; exact fr r q1 q2 q3
    refine y_large H hx' (by omega) n1 n2 (fun s => ?_) (fun s => ?_)
    · rw [sp] at s
      exact nm_r (nI_1 i) (ih (i + 1) M' c' n' pw' (by omega) s hx' (by rw [fr' 66 (by omega) (by omega) (by omega)]; exact m1) (by rw [fr' 67 (by omega) (by omega) (by omega)]; exact m2) n1 n2 fr2 m (by omega))
    · rw [sp] at s
      have big : 8 < k * sz co p q := Nat.lt_of_lt_of_le s (Nat.mul_le_mul_right _ (by omega))
      refine nm_r (nI_1 i) ?_
      obtain ⟨m, rfl⟩ : ∃ k, m = k + 1 := ⟨m - 1, by omega⟩
      exact br_c (fun _ => K1 big M' c' n' pw' hx' fr2) (fun _ => br_f (by decide) (K1 big M' c' n' pw' hx' fr2))
theorem y_rai38 {R : Type} [Lean.Grind.CommRing R] {co : R → Nat → Fin 5} (H : PL co) {M : Nat → Option R} {p q : R} {v k : Nat} {at' : Int32} {post : SY → Prop} (h : RY co a_c M) (hv : 2 * v + 1 < 66) (hk : k ≤ 8) (h1 : M (2 * v) = some p) (h2 : M (2 * v + 1) = some q) (hc : Cp p q) (hq : Mo co q) (d1 : dl co p ≤ 9) (d2 : dl co q ≤ 9)
    (K1 : 8 < k * sz co p q → ∀ M' c n pw, RY co c M' → FV M M' v → post (f_count, f_place, f_opens, f_top, 4, at', f_dry, n, c, a_there, a_kind, a_num, a_open, a_openAt, pw, a_table))
    (K2 : k * sz co p q ≤ 8 → ∀ M' c n pw, RY co c M' → M' (2 * v) = some (rwP co p q k) → M' (2 * v + 1) = some (rwQ co p q k) → FV M M' v → post (f_count, f_place, f_opens, f_top, 0, f_faultAt, f_dry, n, c, a_there, a_kind, a_num, a_open, a_openAt, pw, a_table)) : wY_raise_38 post (nI v) at' (nI k) f_count f_place f_opens f_top 0 f_faultAt f_dry f_found a_c a_there a_kind a_num a_open a_openAt a_power a_table := by
  unfold wY_raise_38
  rw [tw_2, nI_1]
  refine y_copy H (b := 66) h (by omega) (by omega) h1 (fun c1 x1 => ?_)
  refine y_copy H (b := 67) x1 (by omega) (by omega) (by (repeat rw [uo_n (by omega)]) <;> exact h2) (fun c2 x2 => ?_)
  refine y_become H (x := 1) x2 (by omega) (by decide) (fun c3 x3 => ?_)
  refine y_become H (x := 1) x3 (by omega) (by decide) (fun c4 x4 => ⟨10, ?_⟩)
  have w0 := rw_0 H (co := co) p q
  refine y_rai_l H (M0 := M) hv hk hc hq d1 d2 K1 K2 k 0 _ c4 f_found a_power (by omega) (by omega) x4 (by (repeat rw [uo_n (by omega)]) <;> exact uo_s) (by (repeat rw [uo_n (by omega)]) <;> exact uo_s) ?_ ?_ (fun r q1 q2 q3 => (by (repeat rw [uo_n (by omega)]) <;> exact rfl)) 10 (by omega)
  · rw [w0.1, ← mo_1 H]; exact (by (repeat rw [uo_n (by omega)]) <;> exact uo_s)
  · rw [w0.2, ← mo_1 H]; exact uo_s
theorem y_rai_p {R : Type} [Lean.Grind.CommRing R] {co : R → Nat → Fin 5} (H : PL co) {M : Nat → Option R} {p q : R} {v k : Nat} {at' : Int32} {post : SY → Prop} (h : RY co a_c M) (hv : 2 * v + 1 < 66) (hk : k ≤ 8) (h1 : M (2 * v) = some p) (h2 : M (2 * v + 1) = some q) (vp : Va co p q)
    (K1 : 8 < k * sz co p q → ∀ M' c n pw, RY co c M' → FV M M' v → post (f_count, f_place, f_opens, f_top, 4, at', f_dry, n, c, a_there, a_kind, a_num, a_open, a_openAt, pw, a_table))
    (K2 : k * sz co p q ≤ 8 → ∀ M' c n pw, RY co c M' → M' (2 * v) = some (rwP co p q k) → M' (2 * v + 1) = some (rwQ co p q k) → FV M M' v → post (f_count, f_place, f_opens, f_top, 0, f_faultAt, f_dry, n, c, a_there, a_kind, a_num, a_open, a_openAt, pw, a_table)) : wpY_raise post (f_count, f_place, f_opens, f_top, 0, f_faultAt, f_dry, f_found, a_c, a_there, a_kind, a_num, a_open, a_openAt, a_power, a_table) (nI v) (nI k) at' := by
  unfold wpY_raise
  have z : (0 : Int32) ≤ nI k := nI_pos' (by omega)
  refine br_t z ?_
  unfold wY_raise_19
  refine br_t z ?_
  unfold wY_raise_28
  exact br_t z (y_rai38 H h hv hk h1 h2 vp.1 vp.2.1 vp.2.2.1 vp.2.2.2 K1 K2)
theorem y_rai_n {R : Type} [Lean.Grind.CommRing R] {co : R → Nat → Fin 5} (H : PL co) {M : Nat → Option R} {p q : R} {v k : Nat} {at' : Int32} {post : SY → Prop} (h : RY co a_c M) (hv : 2 * v + 1 < 66) (hk1 : 1 ≤ k) (hk : k ≤ 8) (h1 : M (2 * v) = some p) (h2 : M (2 * v + 1) = some q) (vp : Va co p q)
    (K0 : p = 0 → post (f_count, f_place, f_opens, f_top, 3, at', f_dry, f_found, a_c, a_there, a_kind, a_num, a_open, a_openAt, a_power, a_table))
    (K1 : p ≠ 0 → 8 < k * sz co p q → ∀ M' c n pw, RY co c M' → FV M M' v → post (f_count, f_place, f_opens, f_top, 4, at', f_dry, n, c, a_there, a_kind, a_num, a_open, a_openAt, pw, a_table))
    (K2 : p ≠ 0 → k * sz co p q ≤ 8 → ∀ M' c n pw, RY co c M' → M' (2 * v) = some (rwP co q p k) → M' (2 * v + 1) = some (rwQ co q p k) → FV M M' v → post (f_count, f_place, f_opens, f_top, 0, f_faultAt, f_dry, n, c, a_there, a_kind, a_num, a_open, a_openAt, pw, a_table)) : wpY_raise post (f_count, f_place, f_opens, f_top, 0, f_faultAt, f_dry, f_found, a_c, a_there, a_kind, a_num, a_open, a_openAt, a_power, a_table) (nI v) (-nI k) at' := by
  unfold wpY_raise
  have z := nI_neg hk1 (show k < 2 ^ 31 by omega)
  refine br_f z ?_
  unfold wpY_isZero
  dsimp only
  rw [tw_2]
  refine y_deg H h (by omega) h1 ?_
  have lp := vp.2.2.1
  by_cases pz : p = 0
  · refine br_f (by rw [pz, dl_0 H]; decide) (br_f (by decide) ?_)
    exact br_t rfl (K0 pz)
  · refine br_t (by rw [ti_nn (by omega)]; exact dl_ne H pz) (br_t rfl ?_)
    unfold wY_raise_19
    refine br_f z ?_
    have nq := mo_ne H vp.2.1
    have nx := f5_inv0 _ (ld_ne H pz)
    have cn := mo_nz H (co := co) nx 0
    refine y_flip H h hv h1 h2 pz nq (fun M1 c1 x1 m1 m2 f1 => ?_)
    unfold wY_raise_28
    refine br_f z ?_
    rw [nI_nn]
    have e := rw_sc H (p := q) pz cn k
    have dq := dl_unm H (b := q) (dl_mo H nx 0)
    have dp := dl_unm H (b := p) (dl_mo H nx 0)
    have es : sz co (mo co (ld co p * ld co p * ld co p) 0 * q) (mo co (ld co p * ld co p * ld co p) 0 * p) = sz co p q := by
      unfold sz
      rw [dq, dp, Nat.max_comm]
    have hc : Cp (mo co (ld co p * ld co p * ld co p) 0 * q) (mo co (ld co p * ld co p * ld co p) 0 * p) := by
      have x : mo co (ld co p) 0 * mo co (ld co p * ld co p * ld co p) 0 = (1 : R) := by
        rw [mo_mul H, f5_inv _ (ld_ne H pz), mo_1 H]
      obtain ⟨s, t, est⟩ := vp.1
      exact ⟨t * mo co (ld co p) 0, s * mo co (ld co p) 0, by grind⟩
    refine y_rai38 H x1 hv hk m1 m2 hc (mo_mak H pz) (by rw [dq]; exact vp.2.2.2) (by rw [dp]; exact vp.2.2.1) (fun s M' c n pw hx fr => ?_) (fun s M' c n pw hx n1 n2 fr => ?_)
    · rw [es] at s
      exact K1 pz s M' c n pw hx (fun r q1 q2 q3 => by rw [fr r q1 q2 q3, f1 r q1 q2 (by omega)])
    · rw [es] at s
      rw [e.1] at n1
      rw [e.2] at n2
      exact K2 pz s M' c n pw hx n1 n2 (fun r q1 q2 q3 => by rw [fr r q1 q2 q3, f1 r q1 q2 (by omega)])
end
end
section
/-! the component's matrix -/
theorem ix8 (a k : Nat) : 8 * nI a + nI k = nI (8 * a + k) := by
  rw [show (8 : Int32) = nI 8 from rfl, pk_mul, nI_add]
theorem in8 {a k : Nat} (ha : a < 8) (hk : k < 8) : vp_in (8 * nI a + nI k) 64 := by
  rw [ix8]; exact vp_in_nI (by omega) (by omega)
theorem cl8 {a k : Nat} (ha : a < 8) (hk : k < 8) : (8 * nI a + nI k).toNatClampNeg = 8 * a + k := by
  rw [ix8]; exact nI_clamp (by omega)
def MX (mt : Nat → Int32) (n : Nat) (Q : Nat → Nat → Fin 5) : Prop := ∀ r i, r < n → i < n → mt (8 * r + i) = cI (Q r i)
theorem mx_up {mt : Nat → Int32} {n : Nat} {Q : Nat → Nat → Fin 5} {r i : Nat} {x : Fin 5} (hn : n ≤ 8) (hi : i < 8) (h : MX mt n Q) : MX (upd mt (8 * r + i) (cI x)) n (fun a b => if a = r ∧ b = i then x else Q a b) := by
  intro a b ha hb
  show upd mt (8 * r + i) (cI x) (8 * a + b) = cI (if a = r ∧ b = i then x else Q a b)
  by_cases c : a = r ∧ b = i
  · rw [if_pos c, c.1, c.2]; exact pk_us
  · rw [if_neg c, pk_un (by omega)]; exact h a b ha hb
theorem mx_out {mt : Nat → Int32} {n : Nat} {Q : Nat → Nat → Fin 5} {r i : Nat} {x : Int32} (hn : n ≤ 8) (hi : i < 8) (hni : n ≤ i) (h : MX mt n Q) : MX (upd mt (8 * r + i) x) n Q := by
  intro a b ha hb
  rw [pk_un (by omega)]; exact h a b ha hb
theorem mx_congr {mt : Nat → Int32} {n : Nat} {Q Q' : Nat → Nat → Fin 5} (e : ∀ r i, r < n → i < n → Q r i = Q' r i) (h : MX mt n Q) : MX mt n Q' := fun r i hr hi => by
  rw [← e r i hr hi]; exact h r i hr hi
theorem c_sub1 : ∀ a : Fin 5, md (cI a - 1) = cI (a - 1) := by decide +kernel
theorem c_neg : ∀ a : Fin 5, md (-cI a) = cI (-a) := by decide +kernel
theorem b_set : ∀ k : Fin 8, ∀ m : Fin 256, m.val < 2 ^ k.val → nI m.val ||| ((1 : Int32) <<< (nI k.val &&& 31)) = nI (m.val + 2 ^ k.val) := by decide +kernel
theorem b_get : ∀ k : Fin 8, ∀ m : Fin 256, ((nI m.val >>> (nI k.val &&& 31)) &&& 1) = 0 ↔ m.val / 2 ^ k.val % 2 = 0 := by decide +kernel
theorem b_get' {k m : Nat} (hk : k < 8) (hm : m < 256) : ((nI m >>> (nI k &&& 31)) &&& 1) = 0 ↔ bi m k = 0 := b_get ⟨k, hk⟩ ⟨m, hm⟩
theorem b_set' {k m : Nat} (hk : k < 8) (hm : m < 2 ^ k) : nI m ||| ((1 : Int32) <<< (nI k &&& 31)) = nI (m + 2 ^ k) := by
  have : 2 ^ k ≤ 2 ^ 7 := Nat.pow_le_pow_right (by omega) (by omega)
  exact b_set ⟨k, hk⟩ ⟨m, by omega⟩ hm
theorem rm_mm {R : Type} [Lean.Grind.CommRing R] {co : R → Nat → Fin 5} (H : PL co) (a b : R) {S : R} (hS : S ≠ 0) : rm co (rm co a S * rm co b S) S = rm co (a * b) S := by
  have s1 := qr_spec H a hS
  have s2 := qr_spec H b hS
  have s3 := qr_spec H (rm co a S * rm co b S) hS
  refine (qr_un H (a := a * b) (b := S) (q := qo co a S * qo co b S * S + qo co a S * rm co b S + rm co a S * qo co b S + qo co (rm co a S * rm co b S) S) (r := rm co (rm co a S * rm co b S) S) ?_ s3.2).2.symm
  have e1 := s1.1
  have e2 := s2.1
  have e3 := s3.1
  generalize rm co (rm co a S * rm co b S) S = r3 at *
  generalize qo co (rm co a S * rm co b S) S = q3 at *
  generalize rm co a S = r1 at *
  generalize rm co b S = r2 at *
  generalize qo co a S = q1 at *
  generalize qo co b S = q2 at *
  have : a * b = (q1 * S + r1) * (q2 * S + r2) := by rw [← e1, ← e2]
  rw [this]
  grind
section
variable {f_count f_place f_operators f_values f_fault f_found f_factored f_pieces f_kernel : Int32} {a_kind a_with a_c a_top a_product a_there a_waiting a_powers a_matrix a_basis : Nat → Int32}
theorem x_exch_l {Q : Nat → Nat → Fin 5} {n r s : Nat} {post : SX → Prop} (hn : n ≤ 8) (hr : r < n) (hs : s < n)
    (K : ∀ mt, MX mt n (xch Q r s) → post (f_count, f_place, f_operators, f_values, f_fault, f_found, f_factored, f_pieces, f_kernel, a_kind, a_with, a_c, a_top, a_product, a_there, a_waiting, a_powers, mt, a_basis)) : ∀ d i mt, i + d = 8 → MX mt n (fun a b => if b < i then xch Q r s a b else Q a b) → ∀ m, d < m → wX_exchange_2 post (nI r) (nI s) f_count f_place f_operators f_values f_fault f_found f_factored f_pieces f_kernel m (nI i) a_kind a_with a_c a_top a_product a_there a_waiting a_powers mt a_basis := by
  intro d
  induction d with
  | zero =>
    intro i mt hi hm m hlt
    obtain ⟨m, rfl⟩ : ∃ k, m = k + 1 := ⟨m - 1, by omega⟩
    exact br_t (nI_le (a := 8) (by omega) (by omega)) (K mt (mx_congr (fun a b ha hb => by rw [if_pos (by omega)]) hm))
  | succ d ih =>
    intro i mt hi hm m hlt
    obtain ⟨m, rfl⟩ : ∃ k, m = k + 1 := ⟨m - 1, by omega⟩
    refine br_f (nI_ge (b := 8) (by omega) (by decide)) ⟨in8 (by omega) (by omega), nm_e ⟨in8 (by omega) (by omega), in8 (by omega) (by omega), ?_⟩⟩
    rw [cl8 (by omega) (by omega), cl8 (by omega) (by omega)]
    by_cases c : i < n
    · have e1 := hm r i hr c
      have e2 := hm s i hs c
      dsimp only at e1 e2
      rw [if_neg (by omega)] at e1 e2
      rw [e1, e2, c_nar, c_nar]
      refine nm_e ⟨in8 (by omega) (by omega), nm_e (nm_r (nI_1 i) (ih (i + 1) _ (by omega) (mx_congr (fun a b ha hb => ?_) (mx_up (x := Q r i) (r := s) (i := i) hn (by omega) (mx_up (x := Q s i) (r := r) (i := i) hn (by omega) hm))) m (by omega)))⟩
      show (if a = s ∧ b = i then Q r i else if a = r ∧ b = i then Q s i else if b < i then xch Q r s a b else Q a b) = if b < i + 1 then xch Q r s a b else Q a b
      by_cases q : b = i
      · rw [if_pos (by omega : b < i + 1)]
        unfold xch
        by_cases q1 : a = s
        · rw [if_pos ⟨q1, q⟩, if_pos q1, q]
        · rw [if_neg (fun w => q1 w.1), if_neg q1]
          by_cases q2 : a = r
          · rw [if_pos ⟨q2, q⟩, if_pos q2, q]
          · rw [if_neg (fun w => q2 w.1), if_neg q2, if_neg (by omega)]
      · rw [if_neg (fun w => q w.2), if_neg (fun w => q w.2)]
        by_cases q3 : b < i
        · rw [if_pos q3, if_pos (by omega)]
        · rw [if_neg q3, if_neg (by omega)]
    · refine nm_e ⟨in8 (by omega) (by omega), nm_e (nm_r (nI_1 i) (ih (i + 1) _ (by omega) (mx_congr (fun a b ha hb => ?_) (mx_out (r := s) hn (by omega) (by omega) (mx_out (r := r) hn (by omega) (by omega) hm))) m (by omega)))⟩
      show (if b < i then xch Q r s a b else Q a b) = if b < i + 1 then xch Q r s a b else Q a b
      rw [if_pos (by omega), if_pos (by omega)]
theorem x_exchange {Q : Nat → Nat → Fin 5} {n r s : Nat} {post : SX → Prop} (hn : n ≤ 8) (hr : r < n) (hs : s < n) (hm : MX a_matrix n Q)
    (K : ∀ mt, MX mt n (xch Q r s) → post (f_count, f_place, f_operators, f_values, f_fault, f_found, f_factored, f_pieces, f_kernel, a_kind, a_with, a_c, a_top, a_product, a_there, a_waiting, a_powers, mt, a_basis)) : wpX_exchange post (f_count, f_place, f_operators, f_values, f_fault, f_found, f_factored, f_pieces, f_kernel, a_kind, a_with, a_c, a_top, a_product, a_there, a_waiting, a_powers, a_matrix, a_basis) (nI r) (nI s) := by
  unfold wpX_exchange
  exact ⟨9, x_exch_l hn hr hs K 8 0 a_matrix (by omega) (mx_congr (fun a b _ _ => by rw [if_neg (by omega)]) hm) 9 (by omega)⟩
theorem x_cle_101 {Q : Nat → Nat → Fin 5} {n row k r : Nat} {post : SX → Prop} {J : Int32 → (Nat → Int32) → (Nat → Int32) → (Nat → Int32) → (Nat → Int32) → (Nat → Int32) → (Nat → Int32) → (Nat → Int32) → (Nat → Int32) → (Nat → Int32) → (Nat → Int32) → Prop} (hn : n ≤ 8) (hrow : row < n) (hk : k < n) (hr : r < n) (hne : r ≠ row)
    (K : ∀ mt, MX mt n (fun a b => if a = row ∨ a < r + 1 then cln Q row k a b else Q a b) → J (nI (r + 1)) a_kind a_with a_c a_top a_product a_there a_waiting a_powers mt a_basis) : ∀ d i mt, i + d = n → MX mt n (fun a b => if a = row ∨ a < r ∨ (a = r ∧ b < i) then cln Q row k a b else Q a b) → ∀ m, d < m → wX_clean_101 post J (nI row) (nI k) (nI n) (nI r) (cI (Q r k)) f_count f_place f_operators f_values f_fault f_found f_factored f_pieces f_kernel m (nI i) a_kind a_with a_c a_top a_product a_there a_waiting a_powers mt a_basis := by
  intro d
  induction d with
  | zero =>
    intro i mt hi hm m hlt
    obtain ⟨m, rfl⟩ : ∃ k, m = k + 1 := ⟨m - 1, by omega⟩
    refine br_t (nI_le (by omega) (by omega)) (nm_r (nI_1 r) (K mt (mx_congr (fun a b ha hb => ?_) hm)))
    by_cases q : a = row ∨ a < r + 1
    · rw [if_pos q, if_pos (by omega)]
    · rw [if_neg q, if_neg (by omega)]
  | succ d ih =>
    intro i mt hi hm m hlt
    obtain ⟨m, rfl⟩ : ∃ k, m = k + 1 := ⟨m - 1, by omega⟩
    refine br_f (nI_ge (by omega) (by omega)) ⟨in8 (by omega) (by omega), in8 (by omega) (by omega), x_mod ?_⟩
    have e1 := hm r i hr (by omega)
    have e2 := hm row i hrow (by omega)
    dsimp only at e1 e2
    rw [if_neg (by omega)] at e1
    rw [if_pos (by omega)] at e2
    rw [cl8 (by omega) (by omega), cl8 (by omega) (by omega), e1, e2, c_subm]
    have ec : Q r i - Q r k * cln Q row k row i = cln Q row k r i := by
      unfold cln
      rw [if_pos rfl, if_neg hne]
    rw [ec]
    refine ⟨in8 (by omega) (by omega), nm_r (e' := upd mt (8 * r + i) (cI (cln Q row k r i))) (by rw [c_nar8]) (nm_r (nI_1 i) (ih (i + 1) _ (by omega) (mx_congr (fun a b ha hb => ?_) (mx_up (x := cln Q row k r i) (r := r) (i := i) hn (by omega) hm)) m (by omega)))⟩
    show (if a = r ∧ b = i then cln Q row k r i else if a = row ∨ a < r ∨ (a = r ∧ b < i) then cln Q row k a b else Q a b) = if a = row ∨ a < r ∨ (a = r ∧ b < i + 1) then cln Q row k a b else Q a b
    by_cases q : a = r ∧ b = i
    · rw [if_pos q, if_pos (by omega), q.1, q.2]
    · rw [if_neg q]
      by_cases q2 : a = row ∨ a < r ∨ (a = r ∧ b < i)
      · rw [if_pos q2, if_pos (by omega)]
      · rw [if_neg q2, if_neg (by omega)]
theorem x_cle_64 {Q : Nat → Nat → Fin 5} {n row k : Nat} {post : SX → Prop} (hn : n ≤ 8) (hrow : row < n) (hk : k < n)
    (K : ∀ mt, MX mt n (cln Q row k) → post (f_count, f_place, f_operators, f_values, f_fault, f_found, f_factored, f_pieces, f_kernel, a_kind, a_with, a_c, a_top, a_product, a_there, a_waiting, a_powers, mt, a_basis)) : ∀ d r mt, r + d = n → MX mt n (fun a b => if a = row ∨ a < r then cln Q row k a b else Q a b) → ∀ m, d < m → wX_clean_64 post (nI row) (nI k) (nI n) f_count f_place f_operators f_values f_fault f_found f_factored f_pieces f_kernel m (nI r) a_kind a_with a_c a_top a_product a_there a_waiting a_powers mt a_basis := by
  intro d
  induction d with
  | zero =>
    intro r mt hr hm m hlt
    obtain ⟨m, rfl⟩ : ∃ k, m = k + 1 := ⟨m - 1, by omega⟩
    exact br_t (nI_le (by omega) (by omega)) (K mt (mx_congr (fun a b ha hb => by rw [if_pos (by omega)]) hm))
  | succ d ih =>
    intro r mt hr hm m hlt
    obtain ⟨m, rfl⟩ : ∃ k, m = k + 1 := ⟨m - 1, by omega⟩
    refine br_f (nI_ge (by omega) (by omega)) ⟨in8 (by omega) (by omega), ?_⟩
    rw [cl8 (by omega) (by omega)]
    by_cases q : r = row
    · refine nm_e (br_t (by rw [q]) (nm_r (nI_1 r) (ih (r + 1) mt (by omega) (mx_congr (fun a b ha hb => ?_) hm) m (by omega))))
      by_cases q2 : a = row ∨ a < r
      · rw [if_pos q2, if_pos (by omega)]
      · rw [if_neg q2, if_neg (by omega)]
    · have e1 := hm r k (by omega) hk
      dsimp only at e1
      rw [if_neg (by omega)] at e1
      rw [e1]
      refine nm_e (br_f (by rw [nI_eq (by omega) (by omega)]; exact q) ?_)
      by_cases z : Q r k = 0
      · refine br_t (by rw [z]; rfl) (nm_r (nI_1 r) (ih (r + 1) mt (by omega) (mx_congr (fun a b ha hb => ?_) hm) m (by omega)))
        by_cases q2 : a = r
        · rw [if_neg (by omega), if_pos (by omega)]
          unfold cln
          rw [if_neg (by omega), q2, z, f5_0m]
          have : ∀ x : Fin 5, x = x - 0 := by decide
          exact this _
        · by_cases q3 : a = row ∨ a < r
          · rw [if_pos q3, if_pos (by omega)]
          · rw [if_neg q3, if_neg (by omega)]
      · refine br_f (fun w => z ((c_0 _).mp w)) ⟨9, ?_⟩
        exact x_cle_101 hn hrow hk (by omega) q (fun mt' hm' => ih (r + 1) mt' (by omega) hm' m (by omega)) n 0 mt (by omega) (mx_congr (fun a b ha hb => by
          by_cases q3 : a = row ∨ a < r
          · rw [if_pos q3, if_pos (by omega)]
          · rw [if_neg q3, if_neg (by omega)]) hm) 9 (by omega)
theorem x_cle_19 {Q : Nat → Nat → Fin 5} {n row k : Nat} {post : SX → Prop} (hn : n ≤ 8) (hrow : row < n) (hk : k < n)
    (K : ∀ mt, MX mt n (cln Q row k) → post (f_count, f_place, f_operators, f_values, f_fault, f_found, f_factored, f_pieces, f_kernel, a_kind, a_with, a_c, a_top, a_product, a_there, a_waiting, a_powers, mt, a_basis)) : ∀ d i mt, i + d = n → MX mt n (fun a b => if a = row ∧ b < i then cln Q row k a b else Q a b) → ∀ m, d < m → wX_clean_19 post (nI row) (nI k) (nI n) (cI (Q row k * Q row k * Q row k)) f_count f_place f_operators f_values f_fault f_found f_factored f_pieces f_kernel m (nI i) a_kind a_with a_c a_top a_product a_there a_waiting a_powers mt a_basis := by
  intro d
  induction d with
  | zero =>
    intro i mt hi hm m hlt
    obtain ⟨m, rfl⟩ : ∃ k, m = k + 1 := ⟨m - 1, by omega⟩
    refine br_t (nI_le (by omega) (by omega)) ⟨9, ?_⟩
    exact x_cle_64 hn hrow hk K n 0 mt (by omega) (mx_congr (fun a b ha hb => by
      by_cases q3 : a = row
      · rw [if_pos (by omega), if_pos (by omega)]
      · rw [if_neg (by omega), if_neg (by omega)]) hm) 9 (by omega)
  | succ d ih =>
    intro i mt hi hm m hlt
    obtain ⟨m, rfl⟩ : ∃ k, m = k + 1 := ⟨m - 1, by omega⟩
    have e1 := hm row i hrow (by omega)
    dsimp only at e1
    rw [if_neg (by omega)] at e1
    have ec : Q row i * (Q row k * Q row k * Q row k) = cln Q row k row i := by
      unfold cln
      rw [if_pos rfl]
    refine br_f (nI_ge (by omega) (by omega)) ⟨in8 (by omega) (by omega), by decide, in8 (by omega) (by omega), nm_r (e' := upd mt (8 * row + i) (cI (cln Q row k row i))) (by rw [cl8 (by omega) (by omega), e1, c_mul, c_nar8, ec]) (nm_r (nI_1 i) (ih (i + 1) _ (by omega) (mx_congr (fun a b ha hb => ?_) (mx_up (x := cln Q row k row i) (r := row) (i := i) hn (by omega) hm)) m (by omega)))⟩
    show (if a = row ∧ b = i then cln Q row k row i else if a = row ∧ b < i then cln Q row k a b else Q a b) = if a = row ∧ b < i + 1 then cln Q row k a b else Q a b
    by_cases q : a = row ∧ b = i
    · rw [if_pos q, if_pos (by omega), q.1, q.2]
    · rw [if_neg q]
      by_cases q2 : a = row ∧ b < i
      · rw [if_pos q2, if_pos (by omega)]
      · rw [if_neg q2, if_neg (by omega)]
theorem x_clean {Q : Nat → Nat → Fin 5} {n row k : Nat} {post : SX → Prop} (hn : n ≤ 8) (hrow : row < n) (hk : k < n) (hm : MX a_matrix n Q)
    (K : ∀ mt, MX mt n (cln Q row k) → post (f_count, f_place, f_operators, f_values, f_fault, f_found, f_factored, f_pieces, f_kernel, a_kind, a_with, a_c, a_top, a_product, a_there, a_waiting, a_powers, mt, a_basis)) : wpX_clean post (f_count, f_place, f_operators, f_values, f_fault, f_found, f_factored, f_pieces, f_kernel, a_kind, a_with, a_c, a_top, a_product, a_there, a_waiting, a_powers, a_matrix, a_basis) (nI row) (nI k) (nI n) := by
  unfold wpX_clean
  refine ⟨in8 (by omega) (by omega), ?_⟩
  rw [cl8 (by omega) (by omega), hm row k hrow hk]
  unfold wpX_over
  refine ⟨by decide, ?_⟩
  rw [c_inv]
  exact ⟨9, x_cle_19 hn hrow hk K n 0 a_matrix (by omega) (mx_congr (fun a b _ _ => by rw [if_neg (by omega)]) hm) 9 (by omega)⟩
/-- the rows of the basis: those of the columns without a pivot below k -/
def BX (bs : Nat → Int32) (n : Nat) (Q : Nat → Nat → Fin 5) (m k : Nat) : Prop := ∀ j, j < k → bi m j = 0 → ∀ i, i < n → bs (8 * fk m j + i) = cI (vc Q m j i)
theorem fk_le (m : Nat) {j k : Nat} (h : j < k) (hb : bi m j = 0) : fk m j < fk m k := by
  have mono : ∀ d, fk m (j + 1) ≤ fk m (j + 1 + d) := by
    intro d
    induction d with
    | zero => exact Nat.le_refl _
    | succ d ih =>
      have : fk m (j + 1 + (d + 1)) = fk m (j + 1 + d) + (1 - bi m (j + 1 + d)) := rfl
      omega
  have e : fk m (j + 1) = fk m j + (1 - bi m j) := rfl
  have := mono (k - (j + 1))
  rw [show j + 1 + (k - (j + 1)) = k by omega] at this
  omega
theorem x_vec_l {Q : Nat → Nat → Fin 5} {n m f κ : Nat} {bs0 : Nat → Int32} {post : SX → Prop} (hn : n ≤ 8) (hm256 : m < 256) (hκ : κ < 8) (hf : f < n) (hr : rk m n ≤ n) (hm : MX a_matrix n Q)
    (K : ∀ bs, (∀ i, i < n → bs (8 * κ + i) = cI (vc Q m f i)) → (∀ j, j < 8 * κ → bs j = bs0 j) → post (f_count, f_place, f_operators, f_values, f_fault, f_found, f_factored, f_pieces, nI (κ + 1), a_kind, a_with, a_c, a_top, a_product, a_there, a_waiting, a_powers, a_matrix, bs)) (hbf : bi m f = 0) : ∀ d k bs, k + d = n → (∀ i, i < k → bs (8 * κ + i) = cI (vc Q m f i)) → (∀ j, j < 8 * κ → bs j = bs0 j) → ∀ u, d < u → wX_vector_6 post (nI f) (nI n) (nI m) f_count f_place f_operators f_values f_fault f_found f_factored f_pieces (nI κ) u (nI (rk m k)) (nI k) a_kind a_with a_c a_top a_product a_there a_waiting a_powers a_matrix bs := by
  intro d
  induction d with
  | zero =>
    intro k bs hk h1 h2 u hu
    obtain ⟨u, rfl⟩ : ∃ k, u = k + 1 := ⟨u - 1, by omega⟩
    rw [show k = n by omega] at h1 ⊢
    exact br_t (nI_le (by omega) (by omega)) (nm_r (nI_1 κ) (K bs h1 h2))
  | succ d ih =>
    intro k bs hk h1 h2 u hu
    obtain ⟨u, rfl⟩ : ∃ k, u = k + 1 := ⟨u - 1, by omega⟩
    have rkk := rk_mono m (show k ≤ n by omega)
    have step : ∀ (x : Fin 5) (row : Int32), x = vc Q m f k → row = nI (rk m (k + 1)) → wX_vector_55 post (wX_vector_6 post (nI f) (nI n) (nI m) f_count f_place f_operators f_values f_fault f_found f_factored f_pieces (nI κ) u) (nI f) (nI n) (nI m) row (nI k) (cI x) f_count f_place f_operators f_values f_fault f_found f_factored f_pieces (nI κ) a_kind a_with a_c a_top a_product a_there a_waiting a_powers a_matrix bs := by
      intro x row ex er
      unfold wX_vector_55
      refine ⟨in8 hκ (by omega), nm_r (e' := upd bs (8 * κ + k) (cI x)) (by rw [cl8 hκ (by omega), c_nar8]) (nm_r (nI_1 k) ?_)⟩
      rw [er]
      refine ih (k + 1) _ (by omega) (fun i hi => ?_) (fun j hj => ?_) u (by omega)
      · by_cases q : i = k
        · rw [q, pk_us, ex]
        · rw [pk_un (by omega)]; exact h1 i (by omega)
      · rw [pk_un (by omega)]; exact h2 j hj
    have e1 : rk m (k + 1) = rk m k + bi m k := rfl
    have body : ∀ (z : Int32), (z = if k = f then 1 else 0) → wX_vector_23 post (wX_vector_6 post (nI f) (nI n) (nI m) f_count f_place f_operators f_values f_fault f_found f_factored f_pieces (nI κ) u) (nI f) (nI n) (nI m) (nI (rk m k)) (nI k) z f_count f_place f_operators f_values f_fault f_found f_factored f_pieces (nI κ) a_kind a_with a_c a_top a_product a_there a_waiting a_powers a_matrix bs := by
      intro z hz
      unfold wX_vector_23
      rcases bi_01 m k with b | b
      · refine br_t ((b_get' (by omega) hm256).mpr b) ?_
        have : z = cI (if k = f then 1 else 0) := by rw [hz]; split <;> rfl
        rw [this]
        refine step _ _ ?_ (by rw [e1, b, Nat.add_zero])
        unfold vc
        rw [if_pos b]
      · have lt := rk_lt m (show k < n by omega) b
        refine br_f (by rw [b_get' (by omega) hm256]; omega) (nm_r (nI_1 _) ⟨in8 (by omega) (by omega), x_mod ?_⟩)
        rw [cl8 (by omega) (by omega), hm (rk m k) f (by omega) hf, c_neg]
        refine step _ _ ?_ (by rw [e1, b])
        unfold vc
        rw [if_neg (by omega)]
    refine br_f (nI_ge (by omega) (by omega)) ?_
    by_cases q : k = f
    · exact br_t (by rw [q]) (body 1 (by rw [if_pos q]))
    · exact br_f (by rw [nI_eq (by omega) (by omega)]; exact q) (body 0 (by rw [if_neg q]))
theorem x_sol_89 {Q : Nat → Nat → Fin 5} {n m : Nat} {post : SX → Prop} (hn : n ≤ 8) (hm256 : m < 256) (hr : rk m n ≤ n) (hm : MX a_matrix n Q)
    (K : ∀ bs, BX bs n Q m n → post (f_count, f_place, f_operators, f_values, f_fault, f_found, f_factored, f_pieces, nI (fk m n), a_kind, a_with, a_c, a_top, a_product, a_there, a_waiting, a_powers, a_matrix, bs)) : ∀ d k bs, k + d = n → BX bs n Q m k → ∀ u, d < u → wX_solve_89 post (nI n) (nI m) u (nI k) f_count f_place f_operators f_values f_fault f_found f_factored f_pieces (nI (fk m k)) a_kind a_with a_c a_top a_product a_there a_waiting a_powers a_matrix bs := by
  intro d
  induction d with
  | zero =>
    intro k bs hk h1 u hu
    obtain ⟨u, rfl⟩ : ∃ k, u = k + 1 := ⟨u - 1, by omega⟩
    rw [show k = n by omega] at h1 ⊢
    exact br_t (nI_le (by omega) (by omega)) (K bs h1)
  | succ d ih =>
    intro k bs hk h1 u hu
    obtain ⟨u, rfl⟩ : ∃ k, u = k + 1 := ⟨u - 1, by omega⟩
    have e1 : fk m (k + 1) = fk m k + (1 - bi m k) := rfl
    have fl : fk m k ≤ k := by have := rf_k m k; omega
    refine br_f (nI_ge (by omega) (by omega)) ?_
    rcases bi_01 m k with b | b
    · refine br_t ((b_get' (by omega) hm256).mpr b) ?_
      refine ⟨9, ?_⟩
      refine x_vec_l (κ := fk m k) (bs0 := bs) hn hm256 (by omega) (by omega) hr hm (fun bs' g1 g2 => ?_) b n 0 bs (by omega) (fun i hi => absurd hi (Nat.not_lt_zero i)) (fun j _ => rfl) 9 (by omega)
      refine nm_r (nI_1 k) ?_
      have := ih (k + 1) bs' (by omega) (fun j hj bj i hi => ?_) u (by omega)
      · rw [e1, b] at this
        exact this
      · by_cases q : j = k
        · rw [q]; exact g1 i hi
        · have lt := fk_le m (show j < k by omega) bj
          rw [g2 _ (by omega)]
          exact h1 j (by omega) bj i hi
    · refine br_f (by rw [b_get' (by omega) hm256]; omega) (nm_r (nI_1 k) ?_)
      have := ih (k + 1) bs (by omega) (fun j hj bj i hi => h1 j (by
        by_cases q : j = k
        · rw [q] at bj; omega
        · omega) bj i hi) u (by omega)
      rw [e1, b] at this
      exact this
theorem x_sol_16 {Q : Nat → Nat → Fin 5} {n m k : Nat} {post : SX → Prop} {J : Int32 → Int32 → Int32 → Int32 → Int32 → Int32 → Int32 → Int32 → Int32 → Int32 → Int32 → Int32 → (Nat → Int32) → (Nat → Int32) → (Nat → Int32) → (Nat → Int32) → (Nat → Int32) → (Nat → Int32) → (Nat → Int32) → (Nat → Int32) → (Nat → Int32) → (Nat → Int32) → Prop} (hn : n ≤ 8) (hk : k < n) (hE : Ech n Q m k) (hm : MX a_matrix n Q)
    (K0 : Ech n Q m (k + 1) → J (nI m) (nI (rk m k)) (nI (k + 1)) f_count f_place f_operators f_values f_fault f_found f_factored f_pieces f_kernel a_kind a_with a_c a_top a_product a_there a_waiting a_powers a_matrix a_basis)
    (K1 : ∀ r mt, rk m k ≤ r → r < n → Q r k ≠ 0 → MX mt n (cln (xch Q r (rk m k)) (rk m k) k) → J (nI (m + 2 ^ k)) (nI (rk m k + 1)) (nI (k + 1)) f_count f_place f_operators f_values f_fault f_found f_factored f_pieces f_kernel a_kind a_with a_c a_top a_product a_there a_waiting a_powers mt a_basis) : ∀ d r, r + d = n → rk m k ≤ r → (∀ r', rk m k ≤ r' → r' < r → Q r' k = 0) → ∀ u, d < u → wX_solve_16 post J (nI n) (nI m) (nI (rk m k)) (nI k) f_count f_place f_operators f_values f_fault f_found f_factored f_pieces f_kernel a_kind a_with a_c a_top a_product a_there a_waiting a_powers a_matrix a_basis u (nI r) := by
  intro d
  induction d with
  | zero =>
    intro r hr h1 h2 u hu
    obtain ⟨u, rfl⟩ : ∃ k, u = k + 1 := ⟨u - 1, by omega⟩
    refine br_t (nI_le (by omega) (by omega)) ?_
    unfold wX_solve_44
    exact br_t (nI_le (by omega) (by omega)) (nm_r (nI_1 k) (K0 (ech_no hE (fun r' q1 q2 => h2 r' q1 (by omega)))))
  | succ d ih =>
    intro r hr h1 h2 u hu
    obtain ⟨u, rfl⟩ : ∃ k, u = k + 1 := ⟨u - 1, by omega⟩
    refine br_f (nI_ge (by omega) (by omega)) ⟨in8 (by omega) (by omega), ?_⟩
    rw [cl8 (by omega) (by omega), hm r k (by omega) hk]
    by_cases z : Q r k = 0
    · refine br_t (by rw [z]; rfl) (nm_r (nI_1 r) (ih (r + 1) (by omega) (by omega) (fun r' q1 q2 => ?_) u (by omega)))
      by_cases q : r' = r
      · rw [q]; exact z
      · exact h2 r' q1 (by omega)
    · refine br_f (fun w => z ((c_0 _).mp w)) ?_
      unfold wX_solve_44
      refine br_f (nI_ge (by omega) (by omega)) ?_
      refine x_exchange hn (by omega) (by omega) hm (fun mt1 hm1 => ?_)
      refine x_clean hn (by omega) hk hm1 (fun mt2 hm2 => ?_)
      exact nm_r (b_set' (by omega) hE.1) (nm_r (nI_1 _) (nm_r (nI_1 k) (K1 r mt2 h1 (by omega) z hm2)))
theorem x_sol_7 {Q0 : Nat → Nat → Fin 5} {n : Nat} {post : SX → Prop} (hn : n ≤ 8)
    (K : ∀ Q m mt bs, Ech n Q m n → (∀ v, Ke n n Q v ↔ Ke n n Q0 v) → BX bs n Q m n → post (f_count, f_place, f_operators, f_values, f_fault, f_found, f_factored, f_pieces, nI (fk m n), a_kind, a_with, a_c, a_top, a_product, a_there, a_waiting, a_powers, mt, bs)) : ∀ d k m Q mt, k + d = n → Ech n Q m k → (∀ v, Ke n n Q v ↔ Ke n n Q0 v) → MX mt n Q → ∀ u, d < u → wX_solve_7 post (nI n) u (nI m) (nI (rk m k)) (nI k) f_count f_place f_operators f_values f_fault f_found f_factored f_pieces f_kernel a_kind a_with a_c a_top a_product a_there a_waiting a_powers mt a_basis := by
  intro d
  induction d with
  | zero =>
    intro k m Q mt hk hE hK hm u hu
    obtain ⟨u, rfl⟩ : ∃ k, u = k + 1 := ⟨u - 1, by omega⟩
    have e : k = n := by omega
    rw [e] at hE
    have p8 : 2 ^ n ≤ 2 ^ 8 := Nat.pow_le_pow_right (by omega) hn
    refine br_t (nI_le (by omega) (by omega)) ⟨9, ?_⟩
    exact x_sol_89 hn (by have := hE.1; omega) hE.2.1 hm (fun bs hb => K Q m mt bs hE hK hb) n 0 a_basis (by omega) (fun j hj => absurd hj (Nat.not_lt_zero j)) 9 (by omega)
  | succ d ih =>
    intro k m Q mt hk hE hK hm u hu
    obtain ⟨u, rfl⟩ : ∃ k, u = k + 1 := ⟨u - 1, by omega⟩
    have b0 := bi_hi hE.1
    have b1 := bi_k hE.1
    have rl := hE.2.1
    refine br_f (nI_ge (by omega) (by omega)) ⟨9, ?_⟩
    refine x_sol_16 hn (by omega) hE hm (fun hE' => ?_) (fun r mt' h1 h2 z hm' => ?_) (n - rk m k) (rk m k) (by omega) (Nat.le_refl _) (fun r' q1 q2 => by omega) 9 (by omega)
    · have := ih (k + 1) m Q mt (by omega) hE' hK hm u (by omega)
      rw [show rk m (k + 1) = rk m k from by show rk m k + bi m k = rk m k; omega] at this
      exact this
    · have nz : xch Q r (rk m k) (rk m k) k ≠ 0 := by unfold xch; rw [if_pos rfl]; exact z
      have := ih (k + 1) (m + 2 ^ k) _ mt' (by omega) (ech_pv hE h1 h2 z) (fun v => ((ke_cln (by omega) nz v).trans (ke_xch h2 (by omega) v)).trans (hK v)) hm' u (by omega)
      rw [show rk (m + 2 ^ k) (k + 1) = rk m k + 1 from by
        show rk (m + 2 ^ k) k + bi (m + 2 ^ k) k = _
        rw [rk_add k (Nat.le_refl k), b1]] at this
      exact this
theorem x_solve {Q : Nat → Nat → Fin 5} {n : Nat} {post : SX → Prop} (hn : n ≤ 8) (hm : MX a_matrix n Q)
    (K : ∀ Q' m mt bs, Ech n Q' m n → (∀ v, Ke n n Q' v ↔ Ke n n Q v) → BX bs n Q' m n → post (f_count, f_place, f_operators, f_values, f_fault, f_found, f_factored, f_pieces, nI (fk m n), a_kind, a_with, a_c, a_top, a_product, a_there, a_waiting, a_powers, mt, bs)) : wpX_solve post (f_count, f_place, f_operators, f_values, f_fault, f_found, f_factored, f_pieces, f_kernel, a_kind, a_with, a_c, a_top, a_product, a_there, a_waiting, a_powers, a_matrix, a_basis) (nI n) := by
  unfold wpX_solve
  exact ⟨9, x_sol_7 hn K n 0 0 Q a_matrix (by omega) (ech_0 n Q) (fun _ => Iff.rfl) hm 9 (by omega)⟩
theorem x_col_41 {R : Type} [Lean.Grind.CommRing R] {co : R → Nat → Fin 5} (H : PL co) {M : Nat → Option R} {S : R} {n i : Nat} {post : SX → Prop} {J : Int32 → Int32 → Int32 → Int32 → Int32 → Int32 → Int32 → Int32 → Int32 → Int32 → (Nat → Int32) → (Nat → Int32) → (Nat → Int32) → (Nat → Int32) → (Nat → Int32) → (Nat → Int32) → (Nat → Int32) → (Nat → Int32) → (Nat → Int32) → (Nat → Int32) → Prop} (hn : n ≤ 8) (hi : i < n) (hS : dl co S = n + 1) (hx : RX co a_c a_top M) (m0 : M 40 = some S) (m1 : M 43 = some (rm co (mo co 1 (5 * i)) S)) (m2 : M 44 = some (rm co (mo co 1 5) S))
    (K : ∀ M' c t pr mt, RX co c t M' → M' 43 = some (rm co (mo co 1 (5 * (i + 1))) S) → (∀ r, r ≠ 43 → r ≠ 45 → r ≠ 51 → M' r = M r) → (∀ a b, a < n → b < i + 1 → mt (8 * a + b) = cI (bQ co S a b)) → J (nI (i + 1)) f_count f_place f_operators f_values f_fault f_found f_factored f_pieces f_kernel a_kind a_with c t pr a_there a_waiting a_powers mt a_basis) : ∀ d k mt, k + d = n → (∀ a b, a < n → b < i → mt (8 * a + b) = cI (bQ co S a b)) → (∀ a, a < k → mt (8 * a + i) = cI (co (rm co (mo co 1 (5 * i)) S) a)) → ∀ u, d < u → wX_columns_41 post J (nI n) (nI i) f_count f_place f_operators f_values f_fault f_found f_factored f_pieces f_kernel u (nI k) a_kind a_with a_c a_top a_product a_there a_waiting a_powers mt a_basis := by
  have nS : S ≠ 0 := dl_nz H (by omega)
  obtain ⟨r1, r2, r3⟩ := hx 43 (by omega) _ m1
  have lD := (qr_spec H (mo co 1 (5 * i)) nS).2
  have lE := (qr_spec H (mo co 1 5) nS).2
  intro d
  induction d with
  | zero =>
    intro k mt hk hm hc u hu
    obtain ⟨u, rfl⟩ : ∃ k, u = k + 1 := ⟨u - 1, by omega⟩
    refine br_t (nI_le (by omega) (by omega)) ⟨in8 (by omega) (by omega), x_mod ?_⟩
    rw [cl8 (by omega) (by omega), hc i (by omega), c_sub1]
    refine ⟨in8 (by omega) (by omega), nm_r (e' := upd mt (8 * i + i) (cI (co (rm co (mo co 1 (5 * i)) S) i - 1))) (by rw [c_nar8]) ?_⟩
    refine x_multiply H (a := 43) (b := 44) (z := 45) hx (by omega) (by omega) (by omega) m1 m2 (by omega) (fun c1 t1 p1 x1 => ?_)
    refine x_copy H (a := 45) (b := 43) x1 (by omega) (by omega) uo_s (fun c2 t2 x2 => ?_)
    refine x_rest H (a := 43) (b := 40) x2 (by omega) (by omega) (by omega) (by omega) (by omega) uo_s (by (repeat rw [uo_n (by omega)]) <;> exact m0) nS (fun c3 t3 x3 => ?_)
    refine nm_r (nI_1 i) (K _ c3 t3 p1 _ x3 ?_ (fun r q1 q2 q3 => (by (repeat rw [uo_n (by omega)]) <;> exact rfl)) (fun a b ha hb => ?_))
    · rw [uo_n (by omega), uo_s, rm_mm H _ _ nS, mo_mul H, f5_m1, show 5 * i + 5 = 5 * (i + 1) by omega]
    · by_cases q : b = i
      · unfold bQ
        by_cases q2 : a = i
        · rw [q2, q, if_pos rfl]; exact pk_us
        · rw [pk_un (by omega), q, hc a (by omega), if_neg q2]
          have : ∀ x : Fin 5, x = x - 0 := by decide
          rw [← this]
      · rw [pk_un (by omega)]; exact hm a b ha (by omega)
  | succ d ih =>
    intro k mt hk hm hc u hu
    obtain ⟨u, rfl⟩ : ∃ k, u = k + 1 := ⟨u - 1, by omega⟩
    have ei : (1032 : Int32) + nI k = nI (24 * 43 + k) := nI_add 1032 k
    refine br_f (nI_ge (by omega) (by omega)) ?_
    rw [ei, nI_clamp (by omega), r2 k (by omega), c_nar]
    refine ⟨vp_in_nI (by omega) (by omega), in8 (by omega) (by omega), nm_r (e' := upd mt (8 * k + i) (cI (co (rm co (mo co 1 (5 * i)) S) k))) (by rw [cl8 (by omega) (by omega)]) (nm_r (nI_1 k) (ih (k + 1) _ (by omega) (fun a b ha hb => ?_) (fun a ha => ?_) u (by omega)))⟩
    · rw [pk_un (by omega)]; exact hm a b ha hb
    · by_cases q : a = k
      · rw [q]; exact pk_us
      · rw [pk_un (by omega)]; exact hc a (by omega)
theorem x_col_34 {R : Type} [Lean.Grind.CommRing R] {co : R → Nat → Fin 5} (H : PL co) {M0 : Nat → Option R} {S : R} {n : Nat} {post : SX → Prop} (hn : n ≤ 8) (hS : dl co S = n + 1) (m0 : M0 40 = some S) (m2 : M0 44 = some (rm co (mo co 1 5) S))
    (K : ∀ M c t pr mt, RX co c t M → (∀ r, r ≠ 43 → r ≠ 45 → r ≠ 51 → M r = M0 r) → MX mt n (bQ co S) → post (f_count, f_place, f_operators, f_values, f_fault, f_found, f_factored, f_pieces, f_kernel, a_kind, a_with, c, t, pr, a_there, a_waiting, a_powers, mt, a_basis)) : ∀ d i M c t pr mt, i + d = n → RX co c t M → M 43 = some (rm co (mo co 1 (5 * i)) S) → (∀ r, r ≠ 43 → r ≠ 45 → r ≠ 51 → M r = M0 r) → (∀ a b, a < n → b < i → mt (8 * a + b) = cI (bQ co S a b)) → ∀ u, d < u → wX_columns_34 post (nI n) u (nI i) f_count f_place f_operators f_values f_fault f_found f_factored f_pieces f_kernel a_kind a_with c t pr a_there a_waiting a_powers mt a_basis := by
  intro d
  induction d with
  | zero =>
    intro i M c t pr mt hi hx m1 fr hm u hu
    obtain ⟨u, rfl⟩ : ∃ k, u = k + 1 := ⟨u - 1, by omega⟩
    exact br_t (nI_le (by omega) (by omega)) (K M c t pr mt hx fr (fun a b ha hb => hm a b ha (by omega)))
  | succ d ih =>
    intro i M c t pr mt hi hx m1 fr hm u hu
    obtain ⟨u, rfl⟩ : ∃ k, u = k + 1 := ⟨u - 1, by omega⟩
    refine br_f (nI_ge (by omega) (by omega)) ⟨9, ?_⟩
    refine x_col_41 H hn (by omega) hS hx (by rw [fr 40 (by omega) (by omega) (by omega)]; exact m0) m1 (by rw [fr 44 (by omega) (by omega) (by omega)]; exact m2) (fun M' c' t' pr' mt' hx' m1' fr' hm' => ?_) n 0 mt (by omega) hm (fun a ha => absurd ha (Nat.not_lt_zero a)) 9 (by omega)
    refine ih (i + 1) M' c' t' pr' mt' (by omega) hx' m1' (fun r q1 q2 q3 => ?_) hm' u (by omega)
    rw [fr' r q1 q2 q3]
    exact fr r q1 q2 q3
theorem x_columns {R : Type} [Lean.Grind.CommRing R] {co : R → Nat → Fin 5} (H : PL co) {M : Nat → Option R} {S : R} {n : Nat} {post : SX → Prop} (h : RX co a_c a_top M) (hn : n ≤ 8) (hn1 : 1 ≤ n) (hS : dl co S = n + 1) (m0 : M 40 = some S)
    (K : ∀ M' c t pr mt, RX co c t M' → (∀ r, (r < 43 ∨ 52 ≤ r) → M' r = M r) → MX mt n (bQ co S) → post (f_count, f_place, f_operators, f_values, f_fault, f_found, f_factored, f_pieces, f_kernel, a_kind, a_with, c, t, pr, a_there, a_waiting, a_powers, mt, a_basis)) : wpX_columns post (f_count, f_place, f_operators, f_values, f_fault, f_found, f_factored, f_pieces, f_kernel, a_kind, a_with, a_c, a_top, a_product, a_there, a_waiting, a_powers, a_matrix, a_basis) := by
  unfold wpX_columns
  have nS : S ≠ 0 := dl_nz H (by omega)
  obtain ⟨s1, s2, s3⟩ := h 40 (by omega) S m0
  refine nm_r (e' := nI n) (by rw [s3, hS, ti_succ]) ?_
  refine x_only H (a := 43) (k := 0) (x := 1) h (by omega) (by omega) (by decide) (fun c1 t1 x1 => ?_)
  refine x_only H (a := 44) (k := 5) (x := 1) x1 (by omega) (by omega) (by decide) (fun c2 t2 x2 => ?_)
  refine x_rest H (a := 44) (b := 40) x2 (by omega) (by omega) (by omega) (by omega) (by omega) uo_s (by (repeat rw [uo_n (by omega)]) <;> exact m0) nS (fun c3 t3 x3 => ⟨9, ?_⟩)
  refine x_col_34 H hn hS (by (repeat rw [uo_n (by omega)]) <;> exact m0) (by (repeat rw [uo_n (by omega)]) <;> exact uo_s) (fun M' c t pr mt hx fr hm => K M' c t pr mt hx (fun r hr => ?_) hm) n 0 _ c3 t3 a_product a_matrix (by omega) x3 ?_ (fun _ _ _ _ => rfl) (fun a b _ hb => absurd hb (Nat.not_lt_zero b)) 9 (by omega)
  · rw [fr r (by omega) (by omega) (by omega)]
    exact (by (repeat rw [uo_n (by omega)]) <;> exact rfl)
  · rw [show 5 * 0 = 0 by omega, (rm_small H (a := mo co 1 0) (b := S) (by rw [dl_mo H (by decide)]; omega)).1]
    exact (by (repeat rw [uo_n (by omega)]) <;> exact uo_s)
end
end
section
/-! the order, and the list of factors of the component -/
theorem e_nar : ∀ e : Fin 100, vp_nar .byte (nI e.val) = nI e.val ∧ (nI e.val).toInt8.toInt32 = nI e.val := by
  have : ∀ e : Fin 100, (nI e.val).toInt8.toInt32 = nI e.val := by decide +kernel
  intro e
  refine ⟨?_, this e⟩
  rw [vp_nar_byte]; exact this e
section
variable {f_count f_place f_operators f_values f_fault f_found f_factored f_pieces f_kernel : Int32} {a_kind a_with a_c a_top a_product a_there a_waiting a_powers a_matrix a_basis : Nat → Int32}
theorem x_before {R : Type} [Lean.Grind.CommRing R] {co : R → Nat → Fin 5} (H : PL co) {M : Nat → Option R} {p q : R} {a b : Nat} {post : Int32 → Prop} (h : RX co a_c a_top M) (ha : a < 76) (hb : b < 76) (h1 : M a = some p) (h2 : M b = some q) (np : p ≠ 0)
    (K0 : nb co q ≤ nb co p → post 0) (K1 : nb co p < nb co q → post 1) : wpX_before post (f_count, f_place, f_operators, f_values, f_fault, f_found, f_factored, f_pieces, f_kernel, a_kind, a_with, a_c, a_top, a_product, a_there, a_waiting, a_powers, a_matrix, a_basis) (nI a) (nI b) := by
  unfold wpX_before
  obtain ⟨p1, p2, p3⟩ := h a ha p h1
  obtain ⟨q1, q2, q3⟩ := h b hb q h2
  have dp := dl_ne H np
  refine ⟨vp_in_nI ha (by omega), vp_in_nI hb (by omega), ?_⟩
  rw [nI_clamp (by omega), nI_clamp (by omega), p3, q3]
  by_cases e : dl co p = dl co q
  · refine br_t (by rw [e]) ⟨vp_in_nI ha (by omega), nm_e ⟨25, ?_⟩⟩
    obtain ⟨D, hD⟩ : ∃ D, dl co p = D + 1 := ⟨dl co p - 1, by omega⟩
    rw [hD, ti_succ]
    have stop : ∀ j, j ≤ D → (∀ i, j < i → co p i = co q i) → (j = 0 ∨ co p j ≠ co q j) → wX_before_78 post (nI a) (nI b) (nI j) f_count f_place f_operators f_values f_fault f_found f_factored f_pieces f_kernel a_kind a_with a_c a_top a_product a_there a_waiting a_powers a_matrix a_basis := by
      intro j hj he hor
      unfold wX_before_78
      rw [cl24 ha (by omega), cl24 hb (by omega), p2 j (by omega), q2 j (by omega)]
      refine ⟨in24 ha (by omega), in24 hb (by omega), ?_⟩
      by_cases c : (co q j).val ≤ (co p j).val
      · refine br_t ((c_le _ _).mpr c) (K0 ?_)
        by_cases c2 : co p j = co q j
        · have : ∀ i, co p i = co q i := fun i => by
            rcases hor with z | z
            · rw [z] at c2 he
              by_cases z2 : i = 0
              · rw [z2]; exact c2
              · exact he i (by omega)
            · exact absurd c2 z
          rw [pl_ext H this]; exact Nat.le_refl _
        · refine Nat.le_of_lt (nbs_cmp (co q) (co p) 24 j (by omega) (fun i h1 _ => (he i h1).symm) ?_)
          have : (co q j).val ≠ (co p j).val := fun z => c2 (Fin.ext z.symm)
          omega
      · refine br_f (by rw [c_le]; exact c) (K1 ?_)
        exact nbs_cmp (co p) (co q) 24 j (by omega) (fun i h1 _ => he i h1) (by omega)
    have loop : ∀ j, j ≤ D → (∀ i, j < i → co p i = co q i) → ∀ n, j < n → wX_before_43 post (nI a) (nI b) f_count f_place f_operators f_values f_fault f_found f_factored f_pieces f_kernel a_kind a_with a_c a_top a_product a_there a_waiting a_powers a_matrix a_basis n (nI j) := by
      intro j
      induction j with
      | zero =>
        intro hj he n hn
        obtain ⟨n, rfl⟩ : ∃ m, n = m + 1 := ⟨n - 1, by omega⟩
        exact br_t (by decide) (stop 0 hj he (Or.inl rfl))
      | succ j ih =>
        intro hj he n hn
        obtain ⟨n, rfl⟩ : ∃ m, n = m + 1 := ⟨n - 1, by omega⟩
        refine br_f (nI_nle (by omega) (by omega)) ⟨in24 ha (by omega), in24 hb (by omega), ?_⟩
        rw [cl24 ha (by omega), cl24 hb (by omega), p2 (j + 1) (by omega), q2 (j + 1) (by omega)]
        by_cases c : co p (j + 1) = co q (j + 1)
        · refine br_t (by rw [c]) (nm_r (pk_m1 j) (ih (by omega) (fun i hi => ?_) n (by omega)))
          by_cases z : i = j + 1
          · rw [z]; exact c
          · exact he i (by omega)
        · exact br_f (fun z => c ((c_inj _ _).mp z)) (stop (j + 1) hj he (Or.inr c))
    exact loop D (Nat.le_refl _) (fun i hi => by rw [dl_hi H (a := p) (by omega), dl_hi H (a := q) (by omega)]) 25 (by omega)
  · refine br_f (by rw [ti_eq (by omega) (by omega)]; exact e) ⟨vp_in_nI ha (by omega), vp_in_nI hb (by omega), ?_⟩
    by_cases c : dl co q ≤ dl co p
    · exact br_t ((ti_tle (by omega) (by omega)).mpr c) (K0 (Nat.le_of_lt (nb_deg H q1 p1 (by omega))))
    · exact br_f (by rw [ti_tle (by omega) (by omega)]; exact c) (K1 (nb_deg H p1 q1 (by omega)))
end
/-- the list of factors in the component's rows -/
def LX {R : Type} (M : Nat → Option R) (pw : Nat → Int32) (n : Nat) (g : Nat → R) (e : Nat → Nat) : Prop := ∀ i, i < n → M (60 + i) = some (g i) ∧ pw i = nI (e i)
def InL {R : Type} (n : Nat) (g : Nat → R) (e : Nat → Nat) (f : R) (m : Nat) : Prop := ∃ i, i < n ∧ g i = f ∧ e i = m
def SoL {R : Type} (co : R → Nat → Fin 5) (n : Nat) (g : Nat → R) : Prop := ∀ i j, i < j → j < n → nb co (g i) < nb co (g j)
/-- one put in at k -/
def ins {α : Type} (g : Nat → α) (k : Nat) (x : α) : Nat → α := fun i => if i < k then g i else if i = k then x else g (i - 1)
theorem ins_l {α : Type} {g : Nat → α} {k i : Nat} {x : α} (h : i < k) : ins g k x i = g i := if_pos h
theorem ins_k {α : Type} {g : Nat → α} {k i : Nat} {x : α} (h : i = k) : ins g k x i = x := by
  unfold ins
  rw [if_neg (by omega), if_pos h]
theorem ins_r {α : Type} {g : Nat → α} {k i : Nat} {x : α} (h : k < i) : ins g k x i = g (i - 1) := by
  unfold ins
  rw [if_neg (by omega), if_neg (by omega)]
theorem ins_in {R : Type} {n k : Nat} {g : Nat → R} {e : Nat → Nat} {x : R} {w : Nat} (hk : k ≤ n) (f : R) (m : Nat) : InL (n + 1) (ins g k x) (ins e k w) f m ↔ (f = x ∧ m = w) ∨ InL n g e f m := by
  constructor
  · rintro ⟨i, hi, h1, h2⟩
    rcases Nat.lt_trichotomy i k with c | c | c
    · rw [ins_l c] at h1 h2
      exact Or.inr ⟨i, by omega, h1, h2⟩
    · rw [ins_k c] at h1 h2
      exact Or.inl ⟨h1.symm, h2.symm⟩
    · rw [ins_r c] at h1 h2
      exact Or.inr ⟨i - 1, by omega, h1, h2⟩
  · rintro (⟨h1, h2⟩ | ⟨i, hi, h1, h2⟩)
    · exact ⟨k, by omega, by rw [ins_k rfl, h1], by rw [ins_k rfl, h2]⟩
    · by_cases c : i < k
      · exact ⟨i, by omega, by rw [ins_l c]; exact h1, by rw [ins_l c]; exact h2⟩
      · exact ⟨i + 1, by omega, by rw [ins_r (by omega), Nat.add_sub_cancel]; exact h1, by rw [ins_r (by omega), Nat.add_sub_cancel]; exact h2⟩
theorem ins_so {R : Type} {co : R → Nat → Fin 5} {n k : Nat} {g : Nat → R} {x : R} (hk : k ≤ n) (hs : SoL co n g) (h1 : ∀ i, i < k → nb co (g i) < nb co x) (h2 : ∀ i, k ≤ i → i < n → nb co x < nb co (g i)) : SoL co (n + 1) (ins g k x) := by
  intro i j hij hj
  rcases Nat.lt_trichotomy j k with c | c | c
  · rw [ins_l (by omega), ins_l c]; exact hs i j hij (by omega)
  · rw [ins_l (by omega), ins_k c]; exact h1 i (by omega)
  · rw [ins_r c]
    rcases Nat.lt_trichotomy i k with q | q | q
    · rw [ins_l q]; exact hs i (j - 1) (by omega) (by omega)
    · rw [ins_k q]; exact h2 (j - 1) (by omega) (by omega)
    · rw [ins_r q]; exact hs (i - 1) (j - 1) (by omega) (by omega)
section
variable {f_count f_place f_operators f_values f_fault f_found f_factored f_pieces f_kernel : Int32} {a_kind a_with a_c a_top a_product a_there a_waiting a_powers a_matrix a_basis : Nat → Int32}
theorem x_ent_5 {R : Type} [Lean.Grind.CommRing R] {co : R → Nat → Fin 5} (H : PL co) {M0 : Nat → Option R} {x : R} {a n w : Nat} {g : Nat → R} {e : Nat → Nat} {post : SX → Prop} (ha : a < 76) (ha' : a < 60 ∨ 68 ≤ a) (hn : n < 8) (hw : w < 100) (he : ∀ i, i < n → e i < 100) (h1 : M0 a = some x) (nx : x ≠ 0) (hs : SoL co n g) (hne : ∀ i, i < n → nb co (g i) ≠ nb co x)
    (K : ∀ k M c t pw, k ≤ n → SoL co (n + 1) (ins g k x) → RX co c t M → LX M pw (n + 1) (ins g k x) (ins e k w) → (∀ r, (r < 60 ∨ 68 ≤ r) → M r = M0 r) → post (f_count, f_place, f_operators, f_values, f_fault, nI (n + 1), f_factored, f_pieces, f_kernel, a_kind, a_with, c, t, a_product, a_there, a_waiting, pw, a_matrix, a_basis)) :
    ∀ k M c t pw, k ≤ n → RX co c t M → (∀ i, i < k → M (60 + i) = some (g i) ∧ pw i = nI (e i)) → (∀ i, k < i → i ≤ n → M (60 + i) = some (g (i - 1)) ∧ pw i = nI (e (i - 1))) → (∀ i, k ≤ i → i < n → nb co x < nb co (g i)) → (∀ r, (r < 60 ∨ 68 ≤ r) → M r = M0 r) →
      ∀ m, k < m → wX_enter_5 post (nI a) (nI w) m (nI k) f_count f_place f_operators f_values f_fault (nI n) f_factored f_pieces f_kernel a_kind a_with c t a_product a_there a_waiting pw a_matrix a_basis := by
  have fin : ∀ k M c t pw, k ≤ n → RX co c t M → (∀ i, i < k → M (60 + i) = some (g i) ∧ pw i = nI (e i)) → (∀ i, k < i → i ≤ n → M (60 + i) = some (g (i - 1)) ∧ pw i = nI (e (i - 1))) → (∀ i, i < k → nb co (g i) < nb co x) → (∀ i, k ≤ i → i < n → nb co x < nb co (g i)) → (∀ r, (r < 60 ∨ 68 ≤ r) → M r = M0 r) → wX_enter_57 post (nI a) (nI w) (nI k) f_count f_place f_operators f_values f_fault (nI n) f_factored f_pieces f_kernel a_kind a_with c t a_product a_there a_waiting pw a_matrix a_basis := by
    intro k M c t pw hk hx l1 l2 s1 s2 fr
    unfold wX_enter_57
    rw [show (60 : Int32) + nI k = nI (60 + k) from nI_add 60 k]
    refine x_copy H hx ha (by omega) (by rw [fr a ha']; exact h1) (fun c' t' hx' => ?_)
    refine ⟨vp_in_nI (by omega) (by omega), nm_r (e' := upd pw k (nI w)) (by rw [nI_clamp (by omega), (e_nar ⟨w, hw⟩).2, (e_nar ⟨w, hw⟩).1]) (nm_r (nI_1 n) (K k _ c' t' _ hk (ins_so hk hs s1 s2) hx' (fun i hi => ?_) (fun r hr => ?_)))⟩
    · rcases Nat.lt_trichotomy i k with q | q | q
      · rw [ins_l q, ins_l q, uo_n (by omega), pk_un (by omega)]; exact l1 i q
      · rw [ins_k q, ins_k q, q]; exact ⟨uo_s, pk_us⟩
      · rw [ins_r q, ins_r q, uo_n (by omega), pk_un (by omega)]; exact l2 i q (by omega)
    · rw [uo_n (by omega)]; exact fr r hr
  intro k
  induction k with
  | zero =>
    intro M c t pw hk hx l1 l2 s2 fr m hm
    obtain ⟨m, rfl⟩ : ∃ j, m = j + 1 := ⟨m - 1, by omega⟩
    exact br_t (by decide) (fin 0 M c t pw hk hx l1 l2 (fun i hi => absurd hi (Nat.not_lt_zero i)) s2 fr)
  | succ k ih =>
    intro M c t pw hk hx l1 l2 s2 fr m hm
    obtain ⟨m, rfl⟩ : ∃ j, m = j + 1 := ⟨m - 1, by omega⟩
    refine br_f (nI_nle (by omega) (by omega)) ?_
    have e60 : (60 : Int32) + nI (k + 1) = nI (60 + k + 1) := nI_add 60 (k + 1)
    rw [e60, nI_pred (60 + k)]
    refine x_before H hx ha (by omega) (by rw [fr a ha']; exact h1) (l1 k (by omega)).1 nx (fun le => br_t rfl ?_) (fun lt => br_f (by decide) ?_)
    · refine fin (k + 1) M c t pw hk hx l1 l2 (fun i hi => ?_) s2 fr
      have hk' : nb co (g k) < nb co x := by have := hne k (by omega); omega
      by_cases q : i = k
      · rw [q]; exact hk'
      · exact Nat.lt_trans (hs i k (by omega) (by omega)) hk'
    · refine x_copy H hx (by omega) (by omega) (l1 k (by omega)).1 (fun c' t' hx' => ?_)
      dsimp only
      rw [nI_pred k, nI_clamp (by omega), nI_clamp (by omega), (l1 k (by omega)).2, (e_nar ⟨e k, he k (by omega)⟩).1]
      refine ⟨vp_in_nI (by omega) (by omega), vp_in_nI (by omega) (by omega), nm_e (nm_r (pk_m1 k) (ih _ c' t' _ (by omega) hx' (fun i hi => ?_) (fun i h1 h2 => ?_) (fun i h1 h2 => ?_) (fun r hr => ?_) m (by omega)))⟩
      · rw [uo_n (by omega), pk_un (by omega)]; exact l1 i (by omega)
      · by_cases q : i = k + 1
        · rw [q, show 60 + (k + 1) = 60 + k + 1 by omega, Nat.add_sub_cancel]
          exact ⟨uo_s, pk_us⟩
        · rw [uo_n (by omega), pk_un (by omega)]; exact l2 i (by omega) h2
      · by_cases q : i = k
        · rw [q]; exact lt
        · exact s2 i (by omega) h2
      · rw [uo_n (by omega)]; exact fr r hr
theorem x_enter {R : Type} [Lean.Grind.CommRing R] {co : R → Nat → Fin 5} (H : PL co) {M : Nat → Option R} {x : R} {a n w : Nat} {g : Nat → R} {e : Nat → Nat} {post : SX → Prop} (h : RX co a_c a_top M) (ha : a < 76) (ha' : a < 60 ∨ 68 ≤ a) (hn : n < 8) (hw : w < 100) (he : ∀ i, i < n → e i < 100) (h1 : M a = some x) (nx : x ≠ 0) (hs : SoL co n g) (hne : ∀ i, i < n → nb co (g i) ≠ nb co x) (hl : LX M a_powers n g e)
    (K : ∀ g' e' M' c t pw, SoL co (n + 1) g' → (∀ f m, InL (n + 1) g' e' f m ↔ (f = x ∧ m = w) ∨ InL n g e f m) → RX co c t M' → LX M' pw (n + 1) g' e' → (∀ r, (r < 60 ∨ 68 ≤ r) → M' r = M r) → post (f_count, f_place, f_operators, f_values, f_fault, nI (n + 1), f_factored, f_pieces, f_kernel, a_kind, a_with, c, t, a_product, a_there, a_waiting, pw, a_matrix, a_basis)) : wpX_enter post (f_count, f_place, f_operators, f_values, f_fault, nI n, f_factored, f_pieces, f_kernel, a_kind, a_with, a_c, a_top, a_product, a_there, a_waiting, a_powers, a_matrix, a_basis) (nI a) (nI w) := by
  unfold wpX_enter
  refine ⟨9, x_ent_5 H (M0 := M) ha ha' hn hw he h1 nx hs hne (fun k M' c t pw hk so hx l fr => K _ _ M' c t pw so (ins_in hk) hx l fr) n M a_c a_top a_powers (Nat.le_refl _) h hl (fun i h1 h2 => by omega) (fun i h1 h2 => by omega) (fun _ _ => rfl) 9 (by omega)⟩
theorem x_root0 {R : Type} [Lean.Grind.CommRing R] {co : R → Nat → Fin 5} (H : PL co) {M : Nat → Option R} {A : R} {post : SX → Prop} (h : RX co a_c a_top M) (h1 : M 40 = some A) (d1 : dl co A ≤ 1) (K : post (f_count, f_place, f_operators, f_values, f_fault, f_found, f_factored, f_pieces, f_kernel, a_kind, a_with, a_c, a_top, a_product, a_there, a_waiting, a_powers, a_matrix, a_basis)) : wpX_root post (f_count, f_place, f_operators, f_values, f_fault, f_found, f_factored, f_pieces, f_kernel, a_kind, a_with, a_c, a_top, a_product, a_there, a_waiting, a_powers, a_matrix, a_basis) := by
  unfold wpX_root
  have a3 := (h 40 (by omega) A h1).2.2
  have al := (h 40 (by omega) A h1).1
  refine br_f ?_ K
  rw [a3]
  exact fun z => by
    have := (ti_ge (i := 1) (by omega) (by omega)).mp z
    omega
theorem x_root1 {R : Type} [Lean.Grind.CommRing R] {co : R → Nat → Fin 5} (H : PL co) {M : Nat → Option R} {A : R} {n : Nat} {g : Nat → R} {e : Nat → Nat} {post : SX → Prop} (h : RX co a_c a_top M) (h1 : M 40 = some A) (d1 : 2 ≤ dl co A) (hn : n < 8) (he : ∀ i, i < n → e i < 100) (hs : SoL co n g) (hne : ∀ i, i < n → nb co (g i) ≠ nb co (mo co 1 1 + mo co (co A 0) 0)) (hl : LX M a_powers n g e)
    (K : ∀ g' e' M' c t pw, SoL co (n + 1) g' → (∀ f m, InL (n + 1) g' e' f m ↔ (f = mo co 1 1 + mo co (co A 0) 0 ∧ m = 5) ∨ InL n g e f m) → RX co c t M' → LX M' pw (n + 1) g' e' → (∀ r, r ≠ 41 → (r < 60 ∨ 68 ≤ r) → M' r = M r) → post (f_count, f_place, f_operators, f_values, f_fault, nI (n + 1), f_factored, f_pieces, f_kernel, a_kind, a_with, c, t, a_product, a_there, a_waiting, pw, a_matrix, a_basis)) : wpX_root post (f_count, f_place, f_operators, f_values, f_fault, nI n, f_factored, f_pieces, f_kernel, a_kind, a_with, a_c, a_top, a_product, a_there, a_waiting, a_powers, a_matrix, a_basis) := by
  unfold wpX_root
  have a3 := (h 40 (by omega) A h1).2.2
  have al := (h 40 (by omega) A h1).1
  refine br_t (by rw [a3]; exact (ti_ge (i := 1) (by omega) (by omega)).mpr d1) ?_
  refine x_only H (a := 41) (k := 0) (x := 1) h (by omega) (by omega) (by decide) (fun c1 t1 x1 => ?_)
  have lin := ro_lin H (co := co) (co A 0)
  obtain ⟨a1, a2, _⟩ := x1 40 (by omega) A (by (repeat rw [uo_n (by omega)]) <;> exact h1)
  obtain ⟨b1, b2, _⟩ := x1 41 (by omega) _ uo_s
  have e0 := a2 0 (by omega)
  rw [show 24 * 40 + 0 = 960 by omega] at e0
  dsimp only
  rw [e0, c_nar]
  refine nm_e (nm_r (e' := upd (upd c1 984 (cI (co A 0))) 985 (cI 1)) (by rw [show (1 : Int32) = cI 1 from by decide, c_nar]) ?_)
  refine x_settle H (a := 41) (c0 := c1) (p := mo co 1 1 + mo co (co A 0) 0) x1 (by omega) (by omega) (fun k hk => ?_) (fun j hj => ?_) (fun t2 x2 => ?_)
  · rw [pl_add H, mo_co H, mo_co H]
    by_cases q1 : k = 1
    · rw [if_pos q1, if_neg (by omega), q1]; exact pk_us
    · by_cases q0 : k = 0
      · rw [if_neg q1, if_pos q0, q0, f5_0a, pk_un (by omega)]; exact pk_us
      · rw [if_neg q1, if_neg q0, pk_un (by omega), pk_un (by omega), b2 k hk, mo_co H, if_neg q0]; rfl
  · rw [pk_un (by omega), pk_un (by omega)]
  · refine x_enter H (a := 41) (w := 5) (n := n) x2 (by omega) (Or.inl (by omega)) hn (by omega) he uo_s (mo_ne H lin.2) hs hne (fun i hi => ?_) (fun g' e' M' c t pw so inl hx l fr => K g' e' M' c t pw so inl hx l (fun r q1 q2 => ?_))
    · rw [uo_n (by omega), uo_n (by omega)]; exact hl i hi
    · rw [fr r q2]; exact (by (repeat rw [uo_n (by omega)]) <;> exact rfl)
end
end
section
/-! splitting: pieces by one vector -/
/-- the pieces: t of them, their product S -/
def Pc {R : Type} [Lean.Grind.CommRing R] (co : R → Nat → Fin 5) (S : R) (t : Nat) (pc : Nat → R) : Prop := pr pc t = S ∧ ∀ i, i < t → Mo co (pc i) ∧ 2 ≤ dl co (pc i)
theorem pr_dl {R : Type} [Lean.Grind.CommRing R] {co : R → Nat → Fin 5} (H : PL co) {pc : Nat → R} : ∀ t, (∀ i, i < t → 2 ≤ dl co (pc i)) → t + 1 ≤ dl co (pr pc t) := by
  intro t
  induction t with
  | zero => intro _; show 1 ≤ dl co (1 : R); rw [dl_1 H]; exact Nat.le_refl 1
  | succ t ih =>
    intro h
    have a := ih (fun i hi => h i (by omega))
    have b := h t (by omega)
    show t + 1 + 1 ≤ dl co (pr pc t * pc t)
    rw [dl_mul H (dl_nz H (by omega)) (dl_nz H (by omega))]
    omega
theorem pc_dv {R : Type} [Lean.Grind.CommRing R] {co : R → Nat → Fin 5} {S : R} {t : Nat} {pc : Nat → R} (h : Pc co S t pc) {i : Nat} (hi : i < t) : Dv (pc i) S := by
  obtain ⟨r, e, _⟩ := pr_rest (d := pc) t i hi
  rw [← h.1, e]
  exact dv_l _ _
/-- piece i is divided by g, which is put at the end -/
def spl {R : Type} (pc : Nat → R) (i t : Nat) (x g : R) : Nat → R := fun j => if j = t then g else if j = i then x else pc j
theorem pc_spl {R : Type} [Lean.Grind.CommRing R] {co : R → Nat → Fin 5} (H : PL co) {S : R} {t i : Nat} {pc : Nat → R} {x g : R} (h : Pc co S t pc) (hi : i < t) (e : pc i = x * g) (mg : Mo co g) (g2 : 2 ≤ dl co g) (x2 : 2 ≤ dl co x) : Pc co S (t + 1) (spl pc i t x g) := by
  constructor
  · show pr (spl pc i t x g) t * spl pc i t x g t = S
    have e1 : pr (spl pc i t x g) t = pr (fun j => if j = i then x else pc j) t := pr_congr t (fun j hj => by
      show (if j = t then g else if j = i then x else pc j) = _
      rw [if_neg (by omega : ¬ j = t)])
    rw [e1, show spl pc i t x g t = g from if_pos rfl, pr_set t i hi e]
    exact h.1
  · intro j hj
    show Mo co (if j = t then g else if j = i then x else pc j) ∧ 2 ≤ dl co (if j = t then g else if j = i then x else pc j)
    by_cases c : j = t
    · rw [if_pos c]; exact ⟨mg, g2⟩
    · rw [if_neg c]
      by_cases c2 : j = i
      · rw [if_pos c2]
        exact ⟨mo_quo H (by rw [← e]; exact (h.2 i hi).1) mg, x2⟩
      · rw [if_neg c2]; exact h.2 j (by omega)
/-- the vector is a number modulo the piece -/
def Cn {R : Type} [Lean.Grind.CommRing R] (co : R → Nat → Fin 5) (P b : R) : Prop := ∃ s : Fin 5, Dv P (b - mo co s 0)
theorem cn_d {R : Type} [Lean.Grind.CommRing R] {co : R → Nat → Fin 5} {P P' b : R} (h : Cn co P b) (d : Dv P' P) : Cn co P' b := by
  obtain ⟨s, hs⟩ := h
  exact ⟨s, dv_trans d hs⟩
/-- state of the work on piece i by vector b when the numbers below s are done -/
def Wk {R : Type} [Lean.Grind.CommRing R] (co : R → Nat → Fin 5) (S b : R) (i s t : Nat) (pc : Nat → R) (many : Nat) : Prop :=
  (∀ j, j < i → Cn co (pc j) b) ∧ (∀ j, many ≤ j → j < t → Cn co (pc j) b) ∧ (∀ s' : Fin 5, s'.val < s → Cp (pc i) (b - mo co s' 0) ∨ Dv (pc i) (b - mo co s' 0))
theorem wk_same {R : Type} [Lean.Grind.CommRing R] {co : R → Nat → Fin 5} (H : PL co) {S b G : R} {i s t many : Nat} {pc : Nat → R} (hs : s < 5) (h : Wk co S b i s t pc many) (hg : Gc co (pc i) (b - mo co (Fin.ofNat 5 s) 0) G) (hd : dl co G ≤ 1 ∨ (dl co G = dl co (pc i) ∧ Mo co (pc i))) : Wk co S b i (s + 1) t pc many := by
  refine ⟨h.1, h.2.1, fun s' hs' => ?_⟩
  by_cases c : s'.val < s
  · exact h.2.2 s' c
  · have e : s' = Fin.ofNat 5 s := Fin.ext (by show s'.val = s % 5; omega)
    rw [e]
    rcases hd with d | d
    · left
      have := mo_dl1 H hg.1 d
      obtain ⟨_, _, _, x, y, exy⟩ := hg
      exact ⟨x, y, by rw [← exy, this]⟩
    · right
      have : G = pc i := mo_eq H hg.1 d.2 hg.2.1 (by
        obtain ⟨w, hw⟩ := hg.2.1
        have nz : w * G ≠ 0 := by rw [← hw]; exact mo_ne H d.2
        have l := dl_mul H (mul_l H nz) (mul_r H nz)
        rw [← hw] at l
        have := dl_ne H (mul_l H nz)
        have := dl_ne H (mul_r H nz)
        obtain ⟨z, hz⟩ := un_dl H (a := w) (by omega)
        exact ⟨z, by grind⟩)
      rw [← this]
      exact hg.2.2.1
theorem wk_spl {R : Type} [Lean.Grind.CommRing R] {co : R → Nat → Fin 5} (H : PL co) {S b G x : R} {i s t many : Nat} {pc : Nat → R} (sf : Sf co S) (hp : Pc co S t pc) (hi : i < t) (him : i < many) (hmt : many ≤ t) (hs : s < 5) (h : Wk co S b i s t pc many) (hg : Gc co (pc i) (b - mo co (Fin.ofNat 5 s) 0) G) (e : pc i = x * G) : Wk co S b i (s + 1) (t + 1) (spl pc i t x G) many := by
  have xi : spl pc i t x G i = x := by
    show (if i = t then G else if i = i then x else pc i) = x
    rw [if_neg (by omega), if_pos rfl]
  have gt : spl pc i t x G t = G := if_pos rfl
  refine ⟨fun j hj => ?_, fun j h1 h2 => ?_, fun s' hs' => ?_⟩
  · have : spl pc i t x G j = pc j := by
      show (if j = t then G else if j = i then x else pc j) = pc j
      rw [if_neg (by omega), if_neg (by omega)]
    rw [this]; exact h.1 j hj
  · by_cases c : j = t
    · rw [c, gt]
      exact ⟨Fin.ofNat 5 s, hg.2.2.1⟩
    · have : spl pc i t x G j = pc j := by
        show (if j = t then G else if j = i then x else pc j) = pc j
        rw [if_neg c, if_neg (by omega)]
      rw [this]; exact h.2.1 j h1 (by omega)
  · rw [xi]
    have dx : Dv x (pc i) := by rw [e]; exact dv_l _ _
    by_cases c : s'.val < s
    · rcases h.2.2 s' c with q | q
      · exact Or.inl (cp_d q dx)
      · exact Or.inr (dv_trans dx q)
    · left
      have es : s' = Fin.ofNat 5 s := Fin.ext (by show s'.val = s % 5; omega)
      rw [es]
      apply Classical.byContradiction
      intro nc
      have nx : x ≠ 0 := mul_l H (b := G) (by rw [← e]; exact mo_ne H (hp.2 i hi).1)
      obtain ⟨f, f1, f2, f3, f4⟩ := ir_com H (fun q => nc (cp_symm q)) nx
      -- f divides x and the vector less s: twice in S
      have fG : Dv f G := by
        obtain ⟨_, _, _, u, v, exy⟩ := hg
        rw [exy]
        exact dv_add (dv_mul _ (dv_trans f4 dx)) (dv_mul _ f3)
      refine sf.2 f f1 (dv_trans ?_ (pc_dv hp hi))
      rw [e]
      exact dv_mm f4 fG
theorem wk_end {R : Type} [Lean.Grind.CommRing R] {co : R → Nat → Fin 5} (H : PL co) {S b : R} {i t many : Nat} {pc : Nat → R} (kb : Kr S b) (hp : Pc co S t pc) (hi : i < t) (him : i < many) (h : Wk co S b i 5 t pc many) : Wk co S b (i + 1) 0 t pc many := by
  refine ⟨fun j hj => ?_, h.2.1, fun s' hs' => absurd hs' (Nat.not_lt_zero _)⟩
  by_cases c : j = i
  · rw [c]
    exact kr_const H kb (pc_dv hp hi) (hp.2 i hi).2 (fun s => h.2.2 s s.isLt)
  · exact h.1 j (by omega)
section
variable {f_count f_place f_operators f_values f_fault f_found f_factored f_pieces f_kernel : Int32} {a_kind a_with a_c a_top a_product a_there a_waiting a_powers a_matrix a_basis : Nat → Int32}
/-- rows of the pieces -/
def PX_ {R : Type} (M : Nat → Option R) (t : Nat) (pc : Nat → R) : Prop := ∀ i, i < t → M (68 + i) = some (pc i)
theorem x_par_43 {R : Type} [Lean.Grind.CommRing R] {co : R → Nat → Fin 5} (H : PL co) {M : Nat → Option R} {S b : R} {n κ i s t many τ : Nat} {pc : Nat → R} {post : SX → Prop} {J7 J15 : Int32 → Int32 → Int32 → Int32 → Int32 → Int32 → Int32 → Int32 → Int32 → Int32 → (Nat → Int32) → (Nat → Int32) → (Nat → Int32) → (Nat → Int32) → (Nat → Int32) → (Nat → Int32) → (Nat → Int32) → (Nat → Int32) → (Nat → Int32) → (Nat → Int32) → Prop} {x2 : Int32} (sf : Sf co S) (hn : n ≤ 8) (hS : dl co S = n + 1) (hκ : κ ≤ 7) (hτ : τ < 8) (h : RX co a_c a_top M) (m0 : M 40 = some S) (mz : M 43 = some 0) (hp : Pc co S t pc) (hM : PX_ M t pc) (hi : i < t) (him : i < many) (hmt : many ≤ t) (htκ : t < κ) (hs : s < 5) (hw : Wk co S b i s t pc many) (db : dl co b ≤ n) (hb : ∀ k, k < n → a_basis (8 * τ + k) = cI (co b k))
    (K : ∀ M' c tp t' pc', RX co c tp M' → Pc co S t' pc' → PX_ M' t' pc' → t ≤ t' → t' ≤ κ → Wk co S b i (s + 1) t' pc' many → (∀ j, j < t' → ∃ j', j' < t ∧ Dv (pc' j) (pc j')) → (∀ r, (r < 43 ∨ (52 ≤ r ∧ r < 68) ∨ 75 ≤ r) → M' r = M r) → J15 (nI (s + 1)) f_count f_place f_operators f_values f_fault f_found f_factored (nI t') (nI κ) a_kind a_with c tp a_product a_there a_waiting a_powers a_matrix a_basis) : ∀ d k c, k + d = 8 → (∀ j, (j < 24 * 43 ∨ 24 * 43 + 24 ≤ j) → c j = a_c j) → (∀ j, j < k → c (24 * 43 + j) = cI (co b j)) → (∀ j, k ≤ j → j < 24 → c (24 * 43 + j) = 0) → ∀ u, d < u → wX_part_43 post J7 J15 (nI τ) x2 (nI i) (nI s) f_count f_place f_operators f_values f_fault f_found f_factored (nI t) (nI κ) u (nI k) a_kind a_with c a_top a_product a_there a_waiting a_powers a_matrix a_basis := by
  have nS := sf.1
  obtain ⟨s1, s2, s3⟩ := h 40 (by omega) S m0
  intro d
  induction d with
  | zero =>
    intro k c hk h1 h2 h3 u hu
    obtain ⟨u, rfl⟩ : ∃ k, u = k + 1 := ⟨u - 1, by omega⟩
    refine br_t (nI_le (a := 8) (by omega) (by omega)) (x_mod ?_)
    have e0 := h2 0 (by omega)
    rw [show 24 * 43 + 0 = 1032 by omega] at e0
    have ms : ∀ x : Fin 5, ∀ s : Fin 5, md (cI x - nI s.val) = cI (x - s) := by decide +kernel
    rw [e0, ms _ ⟨s, hs⟩]
    refine nm_r (e' := upd c 1032 (cI (co b 0 - ⟨s, hs⟩))) (by rw [c_nar8]) ?_
    have es : (⟨s, hs⟩ : Fin 5) = Fin.ofNat 5 s := Fin.ext (by show s = s % 5; omega)
    rw [es]
    have cb : ∀ k, co (b - mo co (Fin.ofNat 5 s) 0) k = co b k - (if k = 0 then Fin.ofNat 5 s else 0) := fun k => by rw [pl_sub H, mo_co H]
    have lb : dl co (b - mo co (Fin.ofNat 5 s) 0) ≤ 9 := dl_sub H (by omega) (by have := dl_c H (co := co) (Fin.ofNat 5 s); omega)
    have x0 : ∀ x : Fin 5, x - 0 = x := by decide
    refine x_settle H (a := 43) (c0 := a_c) (p := b - mo co (Fin.ofNat 5 s) 0) h (by omega) (by omega) (fun j hj => ?_) (fun j hj => ?_) (fun t1 x1 => ?_)
    · rw [cb]
      by_cases q : j = 0
      · rw [if_pos q, q]; exact pk_us
      · rw [if_neg q, x0, pk_un (by omega)]
        by_cases q2 : j < k
        · exact h2 j q2
        · rw [h3 j (by omega) hj, dl_hi H (a := b) (by omega)]; rfl
    · rw [pk_un (by omega)]; exact h1 j hj
    have mi := hp.2 i hi
    rw [show (68 : Int32) + nI i = nI (68 + i) from nI_add 68 i]
    refine x_common H (b := 43) x1 (by omega) (by omega) (by omega) (p := pc i) (by (repeat rw [uo_n (by omega)]) <;> exact hM i hi) uo_s (Or.inl (mo_ne H mi.1)) (fun G M2 c2 t2 hg x2' m47 fr2 => ?_)
    have fr3 : ∀ r, (r < 43 ∨ (52 ≤ r)) → M2 r = M r := fun r hr => by
      rw [fr2 r (by omega) (by omega) (by omega) (by omega)]
      exact (by (repeat rw [uo_n (by omega)]) <;> exact rfl)
    obtain ⟨g1, g2, g3⟩ := x2' 47 (by omega) G m47
    have mip : M2 (68 + i) = some (pc i) := by rw [fr3 _ (by omega)]; exact hM i hi
    obtain ⟨i1, i2, i3⟩ := x2' (68 + i) (by omega) (pc i) mip
    have nG := mo_ne H hg.1
    have G1 := dl_ne H nG
    have same : Wk co S b i (s + 1) t pc many → J15 (nI (s + 1)) f_count f_place f_operators f_values f_fault f_found f_factored (nI t) (nI κ) a_kind a_with c2 t2 a_product a_there a_waiting a_powers a_matrix a_basis := fun hw' =>
      K M2 c2 t2 t pc x2' hp (fun j hj => by rw [fr3 _ (by omega)]; exact hM j hj) (Nat.le_refl _) (by omega) hw' (fun j hj => ⟨j, hj, dv_rfl _⟩) (fun r hr => fr3 r (by omega))
    dsimp only
    rw [g3]
    by_cases c1 : dl co G = 1
    · refine br_t (by rw [c1]; decide) (nm_r (nI_1 s) (same (wk_same H hs hw hg (Or.inl (by omega)))))
    · refine br_f (fun z => c1 (by have := (ti_lt (i := 1) (by omega) (by omega)).mp z; omega)) ⟨vp_in_nI (by omega) (by omega), ?_⟩
      rw [nI_clamp (by omega), i3]
      by_cases c2' : dl co G = dl co (pc i)
      · exact br_t (by rw [c2']) (nm_r (nI_1 s) (same (wk_same H hs hw hg (Or.inr ⟨c2', mi.1⟩))))
      · refine br_f (by rw [ti_eq (by omega) (by omega)]; exact c2') ?_
        obtain ⟨w, ew⟩ := hg.2.1
        have nw : w ≠ 0 := mul_l H (b := G) (by rw [← ew]; exact mo_ne H mi.1)
        have lw := dl_mul H nw nG
        rw [← ew] at lw
        have w1 := dl_ne H nw
        rw [show (68 : Int32) + nI t = nI (68 + t) from nI_add 68 t]
        refine x_copy H (a := 47) x2' (by omega) (by omega) m47 (fun c3 t3 x3 => ?_)
        dsimp only
        rw [show (68 : Int32) + nI t = nI (68 + t) from nI_add 68 t]
        refine x_exact H (p := pc i) x3 (by omega) (by omega) (by omega) (by omega) (by omega) (by (repeat rw [uo_n (by omega)]) <;> exact mip) uo_s nG (fun c4 t4 x4 => ?_)
        have qw : qo co (pc i) G = w := by rw [ew]; exact qo_mul H nG
        rw [qw] at x4
        refine nm_r (nI_1 t) (nm_r (nI_1 s) (K _ c4 t4 (t + 1) (spl pc i t w G) x4 (pc_spl H hp hi ew hg.1 (by omega) (by omega)) (fun j hj => ?_) (by omega) (by omega) (wk_spl H sf hp hi him hmt hs hw hg ew) (fun j hj => ?_) (fun r hr => ?_)))
        · show _ = some (if j = t then G else if j = i then w else pc j)
          by_cases q : j = t
          · rw [if_pos q, q]; exact (by (repeat rw [uo_n (by omega)]) <;> exact uo_s)
          · rw [if_neg q]
            by_cases q2 : j = i
            · rw [if_pos q2, q2]; exact uo_s
            · rw [if_neg q2]
              (repeat rw [uo_n (by omega)])
              rw [fr3 _ (by omega)]; exact hM j (by omega)
        · show ∃ j', j' < t ∧ Dv (if j = t then G else if j = i then w else pc j) (pc j')
          by_cases q : j = t
          · exact ⟨i, hi, by rw [if_pos q]; exact hg.2.1⟩
          · by_cases q2 : j = i
            · exact ⟨i, hi, by rw [if_neg q, if_pos q2, ew]; exact dv_l _ _⟩
            · exact ⟨j, by omega, by rw [if_neg q, if_neg q2]; exact dv_rfl _⟩
        · (repeat rw [uo_n (by omega)])
          exact fr3 r (by omega)
  | succ d ih =>
    intro k c hk h1 h2 h3 u hu
    obtain ⟨u, rfl⟩ : ∃ k, u = k + 1 := ⟨u - 1, by omega⟩
    refine br_f (nI_ge (b := 8) (by omega) (by decide)) ?_
    have ei : (1032 : Int32) + nI k = nI (24 * 43 + k) := nI_add 1032 k
    rw [s3, hS, ti_succ, ei, nI_clamp (by omega)]
    have step : ∀ x : Fin 5, x = co b k → ∀ j, (j < k + 1 → upd c (24 * 43 + k) (cI x) (24 * 43 + j) = cI (co b j)) := by
      intro x ex j hj
      by_cases q : j = k
      · rw [q, pk_us, ex]
      · rw [pk_un (by omega)]; exact h2 j (by omega)
    by_cases kn : n ≤ k
    · refine br_t (nI_le kn (by omega)) ⟨vp_in_nI (by omega) (by omega), nm_r (e' := upd c (24 * 43 + k) (cI 0)) (by rw [show (0 : Int32) = cI 0 from by decide, c_nar]) (nm_r (nI_1 k) (ih (k + 1) _ (by omega) (fun j hj => ?_) (step 0 (dl_hi H (by omega)).symm) (fun j q1 q2 => ?_) u (by omega)))⟩
      · rw [pk_un (by omega)]; exact h1 j hj
      · rw [pk_un (by omega)]; exact h3 j (by omega) q2
    · refine br_f (nI_ge (by omega) (by omega)) ⟨in8 hτ (by omega), vp_in_nI (by omega) (by omega), nm_r (e' := upd c (24 * 43 + k) (cI (co b k))) (by rw [cl8 hτ (by omega), hb k (by omega), c_nar]) (nm_r (nI_1 k) (ih (k + 1) _ (by omega) (fun j hj => ?_) (step _ rfl) (fun j q1 q2 => ?_) u (by omega)))⟩
      · rw [pk_un (by omega)]; exact h1 j hj
      · rw [pk_un (by omega)]; exact h3 j (by omega) q2
/-- every new piece divides an old one -/
def Rf {R : Type} [Lean.Grind.CommRing R] (t0 : Nat) (pc0 : Nat → R) (t : Nat) (pc : Nat → R) : Prop := ∀ j, j < t → ∃ j', j' < t0 ∧ Dv (pc j) (pc0 j')
theorem rf_rfl {R : Type} [Lean.Grind.CommRing R] (t : Nat) (pc : Nat → R) : Rf t pc t pc := fun j hj => ⟨j, hj, dv_rfl _⟩
theorem rf_tr {R : Type} [Lean.Grind.CommRing R] {t0 t1 t2 : Nat} {p0 p1 p2 : Nat → R} (h : Rf t0 p0 t1 p1) (g : Rf t1 p1 t2 p2) : Rf t0 p0 t2 p2 := fun j hj => by
  obtain ⟨j1, h1, d1⟩ := g j hj
  obtain ⟨j0, h0, d0⟩ := h j1 h1
  exact ⟨j0, h0, dv_trans d1 d0⟩
theorem rf_cn {R : Type} [Lean.Grind.CommRing R] {co : R → Nat → Fin 5} {t0 t : Nat} {pc0 pc : Nat → R} {b : R} (h : Rf t0 pc0 t pc) (hc : ∀ j, j < t0 → Cn co (pc0 j) b) : ∀ j, j < t → Cn co (pc j) b := fun j hj => by
  obtain ⟨j0, h0, d0⟩ := h j hj
  exact cn_d (hc j0 h0) d0
def FS {R : Type} (M M' : Nat → Option R) : Prop := ∀ r, (r < 43 ∨ (52 ≤ r ∧ r < 68) ∨ 75 ≤ r) → M' r = M r
theorem x_par_15 {R : Type} [Lean.Grind.CommRing R] {co : R → Nat → Fin 5} (H : PL co) {M0 : Nat → Option R} {S b : R} {n κ i t0 many τ : Nat} {pc0 : Nat → R} {post : SX → Prop} {J7 : Int32 → Int32 → Int32 → Int32 → Int32 → Int32 → Int32 → Int32 → Int32 → Int32 → (Nat → Int32) → (Nat → Int32) → (Nat → Int32) → (Nat → Int32) → (Nat → Int32) → (Nat → Int32) → (Nat → Int32) → (Nat → Int32) → (Nat → Int32) → (Nat → Int32) → Prop} {x2 : Int32} (sf : Sf co S) (hn : n ≤ 8) (hS : dl co S = n + 1) (hκ : κ ≤ 7) (hτ : τ < 8) (m0 : M0 40 = some S) (him : i < many) (kb : Kr S b) (db : dl co b ≤ n) (hb : ∀ k, k < n → a_basis (8 * τ + k) = cI (co b k))
    (K : ∀ M c tp t pc, RX co c tp M → Pc co S t pc → PX_ M t pc → many ≤ t → t ≤ κ → (t < κ → Wk co S b (i + 1) 0 t pc many) → Rf t0 pc0 t pc → FS M0 M → J7 (nI (i + 1)) f_count f_place f_operators f_values f_fault f_found f_factored (nI t) (nI κ) a_kind a_with c tp a_product a_there a_waiting a_powers a_matrix a_basis) : ∀ d s t pc M c tp, s + d = 5 → RX co c tp M → Pc co S t pc → PX_ M t pc → many ≤ t → t ≤ κ → (t < κ → Wk co S b i s t pc many) → Rf t0 pc0 t pc → FS M0 M → ∀ u, d < u → wX_part_15 post J7 (nI τ) x2 (nI i) u (nI s) f_count f_place f_operators f_values f_fault f_found f_factored (nI t) (nI κ) a_kind a_with c tp a_product a_there a_waiting a_powers a_matrix a_basis := by
  intro d
  induction d with
  | zero =>
    intro s t pc M c tp hs hx hp hM h1 h2 hw rf fs u hu
    obtain ⟨u, rfl⟩ : ∃ k, u = k + 1 := ⟨u - 1, by omega⟩
    refine br_t (nI_le (a := 5) (by omega) (by omega)) (nm_r (nI_1 i) (K M c tp t pc hx hp hM h1 h2 (fun lt => ?_) rf fs))
    have w := hw lt
    rw [show s = 5 by omega] at w
    exact wk_end H kb hp (by omega) him w
  | succ d ih =>
    intro s t pc M c tp hs hx hp hM h1 h2 hw rf fs u hu
    obtain ⟨u, rfl⟩ : ∃ k, u = k + 1 := ⟨u - 1, by omega⟩
    refine br_f (nI_ge (b := 5) (by omega) (by decide)) ?_
    by_cases lt : t < κ
    · refine br_f (nI_ge lt (by omega)) ?_
      refine x_only H (a := 43) (k := 0) (x := 0) hx (by omega) (by omega) (by decide) (fun c1 t1 x1 => ⟨9, ?_⟩)
      rw [mo_0 H] at x1
      have z2 := (x1 43 (by omega) 0 uo_s).2.1
      refine x_par_43 H (M := uo M 43 0) (pc := pc) sf hn hS hκ hτ x1 (by rw [uo_n (by omega), fs 40 (by omega)]; exact m0) uo_s hp (fun j hj => by rw [uo_n (by omega)]; exact hM j hj) (by omega) him h1 lt (by omega) (hw lt) db hb (fun M' c' tp' t' pc' hx' hp' hM' g1 g2 hw' rf' fr' => ?_) 8 0 c1 (by omega) (fun j _ => rfl) (fun j hj => absurd hj (Nat.not_lt_zero j)) (fun j _ hj => by rw [z2 j hj, pl_0 H]; rfl) 9 (by omega)
      refine ih (s + 1) t' pc' M' c' tp' (by omega) hx' hp' hM' (by omega) g2 (fun _ => hw') (rf_tr rf rf') (fun r hr => ?_) u (by omega)
      rw [fr' r hr, uo_n (by omega)]
      exact fs r hr
    · refine br_t (nI_le (by omega) (by omega)) (nm_r (nI_1 i) (K M c tp t pc hx hp hM h1 h2 (fun z => absurd z lt) rf fs))
theorem x_par_7 {R : Type} [Lean.Grind.CommRing R] {co : R → Nat → Fin 5} (H : PL co) {M0 : Nat → Option R} {S b : R} {n κ t0 many τ : Nat} {pc0 : Nat → R} {post : SX → Prop} (sf : Sf co S) (hn : n ≤ 8) (hS : dl co S = n + 1) (hκ : κ ≤ 7) (hτ : τ < 8) (m0 : M0 40 = some S) (kb : Kr S b) (db : dl co b ≤ n) (hb : ∀ k, k < n → a_basis (8 * τ + k) = cI (co b k))
    (K : ∀ M c tp t pc, RX co c tp M → Pc co S t pc → PX_ M t pc → many ≤ t → t ≤ κ → (t < κ → ∀ j, j < t → Cn co (pc j) b) → Rf t0 pc0 t pc → FS M0 M → post (f_count, f_place, f_operators, f_values, f_fault, f_found, f_factored, nI t, nI κ, a_kind, a_with, c, tp, a_product, a_there, a_waiting, a_powers, a_matrix, a_basis)) : ∀ d i t pc M c tp, i + d = many → RX co c tp M → Pc co S t pc → PX_ M t pc → many ≤ t → t ≤ κ → (t < κ → Wk co S b i 0 t pc many) → Rf t0 pc0 t pc → FS M0 M → ∀ u, d < u → wX_part_7 post (nI τ) (nI many) u (nI i) f_count f_place f_operators f_values f_fault f_found f_factored (nI t) (nI κ) a_kind a_with c tp a_product a_there a_waiting a_powers a_matrix a_basis := by
  intro d
  induction d with
  | zero =>
    intro i t pc M c tp hi hx hp hM h1 h2 hw rf fs u hu
    obtain ⟨u, rfl⟩ : ∃ k, u = k + 1 := ⟨u - 1, by omega⟩
    refine br_t (nI_le (by omega) (by omega)) (K M c tp t pc hx hp hM h1 h2 (fun lt j hj => ?_) rf fs)
    have w := hw lt
    by_cases q : j < many
    · exact w.1 j (by omega)
    · exact w.2.1 j (by omega) hj
  | succ d ih =>
    intro i t pc M c tp hi hx hp hM h1 h2 hw rf fs u hu
    obtain ⟨u, rfl⟩ : ∃ k, u = k + 1 := ⟨u - 1, by omega⟩
    refine br_f (nI_ge (by omega) (by omega)) ⟨6, ?_⟩
    exact x_par_15 H (M0 := M0) sf hn hS hκ hτ m0 (by omega) kb db hb (fun M' c' tp' t' pc' hx' hp' hM' g1 g2 hw' rf' fs' => ih (i + 1) t' pc' M' c' tp' (by omega) hx' hp' hM' g1 g2 hw' rf' fs' u (by omega)) 5 0 t pc M c tp (by omega) hx hp hM h1 h2 hw rf fs 6 (by omega)
theorem x_part {R : Type} [Lean.Grind.CommRing R] {co : R → Nat → Fin 5} (H : PL co) {M : Nat → Option R} {S b : R} {n κ t τ : Nat} {pc : Nat → R} {post : SX → Prop} (sf : Sf co S) (hn : n ≤ 8) (hS : dl co S = n + 1) (hκ : κ ≤ 7) (hτ : τ < 8) (h : RX co a_c a_top M) (m0 : M 40 = some S) (kb : Kr S b) (db : dl co b ≤ n) (hb : ∀ k, k < n → a_basis (8 * τ + k) = cI (co b k)) (hp : Pc co S t pc) (hM : PX_ M t pc) (ht : t ≤ κ)
    (K : ∀ M' c tp t' pc', RX co c tp M' → Pc co S t' pc' → PX_ M' t' pc' → t' ≤ κ → (t' < κ → ∀ j, j < t' → Cn co (pc' j) b) → Rf t pc t' pc' → FS M M' → post (f_count, f_place, f_operators, f_values, f_fault, f_found, f_factored, nI t', nI κ, a_kind, a_with, c, tp, a_product, a_there, a_waiting, a_powers, a_matrix, a_basis)) : wpX_part post (f_count, f_place, f_operators, f_values, f_fault, f_found, f_factored, nI t, nI κ, a_kind, a_with, a_c, a_top, a_product, a_there, a_waiting, a_powers, a_matrix, a_basis) (nI τ) := by
  unfold wpX_part
  exact ⟨9, x_par_7 H (M0 := M) (t0 := t) (pc0 := pc) sf hn hS hκ hτ m0 kb db hb (fun M' c tp t' pc' hx hp' hM' _ g2 hc rf fs => K M' c tp t' pc' hx hp' hM' g2 hc rf fs) t 0 t pc M a_c a_top (by omega) h hp hM (Nat.le_refl _) ht (fun _ => ⟨fun j hj => absurd hj (Nat.not_lt_zero j), fun j q1 q2 => by omega, fun s' hs' => absurd hs' (Nat.not_lt_zero _)⟩) (rf_rfl _ _) (fun _ _ => rfl) 9 (by omega)⟩
theorem fk_sur (m : Nat) : ∀ n τ, τ < fk m n → ∃ j, j < n ∧ bi m j = 0 ∧ fk m j = τ := by
  intro n
  induction n with
  | zero => intro τ h; exact absurd h (Nat.not_lt_zero τ)
  | succ n ih =>
    intro τ h
    have h' : τ < fk m n + (1 - bi m n) := h
    by_cases c : τ < fk m n
    · obtain ⟨j, h1, h2, h3⟩ := ih τ c
      exact ⟨j, by omega, h2, h3⟩
    · rcases bi_01 m n with b | b
      · exact ⟨n, by omega, b, by omega⟩
      · omega
theorem x_spl_30 {R : Type} [Lean.Grind.CommRing R] {co : R → Nat → Fin 5} (H : PL co) {M0 : Nat → Option R} {S : R} {n m : Nat} {Q : Nat → Nat → Fin 5} {w : Int32} {post : SX → Prop} (sf : Sf co S) (hn : n ≤ 8) (hS : dl co S = n + 1) (hE : Ech n Q m n) (hQ : ∀ v, Ke n n Q v ↔ Ke n n (bQ co S) v) (hB : BX a_basis n Q m n) (hκ : fk m n ≤ 7) (m0 : M0 40 = some S)
    (K : ∀ M c tp t pc, RX co c tp M → Pc co S t pc → PX_ M t pc → t ≤ 7 → (∀ i, i < t → Ir co (pc i)) → FS M0 M → ∃ n62, wX_split_62 post w n62 0 f_count f_place f_operators f_values f_fault f_found f_factored (nI t) (nI (fk m n)) a_kind a_with c tp a_product a_there a_waiting a_powers a_matrix a_basis) : ∀ d k t pc M c tp, k + d = fk m n → RX co c tp M → Pc co S t pc → PX_ M t pc → (t ≤ fk m n ∨ t = 1) → (t < fk m n → ∀ j, j < n → bi m j = 0 → fk m j < k → ∀ i, i < t → Cn co (pc i) (mkp co (vc Q m j) n)) → FS M0 M → ∀ u, d < u → wX_split_30 post w u (nI k) f_count f_place f_operators f_values f_fault f_found f_factored (nI t) (nI (fk m n)) a_kind a_with c tp a_product a_there a_waiting a_powers a_matrix a_basis := by
  have bk := bk_mk H hS hE hQ
  have irr : ∀ t pc, Pc co S t pc → (fk m n ≤ t ∨ ∀ j, j < n → bi m j = 0 → ∀ i, i < t → Cn co (pc i) (mkp co (vc Q m j) n)) → ∀ i, i < t → Ir co (pc i) := by
    intro t pc hp hor i hi
    rcases hor with g | g
    · exact bk_a H sf bk g hp.1 (fun i hi => (hp.2 i hi).2) i hi
    · obtain ⟨r, er, _⟩ := pr_rest (d := pc) t i hi
      exact bk_b H sf bk (P := pc i) (P' := r) (by rw [← hp.1]; exact er) (hp.2 i hi).2 (fun j hj bj => g j hj bj i hi)
  intro d
  induction d with
  | zero =>
    intro k t pc M c tp hk hx hp hM ht hc fs u hu
    obtain ⟨u, rfl⟩ : ∃ k, u = k + 1 := ⟨u - 1, by omega⟩
    refine br_t (nI_le (by omega) (by omega)) (K M c tp t pc hx hp hM (by omega) (irr t pc hp ?_) fs)
    by_cases lt : t < fk m n
    · exact Or.inr (fun j hj bj i hi => hc lt j hj bj (by have := fk_le m hj bj; omega) i hi)
    · exact Or.inl (by omega)
  | succ d ih =>
    intro k t pc M c tp hk hx hp hM ht hc fs u hu
    obtain ⟨u, rfl⟩ : ∃ k, u = k + 1 := ⟨u - 1, by omega⟩
    refine br_f (nI_ge (by omega) (by omega)) ?_
    by_cases lt : t < fk m n
    · refine br_f (nI_ge lt (by omega)) ?_
      obtain ⟨j, hj, bj, ej⟩ := fk_sur m n k (by omega)
      have b1 := bk.2.1 j hj bj
      refine x_part H (b := mkp co (vc Q m j) n) (τ := k) sf hn hS hκ (by omega) hx (by rw [fs 40 (by omega)]; exact m0) b1.2.1 b1.1 (fun i hi => ?_) hp hM (by omega) (fun M' c' tp' t' pc' hx' hp' hM' g2 hc' rf fs' => ?_)
      · have := hB j hj bj i hi
        rw [ej] at this
        rw [this, mk_co H, if_pos hi]
      · refine nm_r (nI_1 k) (ih (k + 1) t' pc' M' c' tp' (by omega) hx' hp' hM' (Or.inl g2) (fun lt' j' hj' bj' hk' i hi => ?_) (fun r hr => by rw [fs' r hr]; exact fs r hr) u (by omega))
        by_cases q : fk m j' = k
        · have e : j' = j := by
            rcases Nat.lt_trichotomy j' j with z | z | z
            · have := fk_le m z bj'; omega
            · exact z
            · have := fk_le m z bj; omega
          rw [e]
          exact hc' lt' i hi
        · exact rf_cn rf (hc lt j' hj' bj' (by omega)) i hi
    · refine br_t (nI_le (by omega) (by omega)) (K M c tp t pc hx hp hM (by omega) (irr t pc hp (Or.inl (by omega))) fs)
end
end
section
/-! factors in the component -/
theorem pr_ir {R : Type} [Lean.Grind.CommRing R] {co : R → Nat → Fin 5} (H : PL co) {f : R} {pc : Nat → R} (hf : Ir co f) : ∀ t, Dv f (pr pc t) → ∃ i, i < t ∧ Dv f (pc i) := by
  intro t
  induction t with
  | zero =>
    intro h
    exfalso
    have h' : Dv f (1 : R) := h
    have := dv_dl H h' (one_nz H)
    rw [dl_1 H] at this
    have := hf.1
    omega
  | succ t ih =>
    intro h
    rcases ir_pr H hf (show Dv f (pr pc t * pc t) from h) with q | q
    · obtain ⟨i, hi, d⟩ := ih q
      exact ⟨i, by omega, d⟩
    · exact ⟨t, by omega, q⟩
/-- pieces of a polynomial without repeated factors are different -/
theorem pc_ne {R : Type} [Lean.Grind.CommRing R] {co : R → Nat → Fin 5} (H : PL co) {S : R} {t : Nat} {pc : Nat → R} (sf : Sf co S) (hp : Pc co S t pc) (hi : ∀ i, i < t → Ir co (pc i)) {i j : Nat} (h1 : i < t) (h2 : j < t) (hne : i ≠ j) : pc i ≠ pc j := by
  intro e
  obtain ⟨r, er, hr⟩ := pr_rest (d := pc) t i h1
  refine sf.2 (pc i) (hi i h1) ?_
  rw [← hp.1, er]
  have := hr j h2 (Ne.symm hne)
  rw [← e] at this
  exact dv_mm (dv_rfl _) this
/-- what is known of a list that is being made: different irreducible divisors of a -/
def Li {R : Type} [Lean.Grind.CommRing R] (co : R → Nat → Fin 5) (a : R) (n : Nat) (g : Nat → R) (e : Nat → Nat) : Prop := SoL co n g ∧ ∀ i, i < n → Ir co (g i) ∧ Mo co (g i) ∧ Dv (g i) a ∧ e i < 100
theorem li_cnt {R : Type} [Lean.Grind.CommRing R] {co : R → Nat → Fin 5} (H : PL co) {a x : R} {n : Nat} {g : Nat → R} {e : Nat → Nat} (na : a ≠ 0) (h9 : dl co a ≤ 9) (h : Li co a n g e) (ix : Ir co x) (mx : Mo co x) (dx : Dv x a) (hne : ∀ i, i < n → g i ≠ x) : n < 8 ∧ ∀ i, i < n → nb co (g i) ≠ nb co x := by
  have dl9 : ∀ f, Dv f a → dl co f ≤ 24 := fun f hf => by have := dv_dl H hf na; omega
  refine ⟨?_, fun i hi q => hne i hi (nb_inj H (dl9 _ (h.2 i hi).2.2.1) (dl9 _ dx) q)⟩
  have c := ir_cnt H na (g := ap g n x) (n := n + 1) (fun i hi => ?_) (fun i j hi hj hij => ?_)
  · omega
  · by_cases q : i = n
    · rw [ap_e q]; exact ⟨ix, mx, dx⟩
    · rw [ap_n q]
      have := h.2 i (by omega)
      exact ⟨this.1, this.2.1, this.2.2.1⟩
  · intro q
    by_cases c1 : i = n
    · by_cases c2 : j = n
      · omega
      · rw [ap_e c1, ap_n c2] at q
        exact hne j (by omega) q.symm
    · by_cases c2 : j = n
      · rw [ap_n c1, ap_e c2] at q
        exact hne i (by omega) q
      · rw [ap_n c1, ap_n c2] at q
        rcases Nat.lt_or_gt_of_ne hij with z | z
        · have := h.1 i j z (by omega)
          rw [q] at this
          omega
        · have := h.1 j i z (by omega)
          rw [q] at this
          omega
theorem li_in {R : Type} {n : Nat} {g : Nat → R} {e : Nat → Nat} {i : Nat} (hi : i < n) : InL n g e (g i) (e i) := ⟨i, hi, rfl, rfl⟩
theorem li_add {R : Type} [Lean.Grind.CommRing R] {co : R → Nat → Fin 5} (H : PL co) {a x : R} {n w : Nat} {g g' : Nat → R} {e e' : Nat → Nat} (h : Li co a n g e) (ix : Ir co x) (mx : Mo co x) (dx : Dv x a) (hw : w < 100) (so : SoL co (n + 1) g') (inl : ∀ f m, InL (n + 1) g' e' f m ↔ (f = x ∧ m = w) ∨ InL n g e f m) : Li co a (n + 1) g' e' := by
  refine ⟨so, fun i hi => ?_⟩
  rcases (inl _ _).mp (li_in hi) with q | q
  · rw [q.1, q.2]; exact ⟨ix, mx, dx, hw⟩
  · obtain ⟨j, hj, e1, e2⟩ := q
    rw [← e1, ← e2]; exact h.2 j hj
section
variable {f_count f_place f_operators f_values f_fault f_found f_factored f_pieces f_kernel : Int32} {a_kind a_with a_c a_top a_product a_there a_waiting a_powers a_matrix a_basis : Nat → Int32}
theorem x_spl_62 {R : Type} [Lean.Grind.CommRing R] {co : R → Nat → Fin 5} (H : PL co) {M0 : Nat → Option R} {a S : R} {t w n0 : Nat} {pc g0 : Nat → R} {e0 : Nat → Nat} {post : SX → Prop} (na : a ≠ 0) (h9 : dl co a ≤ 9) (sf : Sf co S) (hp : Pc co S t pc) (hir : ∀ i, i < t → Ir co (pc i)) (dS : Dv S a) (ht : t ≤ 7) (hw : w < 100) (hM : PX_ M0 t pc) (hold : ∀ f m, InL n0 g0 e0 f m → ¬ Dv f S)
    (K : ∀ n g e M c tp pw, Li co a n g e → (∀ f m, InL n g e f m ↔ (m = w ∧ ∃ j, j < t ∧ f = pc j) ∨ InL n0 g0 e0 f m) → RX co c tp M → LX M pw n g e → (∀ r, (r < 60 ∨ 68 ≤ r) → M r = M0 r) → post (f_count, f_place, f_operators, f_values, f_fault, nI n, f_factored, nI t, f_kernel, a_kind, a_with, c, tp, a_product, a_there, a_waiting, pw, a_matrix, a_basis)) : ∀ d i n g e M c tp pw, i + d = t → Li co a n g e → (∀ f m, InL n g e f m ↔ (m = w ∧ ∃ j, j < i ∧ f = pc j) ∨ InL n0 g0 e0 f m) → RX co c tp M → LX M pw n g e → (∀ r, (r < 60 ∨ 68 ≤ r) → M r = M0 r) → ∀ u, d < u → wX_split_62 post (nI w) u (nI i) f_count f_place f_operators f_values f_fault (nI n) f_factored (nI t) f_kernel a_kind a_with c tp a_product a_there a_waiting pw a_matrix a_basis := by
  intro d
  induction d with
  | zero =>
    intro i n g e M c tp pw hi hl inl hx lx fr u hu
    obtain ⟨u, rfl⟩ : ∃ k, u = k + 1 := ⟨u - 1, by omega⟩
    rw [show i = t by omega] at inl
    exact br_t (nI_le (by omega) (by omega)) (K n g e M c tp pw hl inl hx lx fr)
  | succ d ih =>
    intro i n g e M c tp pw hi hl inl hx lx fr u hu
    obtain ⟨u, rfl⟩ : ∃ k, u = k + 1 := ⟨u - 1, by omega⟩
    refine br_f (nI_ge (by omega) (by omega)) ?_
    have di : Dv (pc i) S := pc_dv hp (by omega)
    have ne : ∀ j, j < n → g j ≠ pc i := by
      intro j hj q
      rcases (inl _ _).mp (li_in (g := g) (e := e) hj) with z | z
      · obtain ⟨_, j', hj', ej'⟩ := z
        exact pc_ne H sf hp hir (show j' < t by omega) (show i < t by omega) (by omega) (ej'.symm.trans q)
      · have := hold _ _ z
        rw [q] at this
        exact this di
    have cnt := li_cnt H na h9 hl (hir i (by omega)) (hp.2 i (by omega)).1 (dv_trans di dS) ne
    rw [show (68 : Int32) + nI i = nI (68 + i) from nI_add 68 i]
    refine x_enter H (n := n) (w := w) hx (by omega) (Or.inr (by omega)) cnt.1 hw (fun j hj => (hl.2 j hj).2.2.2) (by rw [fr _ (by omega)]; exact hM i (by omega)) (mo_ne H (hp.2 i (by omega)).1) hl.1 cnt.2 lx (fun g' e' M' c' t' pw' so inl' hx' lx' fr' => ?_)
    refine nm_r (nI_1 i) (ih (i + 1) (n + 1) g' e' M' c' t' pw' (by omega) (li_add H hl (hir i (by omega)) (hp.2 i (by omega)).1 (dv_trans di dS) hw so inl') (fun f m => ?_) hx' lx' (fun r hr => by rw [fr' r hr]; exact fr r hr) u (by omega))
    rw [inl' f m, inl f m]
    constructor
    · rintro (⟨q1, q2⟩ | ⟨q1, j, hj, q2⟩ | q)
      · exact Or.inl ⟨q2, i, by omega, q1⟩
      · exact Or.inl ⟨q1, j, by omega, q2⟩
      · exact Or.inr q
    · rintro (⟨q1, j, hj, q2⟩ | q)
      · by_cases z : j = i
        · rw [z] at q2
          exact Or.inl ⟨q2, q1⟩
        · exact Or.inr (Or.inl ⟨q1, j, by omega, q2⟩)
      · exact Or.inr (Or.inr q)
theorem x_split {R : Type} [Lean.Grind.CommRing R] {co : R → Nat → Fin 5} (H : PL co) {M : Nat → Option R} {a S : R} {w n : Nat} {g : Nat → R} {e : Nat → Nat} {post : SX → Prop} (na : a ≠ 0) (h9 : dl co a ≤ 9) (sf : Sf co S) (mS : Mo co S) (S2 : 2 ≤ dl co S) (dS : Dv S a) (hw : w < 100) (h : RX co a_c a_top M) (m0 : M 40 = some S) (hl : Li co a n g e) (lx : LX M a_powers n g e) (hold : ∀ f m, InL n g e f m → ¬ Dv f S)
    (K : ∀ n' g' e' M' c tp pr pi ke pw mt bs, Li co a n' g' e' → (∀ f m, InL n' g' e' f m ↔ (m = w ∧ Ir co f ∧ Mo co f ∧ Dv f S) ∨ InL n g e f m) → RX co c tp M' → LX M' pw n' g' e' → (∀ r, (r < 43 ∨ r = 75) → M' r = M r) → post (f_count, f_place, f_operators, f_values, f_fault, nI n', f_factored, pi, ke, a_kind, a_with, c, tp, pr, a_there, a_waiting, pw, mt, bs)) : wpX_split post (f_count, f_place, f_operators, f_values, f_fault, nI n, f_factored, f_pieces, f_kernel, a_kind, a_with, a_c, a_top, a_product, a_there, a_waiting, a_powers, a_matrix, a_basis) (nI w) := by
  unfold wpX_split
  have l9 := dv_dl H dS na
  obtain ⟨N, hN⟩ : ∃ N, dl co S = N + 1 := ⟨dl co S - 1, by omega⟩
  refine x_columns H h (n := N) (by omega) (by omega) hN m0 (fun M1 c1 t1 p1 mt1 x1 fr1 hm1 => ?_)
  have m1 : M1 40 = some S := by rw [fr1 40 (by omega)]; exact m0
  have t40 : t1 40 = nI N := by rw [(x1 40 (by omega) S m1).2.2, hN, ti_succ]
  dsimp only
  rw [t40]
  refine x_solve (by omega) hm1 (fun Q m mt2 bs hE hQ hB => ?_)
  refine x_copy H (a := 40) (b := 68) x1 (by omega) (by omega) m1 (fun c2 t2 x2 => ⟨9, ?_⟩)
  have κ7 : fk m N ≤ 7 := by
    by_cases q : N = 8
    · rw [q] at hN hE hQ ⊢
      exact bk_8 H hN hE hQ
    · have := rf_k m N; omega
  have hp1 : Pc co S 1 (fun _ => S) := ⟨by show (1 : R) * S = S; grind, fun i _ => ⟨mS, S2⟩⟩
  refine x_spl_30 H (M0 := uo M1 68 S) (w := nI w) sf (by omega) hN hE hQ hB κ7 (by (repeat rw [uo_n (by omega)]) <;> exact m1) (fun M3 c3 tp3 t pc x3 hp hM ht hir fs => ⟨8, ?_⟩) (fk m N) 0 1 (fun _ => S) _ c2 t2 (by omega) x2 hp1 (fun i hi => by rw [show 68 + i = 68 by omega]; exact uo_s) (Or.inr rfl) (fun _ j hj bj z => absurd z (Nat.not_lt_zero _)) (fun _ _ => rfl) 9 (by omega)
  have lx3 : LX M3 a_powers n g e := fun i hi => by
    have n8 : n + 1 ≤ dl co a := ir_cnt H na (g := g) (n := n) (fun i hi => ⟨(hl.2 i hi).1, (hl.2 i hi).2.1, (hl.2 i hi).2.2.1⟩) (fun i j hi hj hij q => by
      rcases Nat.lt_or_gt_of_ne hij with z | z
      · have := hl.1 i j z hj
        rw [q] at this
        omega
      · have := hl.1 j i z hi
        rw [q] at this
        omega)
    rw [fs _ (by omega), uo_n (by omega), fr1 _ (by omega)]
    exact lx i hi
  refine x_spl_62 H (M0 := M3) (n0 := n) (g0 := g) (e0 := e) na h9 sf hp hir dS ht hw hM hold (fun n' g' e' M' c tp pw hl' inl hx' lx' fr' => ?_) t 0 n g e M3 c3 tp3 a_powers (by omega) hl (fun f m => ⟨fun q => Or.inr q, fun q => q.elim (fun z => by obtain ⟨_, j, hj, _⟩ := z; exact absurd hj (Nat.not_lt_zero j)) id⟩) x3 lx3 (fun _ _ => rfl) 8 (by omega)
  refine K n' g' e' M' c tp p1 _ _ pw mt2 bs hl' (fun f m => ?_) hx' lx' (fun r hr => ?_)
  · rw [inl f m]
    constructor
    · rintro (⟨q1, j, hj, q2⟩ | q)
      · exact Or.inl ⟨q1, by rw [q2]; exact hir j hj, by rw [q2]; exact (hp.2 j hj).1, by rw [q2]; exact pc_dv hp hj⟩
      · exact Or.inr q
    · rintro (⟨q1, q2, q3, q4⟩ | q)
      · rw [← hp.1] at q4
        obtain ⟨j, hj, dj⟩ := pr_ir H q2 t q4
        exact Or.inl ⟨q1, j, hj, ir_as H q2 (hir j hj) q3 (hp.2 j hj).1 dj⟩
      · exact Or.inr q
  · rw [fr' r (by omega), fs r (by omega), uo_n (by omega)]
    exact fr1 r (by omega)
end
/-- the list when the powers below e, which five does not divide, are done -/
def Lp {R : Type} [Lean.Grind.CommRing R] (co : R → Nat → Fin 5) (a : R) (E n : Nat) (g : Nat → R) (e : Nat → Nat) : Prop := Li co a n g e ∧ ∀ f m, InL n g e f m ↔ (Ir co f ∧ Mo co f ∧ Vl f a m ∧ 1 ≤ m ∧ m % 5 ≠ 0 ∧ m < E)
theorem sf_vl {R : Type} [Lean.Grind.CommRing R] {co : R → Nat → Fin 5} (H : PL co) {S : R} (mS : Mo co S) (h : ∀ f, Ir co f → Mo co f → Vl f S 0 ∨ Vl f S 1) : Sf co S := by
  refine ⟨mo_ne H mS, fun f hf d => ?_⟩
  have nf := ir_nz H hf
  have nx := f5_inv0 _ (ld_ne H nf)
  generalize ez : mo co (ld co f * ld co f * ld co f) 0 * f = z
  have iz : Ir co z := by
    refine ⟨by rw [← ez, dl_unm H (dl_mo H nx 0)]; exact hf.1, fun u v e => ?_⟩
    have x : mo co (ld co f) 0 * mo co (ld co f * ld co f * ld co f) 0 = (1 : R) := by
      rw [mo_mul H, f5_inv _ (ld_ne H nf), mo_1 H]
    have e2 : f = (mo co (ld co f) 0 * u) * v := by grind
    rcases hf.2 _ _ e2 with q | q
    · rw [dl_unm H (dl_mo H (ld_ne H nf) 0)] at q
      exact Or.inl q
    · exact Or.inr q
  have mz : Mo co z := by rw [← ez]; exact mo_mak H nf
  have dz : Dv (z * z) S := by
    rw [← ez, show mo co (ld co f * ld co f * ld co f) 0 * f * (mo co (ld co f * ld co f * ld co f) 0 * f) = mo co (ld co f * ld co f * ld co f) 0 * (mo co (ld co f * ld co f * ld co f) 0 * (f * f)) by grind]
    exact dv_c2 H nx (dv_c2 H nx d)
  have dz2 : Dv (z ^ 2) S := by rw [Lean.Grind.Semiring.pow_two]; exact dz
  rcases h z iz mz with q | q
  · have := vl_le q dz2; omega
  · have := vl_le q dz2; omega
/-- what is left for the root: B holds exactly the factors whose power five divides -/
def Lr {R : Type} [Lean.Grind.CommRing R] (co : R → Nat → Fin 5) (a B : R) : Prop := Mo co B ∧ dl co B ≤ 9 ∧ (2 ≤ dl co B → B = mo co 1 5 + mo co (co B 0) 0) ∧ ∀ f, Ir co f → Mo co f → ∀ m, Vl f a m → (m % 5 = 0 → Vl f B m) ∧ (m % 5 ≠ 0 → Vl f B 0)
theorem lr_end0 {R : Type} [Lean.Grind.CommRing R] {co : R → Nat → Fin 5} (H : PL co) {a B : R} {n E : Nat} {g : Nat → R} {e : Nat → Nat} (na : a ≠ 0) (hE : ∀ f, Ir co f → Mo co f → ∀ m, Vl f a m → m % 5 ≠ 0 → m < E) (hl : Lp co a E n g e) (hr : Lr co a B) (hB : dl co B ≤ 1) : Fc co a n g e := by
  refine ⟨fun i hi => ?_, fun f hf mf df => ?_, hl.1.1⟩
  · have := (hl.2 _ _).mp (li_in (g := g) (e := e) hi)
    exact ⟨this.1, this.2.1, this.2.2.2.1, this.2.2.1⟩
  · obtain ⟨m, hm⟩ := vl_ex H hf.1 na
    have m1 := vl_pos hm df
    by_cases h5 : m % 5 = 0
    · exfalso
      have v := (hr.2.2.2 f hf mf m hm).1 h5
      have := dv_dl H (vl_dv v m1) (mo_ne H hr.1)
      have := hf.1
      omega
    · obtain ⟨i, hi, e1, e2⟩ := (hl.2 f m).mpr ⟨hf, mf, hm, m1, h5, hE f hf mf m hm h5⟩
      exact ⟨i, hi, e1⟩
theorem lr_lin {R : Type} [Lean.Grind.CommRing R] {co : R → Nat → Fin 5} (H : PL co) {a B : R} (na : a ≠ 0) (hr : Lr co a B) (hB : 2 ≤ dl co B) : Ir co (mo co 1 1 + mo co (co B 0) 0) ∧ Mo co (mo co 1 1 + mo co (co B 0) 0) ∧ Vl (mo co 1 1 + mo co (co B 0) 0) a 5 ∧ ∀ f, Ir co f → Mo co f → ∀ m, Vl f a m → 1 ≤ m → m % 5 = 0 → f = mo co 1 1 + mo co (co B 0) 0 := by
  have lin := ro_lin H (co := co) (co B 0)
  have e5 := ro_x H (hr.2.2.1 hB)
  have il := ir_lin H lin.1
  have vB : Vl (mo co 1 1 + mo co (co B 0) 0) B 5 := by
    have := vl_self H il 5
    rwa [e5] at this
  refine ⟨il, lin.2, ?_, fun f hf mf m hm m1 h5 => ?_⟩
  · obtain ⟨m, hm⟩ := vl_ex H il.1 na
    by_cases h5 : m % 5 = 0
    · have v := (hr.2.2.2 _ il lin.2 m hm).1 h5
      have e := vl_un v vB
      rw [e] at hm
      exact hm
    · have v := (hr.2.2.2 _ il lin.2 m hm).2 h5
      have := vl_un vB v
      omega
  · have v := (hr.2.2.2 f hf mf m hm).1 h5
    have d := vl_dv v m1
    rw [← e5] at d
    exact ir_as H hf il mf lin.2 (ir_pw H hf d)
theorem lr_end1 {R : Type} [Lean.Grind.CommRing R] {co : R → Nat → Fin 5} (H : PL co) {a B : R} {n E : Nat} {g g' : Nat → R} {e e' : Nat → Nat} (na : a ≠ 0) (hE : ∀ f, Ir co f → Mo co f → ∀ m, Vl f a m → m % 5 ≠ 0 → m < E) (hl : Lp co a E n g e) (hr : Lr co a B) (hB : 2 ≤ dl co B) (so : SoL co (n + 1) g') (inl : ∀ f m, InL (n + 1) g' e' f m ↔ (f = mo co 1 1 + mo co (co B 0) 0 ∧ m = 5) ∨ InL n g e f m) : Fc co a (n + 1) g' e' := by
  obtain ⟨il, ml, vl, un⟩ := lr_lin H na hr hB
  refine ⟨fun i hi => ?_, fun f hf mf df => ?_, so⟩
  · rcases (inl _ _).mp (li_in (g := g') (e := e') hi) with q | q
    · rw [q.1, q.2]; exact ⟨il, ml, by omega, vl⟩
    · have := (hl.2 _ _).mp q
      exact ⟨this.1, this.2.1, this.2.2.2.1, this.2.2.1⟩
  · obtain ⟨m, hm⟩ := vl_ex H hf.1 na
    have m1 := vl_pos hm df
    have key : InL (n + 1) g' e' f m := by
      by_cases h5 : m % 5 = 0
      · have ef := un f hf mf m hm m1 h5
        refine (inl f m).mpr (Or.inl ⟨ef, ?_⟩)
        rw [ef] at hm
        exact vl_un hm vl
      · exact (inl f m).mpr (Or.inr ((hl.2 f m).mpr ⟨hf, mf, hm, m1, h5, hE f hf mf m hm h5⟩))
    obtain ⟨i, hi, e1, _⟩ := key
    exact ⟨i, hi, e1⟩
section
variable {f_count f_place f_operators f_values f_fault f_found f_factored f_pieces f_kernel : Int32} {a_kind a_with a_c a_top a_product a_there a_waiting a_powers a_matrix a_basis : Nat → Int32}
theorem x_fin {R : Type} [Lean.Grind.CommRing R] {co : R → Nat → Fin 5} (H : PL co) {M : Nat → Option R} {a B : R} {n E : Nat} {g : Nat → R} {e : Nat → Nat} {post : SX → Prop} (na : a ≠ 0) (h9 : dl co a ≤ 9) (hE : ∀ f, Ir co f → Mo co f → ∀ m, Vl f a m → m % 5 ≠ 0 → m < E) (hl : Lp co a E n g e) (hr : Lr co a B) (h : RX co a_c a_top M) (m0 : M 40 = some B) (lx : LX M a_powers n g e)
    (K : ∀ n' g' e' M' c tp pw, Fc co a n' g' e' → RX co c tp M' → LX M' pw n' g' e' → (∀ r, (r < 40 ∨ r = 75) → M' r = M r) → post (f_count, f_place, f_operators, f_values, f_fault, nI n', f_factored, f_pieces, f_kernel, a_kind, a_with, c, tp, a_product, a_there, a_waiting, pw, a_matrix, a_basis)) : wpX_root post (f_count, f_place, f_operators, f_values, f_fault, nI n, f_factored, f_pieces, f_kernel, a_kind, a_with, a_c, a_top, a_product, a_there, a_waiting, a_powers, a_matrix, a_basis) := by
  by_cases hB : dl co B ≤ 1
  · exact x_root0 H h m0 hB (K n g e M a_c a_top a_powers (lr_end0 H na hE hl hr hB) h lx (fun _ _ => rfl))
  · obtain ⟨il, ml, vl, un⟩ := lr_lin H na hr (by omega)
    have ne : ∀ i, i < n → g i ≠ mo co 1 1 + mo co (co B 0) 0 := by
      intro i hi q
      have := (hl.2 _ _).mp (li_in (g := g) (e := e) hi)
      rw [q] at this
      have := vl_un vl this.2.2.1
      omega
    have cnt := li_cnt H na h9 hl.1 il ml (vl_dv vl (by omega)) ne
    refine x_root1 H h m0 (by omega) cnt.1 (fun i hi => (hl.1.2 i hi).2.2.2) hl.1.1 cnt.2 lx (fun g' e' M' c t pw so inl hx lx' fr => K (n + 1) g' e' M' c t pw (lr_end1 H na hE hl hr (by omega) so inl) hx lx' (fun r hr => fr r (by omega) (by omega)))
theorem x_fac_104 {R : Type} [Lean.Grind.CommRing R] {co : R → Nat → Fin 5} (H : PL co) {M0 : Nat → Option R} {a : R} {post : SX → Prop} (ma : Mo co a) (h9 : dl co a ≤ 9)
    (K : ∀ n g e M c tp pr pi ke pw mt bs, Fc co a n g e → RX co c tp M → LX M pw n g e → (∀ r, (r < 40 ∨ r = 75) → M r = M0 r) → post (f_count, f_place, f_operators, f_values, f_fault, nI n, f_factored, pi, ke, a_kind, a_with, c, tp, pr, a_there, a_waiting, pw, mt, bs)) : ∀ d E A B n g e M c tp pr pi ke pw mt bs, E + d = 9 → 1 ≤ E → Sq co a E A B → dl co B ≤ 9 → dl co A ≤ 9 → Dv A a → Dv B a → Lp co a E n g e → RX co c tp M → M 40 = some A → M 41 = some B → LX M pw n g e → (∀ r, (r < 40 ∨ r = 75) → M r = M0 r) → ∀ u, d < u → wX_factorise_104 post u (nI E) f_count f_place f_operators f_values f_fault (nI n) f_factored pi ke a_kind a_with c tp pr a_there a_waiting pw mt bs := by
  have na := mo_ne H ma
  have fin : ∀ E A B n g e M c tp pr pi ke pw mt bs u, Sq co a E A B → dl co B ≤ 9 → dl co A ≤ 1 → Lp co a E n g e → RX co c tp M → M 40 = some A → M 41 = some B → LX M pw n g e → (∀ r, (r < 40 ∨ r = 75) → M r = M0 r) → wX_factorise_104 post (u + 1) (nI E) f_count f_place f_operators f_values f_fault (nI n) f_factored pi ke a_kind a_with c tp pr a_there a_waiting pw mt bs := by
    intro E A B n g e M c tp pr pi ke pw mt bs u sq lB lA hl hx m0 m1 lx fr
    have a3 := (hx 40 (by omega) A m0).2.2
    refine br_t (by rw [a3, ← nI_0, ti_le (by omega) (by omega)]; omega) ?_
    refine x_copy H (a := 41) (b := 40) hx (by omega) (by omega) m1 (fun c2 t2 x2 => ?_)
    have nA : ∀ f, Ir co f → Vl f A 0 := fun f hf => vl_0.mpr (fun d => by
      have := dv_dl H d (mo_ne H sq.1)
      have := hf.1
      omega)
    have hE : ∀ f, Ir co f → Mo co f → ∀ m, Vl f a m → m % 5 ≠ 0 → m < E := by
      intro f hf mf m hm h5
      by_cases q : E ≤ m
      · have := vl_un ((sq.2.2 f hf mf m hm).1 h5 q).1 (nA f hf)
        omega
      · omega
    refine x_fin H (B := B) na h9 hE hl ⟨sq.2.1, lB, fun h2 => sq_end H na h9 sq lA lB h2, fun f hf mf m hm => ⟨fun h5 => ((sq.2.2 f hf mf m hm).2.2 h5).2, fun h5 => ((sq.2.2 f hf mf m hm).2.1 h5 (hE f hf mf m hm h5)).2⟩⟩ x2 uo_s (fun i hi => by rw [uo_n (by omega)]; exact lx i hi) (fun n' g' e' M' c' tp' pw' fc hx' lx' fr' => K n' g' e' M' c' tp' pr pi ke pw' mt bs fc hx' lx' (fun r hr => ?_))
    rw [fr' r hr, uo_n (by omega)]
    exact fr r hr
  intro d
  induction d with
  | zero =>
    intro E A B n g e M c tp pr pi ke pw mt bs hd hE1 sq lB lA dA dB hl hx m0 m1 lx fr u hu
    obtain ⟨u, rfl⟩ : ∃ k, u = k + 1 := ⟨u - 1, by omega⟩
    have : dl co A ≤ 1 := by
      by_cases q : dl co A ≤ 1
      · exact q
      · have := sq_le H na h9 sq (by omega)
        omega
    exact fin E A B n g e M c tp pr pi ke pw mt bs u sq lB this hl hx m0 m1 lx fr
  | succ d ih =>
    intro E A B n g e M c tp pr pi ke pw mt bs hd hE1 sq lB lA dA dB hl hx m0 m1 lx fr u hu
    obtain ⟨u, rfl⟩ : ∃ k, u = k + 1 := ⟨u - 1, by omega⟩
    by_cases q : dl co A ≤ 1
    · exact fin E A B n g e M c tp pr pi ke pw mt bs u sq lB q hl hx m0 m1 lx fr
    · have a3 := (hx 40 (by omega) A m0).2.2
      have E8 := sq_le H na h9 sq (by omega)
      refine br_f (by rw [a3, ← nI_0, ti_le (by omega) (by omega)]; omega) ?_
      refine x_common H (a := 40) (b := 41) hx (by omega) (by omega) (by omega) m0 m1 (Or.inl (mo_ne H sq.1)) (fun C M1 c1 t1 hg x1 m47 fr1 => ?_)
      refine x_copy H (a := 47) (b := 42) x1 (by omega) (by omega) m47 (fun c2 t2 x2 => ?_)
      have nC := mo_ne H hg.1
      have A1 : M1 40 = some A := by rw [fr1 40 (by omega) (by omega) (by omega) (by omega)]; exact m0
      have B1 : M1 41 = some B := by rw [fr1 41 (by omega) (by omega) (by omega) (by omega)]; exact m1
      refine x_exact H (a := 40) (b := 42) x2 (by omega) (by omega) (by omega) (by omega) (by omega) (by (repeat rw [uo_n (by omega)]) <;> exact A1) uo_s nC (fun c3 t3 x3 => ?_)
      obtain ⟨S, eS⟩ := hg.2.1
      obtain ⟨B', eB⟩ := hg.2.2.1
      have qS : qo co A C = S := by rw [eS]; exact qo_mul H nC
      have qB : qo co B C = B' := by rw [eB]; exact qo_mul H nC
      rw [qS] at x3
      obtain ⟨sq', mS, vS⟩ := sq_s H hE1 sq hg eS eB
      have nS := mo_ne H mS
      have dSA : Dv S A := by rw [eS]; exact dv_l _ _
      have lS := dv_dl H dSA (mo_ne H sq.1)
      have lC := dv_dl H hg.2.1 (mo_ne H sq.1)
      have dB' : Dv B' B := by rw [eB]; exact dv_l _ _
      have lB' := dv_dl H dB' (mo_ne H sq.2.1)
      have s3 : t3 40 = tI (dl co S) := (x3 40 (by omega) S uo_s).2.2
      have lx3 : ∀ M', (∀ r, 60 ≤ r → r < 75 → M' r = M r) → LX M' pw n g e := fun M' hM' i hi => by
        have n8 : n + 1 ≤ dl co a := ir_cnt H na (g := g) (n := n) (fun i hi => ⟨(hl.1.2 i hi).1, (hl.1.2 i hi).2.1, (hl.1.2 i hi).2.2.1⟩) (fun i j hi hj hij q => by
          rcases Nat.lt_or_gt_of_ne hij with z | z
          · have := hl.1.1 i j z hj
            rw [q] at this
            omega
          · have := hl.1.1 j i z hi
            rw [q] at this
            omega)
        rw [hM' _ (by omega) (by omega)]
        exact lx i hi
      have fr3 : ∀ r, (r < 40 ∨ 52 ≤ r) → uo (uo (uo M1 42 C) 51 S) 40 S r = M r := fun r hr => by
        (repeat rw [uo_n (by omega)])
        exact fr1 r (by omega) (by omega) (by omega) (by omega)
      -- divisors of S: the factors with power E
      have dS : ∀ f, Ir co f → Mo co f → (Dv f S ↔ (E % 5 ≠ 0 ∧ Vl f a E)) := by
        intro f hf mf
        obtain ⟨m, hm⟩ := vl_ex H hf.1 na
        have v := vS f hf mf m hm
        constructor
        · intro df
          by_cases z : m % 5 = 0 ∨ m ≠ E
          · exact absurd df (vl_0.mp (v.2 z))
          · have z1 : m % 5 ≠ 0 := fun w => z (Or.inl w)
            have z2 : m = E := Classical.byContradiction (fun w => z (Or.inr w))
            rw [z2] at z1 hm
            exact ⟨z1, hm⟩
        · intro hv
          have := vl_un hm hv.2
          exact vl_dv (v.1 (by rw [this]; exact hv.1) this) (Nat.le_refl 1)
      -- the last step of a round
      have step : ∀ n' g' e' M' c' tp' pr' pi' ke' pw' mt' bs', Lp co a (E + 1) n' g' e' → RX co c' tp' M' → M' 41 = some B → M' 42 = some C → LX M' pw' n' g' e' → (∀ r, (r < 40 ∨ r = 75) → M' r = M0 r) → wX_factorise_153 post (wX_factorise_104 post u) (nI E) f_count f_place f_operators f_values f_fault (nI n') f_factored pi' ke' a_kind a_with c' tp' pr' a_there a_waiting pw' mt' bs' := by
        intro n' g' e' M' c' tp' pr' pi' ke' pw' mt' bs' hl' hx' n1 n2 lx' fr'
        unfold wX_factorise_153
        refine x_copy H (a := 42) (b := 40) hx' (by omega) (by omega) n2 (fun c4 t4 x4 => ?_)
        refine x_exact H (a := 41) (b := 42) x4 (by omega) (by omega) (by omega) (by omega) (by omega) (by (repeat rw [uo_n (by omega)]) <;> exact n1) (by (repeat rw [uo_n (by omega)]) <;> exact n2) nC (fun c5 t5 x5 => ?_)
        rw [qB] at x5
        refine nm_r (nI_1 E) (ih (E + 1) C B' n' g' e' _ c5 t5 pr' pi' ke' pw' mt' bs' (by omega) (by omega) sq' (by omega) (by omega) (dv_trans hg.2.1 dA) (dv_trans dB' dB) hl' x5 (by (repeat rw [uo_n (by omega)]) <;> exact uo_s) uo_s (fun i hi => ?_) (fun r hr => ?_) u (by omega))
        · rw [uo_n (by omega), uo_n (by omega), uo_n (by omega)]; exact lx' i hi
        · rw [uo_n (by omega), uo_n (by omega), uo_n (by omega)]; exact fr' r hr
      dsimp only
      rw [s3]
      by_cases s1 : dl co S ≤ 1
      · refine br_t (by rw [← nI_0, ti_le (by omega) (by omega)]; omega) ?_
        refine step n g e _ c3 t3 pr pi ke pw mt bs ⟨hl.1, fun f m => ?_⟩ x3 (by (repeat rw [uo_n (by omega)]) <;> exact B1) (by (repeat rw [uo_n (by omega)]) <;> exact uo_s) (lx3 _ (fun r q1 q2 => fr3 r (by omega))) (fun r hr => by rw [fr3 r (by omega)]; exact fr r hr)
        rw [hl.2 f m]
        constructor
        · rintro ⟨q1, q2, q3, q4, q5, q6⟩
          exact ⟨q1, q2, q3, q4, q5, by omega⟩
        · rintro ⟨q1, q2, q3, q4, q5, q6⟩
          refine ⟨q1, q2, q3, q4, q5, ?_⟩
          by_cases z : m = E
          · rw [z] at q3 q5
            have df := (dS f q1 q2).mpr ⟨q5, q3⟩
            have := dv_dl H df nS
            have := q1.1
            omega
          · omega
      · refine br_f (by rw [← nI_0, ti_le (by omega) (by omega)]; omega) ?_
        have sf : Sf co S := sf_vl H mS (fun f hf mf => by
          obtain ⟨m, hm⟩ := vl_ex H hf.1 na
          have v := vS f hf mf m hm
          by_cases z : m % 5 = 0 ∨ m ≠ E
          · exact Or.inl (v.2 z)
          · exact Or.inr (v.1 (fun w => z (Or.inl w)) (Classical.byContradiction (fun w => z (Or.inr w)))))
        refine x_split H (w := E) na h9 sf mS (by omega) (dv_trans dSA dA) (by omega) x3 uo_s hl.1 (lx3 _ (fun r q1 q2 => fr3 r (by omega))) (fun f m hin df => ?_) (fun n' g' e' M' c' tp' pr' pi' ke' pw' mt' bs' hl' inl hx' lx' fr' => ?_)
        · have q := (hl.2 f m).mp hin
          have := (dS f q.1 q.2.1).mp df
          have := vl_un this.2 q.2.2.1
          omega
        · refine step n' g' e' M' c' tp' pr' pi' ke' pw' mt' bs' ⟨hl', fun f m => ?_⟩ hx' (by rw [fr' 41 (by omega)]; exact (by (repeat rw [uo_n (by omega)]) <;> exact B1)) (by rw [fr' 42 (by omega)]; exact (by (repeat rw [uo_n (by omega)]) <;> exact uo_s)) lx' (fun r hr => by rw [fr' r (by omega), fr3 r (by omega)]; exact fr r hr)
          rw [inl f m, hl.2 f m]
          constructor
          · rintro (⟨q1, q2, q3, q4⟩ | ⟨q1, q2, q3, q4, q5, q6⟩)
            · have := (dS f q2 q3).mp q4
              rw [q1]
              exact ⟨q2, q3, this.2, hE1, this.1, by omega⟩
            · exact ⟨q1, q2, q3, q4, q5, by omega⟩
          · rintro ⟨q1, q2, q3, q4, q5, q6⟩
            by_cases z : m = E
            · rw [z] at q3 q5
              exact Or.inl ⟨z, q1, q2, (dS f q1 q2).mpr ⟨q5, q3⟩⟩
            · exact Or.inr ⟨q1, q2, q3, q4, q5, by omega⟩
end
end
section
/-! factorise: with what was factored last -/
theorem fc_c {R : Type} [Lean.Grind.CommRing R] {co : R → Nat → Fin 5} (H : PL co) {a : R} {x : Fin 5} (hx : x ≠ 0) {n : Nat} {g : Nat → R} {e : Nat → Nat} (h : Fc co (mo co x 0 * a) n g e) : Fc co a n g e := by
  refine ⟨fun i hi => ?_, fun f hf mf df => h.2.1 f hf mf (dv_mul _ df), h.2.2⟩
  have := h.1 i hi
  exact ⟨this.1, this.2.1, this.2.2.1, (vl_c H hx).mp this.2.2.2⟩
theorem m1_ne {k : Nat} (h : k < 2 ^ 31) : ¬ nI k = (-1 : Int32) := by
  intro z
  have := congrArg Int32.toInt z
  rw [nI_toInt h, show (-1 : Int32).toInt = -1 from by decide] at this
  omega
section
variable {f_count f_place f_operators f_values f_fault f_found f_factored f_pieces f_kernel : Int32} {a_kind a_with a_c a_top a_product a_there a_waiting a_powers a_matrix a_basis : Nat → Int32}
theorem x_same {R : Type} [Lean.Grind.CommRing R] {co : R → Nat → Fin 5} (H : PL co) {M : Nat → Option R} {p q : R} {a : Nat} {post : Int32 → Prop} (h : RX co a_c a_top M) (ha : a < 76) (h1 : M a = some p) (h2 : M 75 = some q) (K1 : p = q → post 1) (K0 : post 0) : wpX_same post (f_count, f_place, f_operators, f_values, f_fault, f_found, f_factored, f_pieces, f_kernel, a_kind, a_with, a_c, a_top, a_product, a_there, a_waiting, a_powers, a_matrix, a_basis) (nI a) := by
  unfold wpX_same
  obtain ⟨p1, p2, p3⟩ := h a ha p h1
  obtain ⟨q1, q2, q3⟩ := h 75 (by omega) q h2
  have loop : ∀ d k, k + d = 24 → (∀ j, j < k → co p j = co q j) → ∀ n, d < n → wX_same_2 post (nI a) f_count f_place f_operators f_values f_fault f_found f_factored f_pieces f_kernel a_kind a_with a_c a_top a_product a_there a_waiting a_powers a_matrix a_basis n (nI k) := by
    intro d
    induction d with
    | zero =>
      intro k hk he n hn
      obtain ⟨n, rfl⟩ : ∃ m, n = m + 1 := ⟨n - 1, by omega⟩
      refine br_t (nI_le (a := 24) (by omega) (by omega)) (K1 (pl_ext H (fun j => ?_)))
      by_cases c : j < 24
      · exact he j (by omega)
      · rw [dl_hi H (a := p) (by omega), dl_hi H (a := q) (by omega)]
    | succ d ih =>
      intro k hk he n hn
      obtain ⟨n, rfl⟩ : ∃ m, n = m + 1 := ⟨n - 1, by omega⟩
      have e18 : (1800 : Int32) + nI k = nI (24 * 75 + k) := nI_add 1800 k
      refine br_f (nI_ge (b := 24) (by omega) (by decide)) ⟨in24 ha (by omega), ?_⟩
      rw [e18, cl24 ha (by omega), nI_clamp (by omega), p2 k (by omega), q2 k (by omega)]
      refine ⟨vp_in_nI (by omega) (by omega), ?_⟩
      by_cases c : co p k = co q k
      · refine br_t (by rw [c]) (nm_r (nI_1 k) (ih (k + 1) (by omega) (fun j hj => ?_) n (by omega)))
        by_cases z : j = k
        · rw [z]; exact c
        · exact he j (by omega)
      · exact br_f (fun z => c ((c_inj _ _).mp z)) K0
  exact ⟨25, loop 24 0 (by omega) (fun j hj => absurd hj (Nat.not_lt_zero j)) 25 (by omega)⟩
theorem x_fac17 {R : Type} [Lean.Grind.CommRing R] {co : R → Nat → Fin 5} (H : PL co) {M : Nat → Option R} {p : R} {r0 : Nat} {post : SX → Prop} (h : RX co a_c a_top M) (hr0 : r0 < 40) (h1 : M r0 = some p) (np : p ≠ 0) (h9 : dl co p ≤ 9)
    (K : ∀ n g e M' c tp pr pi ke pw mt bs, Fc co p n g e → RX co c tp M' → LX M' pw n g e → M' 75 = some p → (∀ r, r < 40 → M' r = M r) → post (f_count, f_place, f_operators, f_values, f_fault, nI n, nI r0, pi, ke, a_kind, a_with, c, tp, pr, a_there, a_waiting, pw, mt, bs)) : wX_factorise_17 post (nI r0) f_count f_place f_operators f_values f_fault f_found f_factored f_pieces f_kernel a_kind a_with a_c a_top a_product a_there a_waiting a_powers a_matrix a_basis := by
  unfold wX_factorise_17
  have nx := f5_inv0 _ (ld_ne H np)
  refine x_copy H (b := 75) h (by omega) (by omega) h1 (fun c1 t1 x1 => ?_)
  refine x_copy H (b := 40) x1 (by omega) (by omega) (by (repeat rw [uo_n (by omega)]) <;> exact h1) (fun c2 t2 x2 => ?_)
  refine x_inverse H (a := 40) x2 (by omega) uo_s np ?_
  refine x_scale H (a := 40) x2 (by omega) uo_s nx (fun c3 x3 => ?_)
  have mA := mo_mak H np
  have lA : dl co (mo co (ld co p * ld co p * ld co p) 0 * p) ≤ 9 := by rw [dl_unm H (dl_mo H nx 0)]; exact h9
  have fcc : ∀ n g e, Fc co (mo co (ld co p * ld co p * ld co p) 0 * p) n g e → Fc co p n g e := fun n g e => fc_c H nx
  generalize mo co (ld co p * ld co p * ld co p) 0 * p = A at x3 mA lA fcc
  have nA := mo_ne H mA
  have lD := de_dl H A 8 (by omega)
  refine x_derive H (a := 40) (b := 41) x3 (by omega) (by omega) (by omega) uo_s (fun c4 t4 x4 => ?_)
  have d3 : t4 41 = tI (dl co (de co A)) := (x4 41 (by omega) _ uo_s).2.2
  have lp0 : Lp co A 1 0 (fun _ => A) (fun _ => 0) := by
    refine ⟨⟨fun i j _ hj => absurd hj (Nat.not_lt_zero j), fun i hi => absurd hi (Nat.not_lt_zero i)⟩, fun f m => ⟨fun q => ?_, fun q => ?_⟩⟩
    · obtain ⟨i, hi, _⟩ := q
      exact absurd hi (Nat.not_lt_zero i)
    · have := q.2.2.2
      omega
  have fr4 : ∀ r, (r < 40 ∨ r = 75) → uo (uo (uo (uo (uo M 75 p) 40 p) 40 A) 41 (de co A)) 75 p r = uo M 75 p r := fun r hr => by
    by_cases q : r = 75
    · rw [q, uo_s, uo_s]
    · rw [uo_n q, uo_n q, uo_n (by omega), uo_n (by omega), uo_n (by omega), uo_n (by omega)]
  have out : ∀ r, (r < 40 ∨ r = 75) → uo (uo (uo (uo M 75 p) 40 p) 40 A) 41 (de co A) r = uo M 75 p r := fun r hr => by
    rw [uo_n (by omega), uo_n (by omega), uo_n (by omega)]
  dsimp only
  rw [d3]
  by_cases dz : dl co (de co A) = 0
  · have d0 := dl_eq0 H dz
    refine br_f (by rw [ti_nn (by omega)]; omega) ?_
    have no : ∀ f, Ir co f → Mo co f → ∀ m, Vl f A m → m % 5 ≠ 0 → False := by
      intro f hf mf m hm h5
      have v := vl_den H hf hm h5
      rw [d0] at v
      exact v.2 (dv_0 _)
    refine x_fin H (B := A) (E := 1) nA lA (fun f hf mf m hm h5 => absurd (no f hf mf m hm h5) id) lp0 ⟨mA, lA, fun h2 => ro_5 H mA lA h2 d0, fun f hf mf m hm => ⟨fun _ => hm, fun h5 => absurd (no f hf mf m hm h5) id⟩⟩ x4 (by (repeat rw [uo_n (by omega)]) <;> exact uo_s) (fun i hi => absurd hi (Nat.not_lt_zero i)) (fun n' g' e' M' c tp pw fc hx lx fr => K n' g' e' M' c tp _ _ _ pw _ _ (fcc _ _ _ fc) hx lx ?_ (fun r hr => ?_))
    · rw [fr 75 (by omega), out 75 (by omega)]; exact uo_s
    · rw [fr r (by omega), out r (by omega), uo_n (by omega)]
  · have nD : de co A ≠ 0 := dl_nz H (by omega)
    refine br_t (by rw [ti_nn (by omega)]; omega) ?_
    refine x_common H (a := 40) (b := 41) x4 (by omega) (by omega) (by omega) (by (repeat rw [uo_n (by omega)]) <;> exact uo_s) uo_s (Or.inl nA) (fun B M5 c5 t5 hg x5 m47 fr5 => ?_)
    have nB := mo_ne H hg.1
    refine x_copy H (a := 47) (b := 41) x5 (by omega) (by omega) m47 (fun c6 t6 x6 => ?_)
    have A5 : M5 40 = some A := by rw [fr5 40 (by omega) (by omega) (by omega) (by omega)]; exact (by (repeat rw [uo_n (by omega)]) <;> exact uo_s)
    refine x_exact H (a := 40) (b := 41) x6 (by omega) (by omega) (by omega) (by omega) (by omega) (by (repeat rw [uo_n (by omega)]) <;> exact A5) uo_s nB (fun c7 t7 x7 => ⟨9, ?_⟩)
    obtain ⟨A1, eA⟩ := hg.2.1
    have qA : qo co A B = A1 := by rw [eA]; exact qo_mul H nB
    rw [qA] at x7
    have sq := sq_1 H mA hg eA
    have dA1 : Dv A1 A := by rw [eA]; exact dv_l _ _
    have l1 := dv_dl H dA1 nA
    have l2 := dv_dl H hg.2.1 nA
    refine x_fac_104 H (M0 := uo M 75 p) mA lA (fun n g e M' c tp pr pi ke pw mt bs fc hx lx fr => K n g e M' c tp pr pi ke pw mt bs (fcc _ _ _ fc) hx lx ?_ (fun r hr => ?_)) 8 1 A1 B 0 (fun _ => A) (fun _ => 0) _ c7 t7 _ _ _ a_powers _ _ (by omega) (by omega) sq (by omega) (by omega) dA1 hg.2.1 lp0 x7 uo_s (by (repeat rw [uo_n (by omega)]) <;> exact uo_s) (fun i hi => absurd hi (Nat.not_lt_zero i)) (fun r hr => ?_) 9 (by omega)
    · rw [fr 75 (by omega)]; exact uo_s
    · rw [fr r (by omega), uo_n (by omega)]
    · rw [uo_n (by omega), uo_n (by omega), uo_n (by omega), fr5 r (by omega) (by omega) (by omega) (by omega)]
      exact out r hr
/-- what is remembered -/
def Ca {R : Type} [Lean.Grind.CommRing R] (co : R → Nat → Fin 5) (M : Nat → Option R) (pw : Nat → Int32) (fd fac : Int32) : Prop :=
  fac = -1 ∨ ∃ p n g e, p ≠ 0 ∧ dl co p ≤ 9 ∧ M 75 = some p ∧ Fc co p n g e ∧ LX M pw n g e ∧ fd = nI n
theorem x_factorise {R : Type} [Lean.Grind.CommRing R] {co : R → Nat → Fin 5} (H : PL co) {M : Nat → Option R} {p : R} {r0 : Nat} {post : SX → Prop} (h : RX co a_c a_top M) (hr0 : r0 < 40) (h1 : M r0 = some p) (np : p ≠ 0) (h9 : dl co p ≤ 9) (ca : Ca co M a_powers f_found f_factored)
    (K : ∀ n g e M' c tp pr pi ke pw mt bs fac, Fc co p n g e → RX co c tp M' → LX M' pw n g e → M' 75 = some p → (∀ r, r < 40 → M' r = M r) → post (f_count, f_place, f_operators, f_values, f_fault, nI n, fac, pi, ke, a_kind, a_with, c, tp, pr, a_there, a_waiting, pw, mt, bs)) : wpX_factorise post (f_count, f_place, f_operators, f_values, f_fault, f_found, f_factored, f_pieces, f_kernel, a_kind, a_with, a_c, a_top, a_product, a_there, a_waiting, a_powers, a_matrix, a_basis) (nI r0) := by
  unfold wpX_factorise
  have f17 := x_fac17 H (f_count := f_count) (f_place := f_place) (f_operators := f_operators) (f_values := f_values) (f_fault := f_fault) (f_found := f_found) (f_factored := f_factored) (f_pieces := f_pieces) (f_kernel := f_kernel) (a_kind := a_kind) (a_with := a_with) (a_product := a_product) (a_there := a_there) (a_waiting := a_waiting) (a_powers := a_powers) (a_matrix := a_matrix) (a_basis := a_basis) (post := post) h hr0 h1 np h9 (fun n g e M' c tp pr pi ke pw mt bs fc hx lx m75 fr => K n g e M' c tp pr pi ke pw mt bs _ fc hx lx m75 fr)
  by_cases c : f_factored = -1
  · exact br_t c f17
  · refine br_f c ?_
    rcases ca with q | ⟨p', n, g, e, np', l', m75, fc, lx, efd⟩
    · exact absurd q c
    · refine x_same H h (by omega) h1 m75 (fun e => br_f (by decide) ?_) (br_t rfl f17)
      rw [← e] at fc m75
      rw [efd]
      exact K n g _ M a_c a_top a_product f_pieces f_kernel a_powers a_matrix a_basis f_factored fc h lx m75 (fun _ _ => rfl)
end
end
section
/-! partial fractions in the component -/
theorem iv_s {R : Type} [Lean.Grind.CommRing R] {co : R → Nat → Fin 5} (H : PL co) {m a F G I D : R} (h1 : Dv m (D * a - G)) (h2 : Dv m (I * a - F)) (nG : G ≠ 0) : Dv m ((I + mo co 4 0 * (qo co F G * D)) * a - rm co F G) := by
  have e := (qr_spec H F nG).1
  generalize rm co F G = r at e
  generalize qo co F G = w at e
  have m4 : (mo co 4 0 : R) = -1 := by
    have : (mo co 4 0 : R) + 1 = 0 := by
      rw [← mo_1 H, mo_add H, show (4 : Fin 5) + 1 = 0 from rfl, mo_0 H]
    grind
  rw [m4]
  obtain ⟨x, hx⟩ := h1
  obtain ⟨y, hy⟩ := h2
  exact ⟨y - w * x, by grind⟩
theorem cp_rm {R : Type} [Lean.Grind.CommRing R] {co : R → Nat → Fin 5} (H : PL co) {F G : R} (h : Cp F G) (nG : G ≠ 0) : Cp G (rm co F G) := by
  have e := (qr_spec H F nG).1
  obtain ⟨s, t, est⟩ := h
  exact ⟨s * qo co F G + t, s, by grind⟩
section
variable {f_count f_place f_operators f_values f_fault f_found f_factored f_pieces f_kernel : Int32} {a_kind a_with a_c a_top a_product a_there a_waiting a_powers a_matrix a_basis : Nat → Int32}
theorem x_inv_l {R : Type} [Lean.Grind.CommRing R] {co : R → Nat → Fin 5} (H : PL co) {M0 : Nat → Option R} {m a : R} {post : SX → Prop} (m2 : 2 ≤ dl co m) (m9 : dl co m ≤ 9) (m0 : M0 40 = some m)
    (K : ∀ D M c t pr, dl co D < dl co m → Dv m (D * a - 1) → RX co c t M → M 43 = some D → (∀ r, (r < 43 ∨ r = 44 ∨ 52 ≤ r) → M r = M0 r) → post (f_count, f_place, f_operators, f_values, f_fault, f_found, f_factored, f_pieces, f_kernel, a_kind, a_with, c, t, pr, a_there, a_waiting, a_powers, a_matrix, a_basis)) :
    ∀ d F G I D M c t pr, dl co G ≤ d → dl co G < dl co F → 2 ≤ dl co F → dl co F ≤ 9 → dl co D + dl co F ≤ dl co m + 1 → dl co I + dl co G ≤ dl co m + 1 → Cp F G → Dv m (D * a - G) → Dv m (I * a - F) → RX co c t M → M 45 = some F → M 46 = some G → M 48 = some I → M 43 = some D → (∀ r, (r < 43 ∨ r = 44 ∨ 52 ≤ r) → M r = M0 r) → ∀ n, d < n → wX_invert_30 post (nI 40) n f_count f_place f_operators f_values f_fault f_found f_factored f_pieces f_kernel a_kind a_with c t pr a_there a_waiting a_powers a_matrix a_basis := by
  have nm : m ≠ 0 := dl_nz H (by omega)
  intro d
  have fin : ∀ (F G I D : R) M c t pr n, dl co G ≤ 1 → dl co G < dl co F → 2 ≤ dl co F → Cp F G → Dv m (D * a - G) → RX co c t M → M 46 = some G → M 43 = some D → (∀ r, (r < 43 ∨ r = 44 ∨ 52 ≤ r) → M r = M0 r) → wX_invert_30 post (nI 40) (n + 1) f_count f_place f_operators f_values f_fault f_found f_factored f_pieces f_kernel a_kind a_with c t pr a_there a_waiting a_powers a_matrix a_basis := by
    intro F G I D M c t pr n lG lt F2 cp hd hx m46 m43 fr
    obtain ⟨g1, g2, g3⟩ := hx 46 (by omega) G m46
    refine br_t (by rw [g3, ← nI_0, ti_le (by omega) (by omega)]; omega) ?_
    have e0 := g2 0 (by omega)
    rw [show 24 * 46 + 0 = 1104 by omega] at e0
    have nG : G ≠ 0 := by
      intro z
      obtain ⟨s, t', est⟩ := cp
      have := dl_un H (a := F) (b := s) (by rw [z] at est; grind)
      omega
    have G1 := dl_ne H nG
    have c0 : co G 0 ≠ 0 := by
      have := dl_lead H (a := G) (by omega)
      rwa [show dl co G - 1 = 0 by omega] at this
    have nx := f5_inv0 _ c0
    rw [e0]
    unfold wpX_over
    refine ⟨by decide, ?_⟩
    rw [c_inv]
    refine x_scale H (a := 43) hx (by omega) m43 nx (fun c1 x1 => ?_)
    refine x_rest H (a := 43) (b := 40) x1 (by omega) (by omega) (by omega) (by omega) (by omega) uo_s (q := m) (by rw [uo_n (by omega), fr 40 (by omega)]; exact m0) nm (fun c2 t2 x2 => ?_)
    have sp := qr_spec H (mo co (co G 0 * co G 0 * co G 0) 0 * D) nm
    refine K _ _ c2 t2 pr sp.2 ?_ x2 (by (repeat rw [uo_n (by omega)]) <;> exact uo_s) (fun r hr => ?_)
    · have eG := dl_c1 H (a := G) (by omega)
      have x1 : mo co (co G 0 * co G 0 * co G 0) 0 * G = 1 := by
        generalize co G 0 = y at eG c0
        rw [eG, mo_mul H, f5_mcm, f5_inv _ c0, mo_1 H]
      have d1 := dv_mul (mo co (co G 0 * co G 0 * co G 0) 0) hd
      have d2 := rm_sub H (mo co (co G 0 * co G 0 * co G 0) 0 * D) nm
      have d3 := dv_sub d1 (dv_mulr a d2)
      generalize mo co (co G 0 * co G 0 * co G 0) 0 = w at *
      rw [show w * (D * a - G) - (w * D - rm co (w * D) m) * a = rm co (w * D) m * a - w * G by grind, x1] at d3
      exact d3
    · (repeat rw [uo_n (by omega)])
      exact fr r hr
  induction d with
  | zero =>
    intro F G I D M c t pr hd lt F2 F9 b1 b2 cp h1 h2 hx n1 n2 n3 n4 fr n hn
    obtain ⟨n, rfl⟩ : ∃ k, n = k + 1 := ⟨n - 1, by omega⟩
    exact fin F G I D M c t pr n (by omega) lt F2 cp h1 hx n2 n4 fr
  | succ d ih =>
    intro F G I D M c t pr hd lt F2 F9 b1 b2 cp h1 h2 hx n1 n2 n3 n4 fr n hn
    obtain ⟨n, rfl⟩ : ∃ k, n = k + 1 := ⟨n - 1, by omega⟩
    by_cases c1 : dl co G ≤ 1
    · exact fin F G I D M c t pr n c1 lt F2 cp h1 hx n2 n4 fr
    · obtain ⟨g1, g2, g3⟩ := hx 46 (by omega) G n2
      have nG : G ≠ 0 := dl_nz H (by omega)
      have sp := qr_spec H F nG
      have lJ : dl co (qo co F G) + dl co G ≤ dl co F + 1 := by
        by_cases z : qo co F G = 0
        · rw [z, dl_0 H]; omega
        · have e := sp.1
          have l := dl_mul H z nG
          have l2 : dl co (qo co F G * G) ≤ dl co F := by
            have : qo co F G * G = F - rm co F G := by grind
            rw [this]
            exact dl_sub H (Nat.le_refl _) (by omega)
          have := dl_ne H z
          omega
      have lK := dl_mul_le H (qo co F G) D
      refine br_f (by rw [g3, ← nI_0, ti_le (by omega) (by omega)]; omega) ?_
      refine x_divide H (a := 45) (b := 46) (z := 49) hx (by omega) (by omega) (by omega) (by omega) (by omega) (by omega) n1 n2 nG (fun c1 t1 x1 => ?_)
      refine x_multiply H (a := 49) (b := 43) (z := 50) x1 (by omega) (by omega) (by omega) uo_s (by (repeat rw [uo_n (by omega)]) <;> exact n4) (by omega) (fun c2 t2 p2 x2 => ?_)
      refine x_add H (a := 48) (b := 50) (up := 0) (f := 4) x2 (by omega) (by omega) (by omega) (by (repeat rw [uo_n (by omega)]) <;> exact n3) uo_s (fun x y => c_addm x 4 y) (by omega) (fun c3 t3 x3 _ => ?_)
      refine x_copy H (a := 45) (b := 47) x3 (by omega) (by omega) (by (repeat rw [uo_n (by omega)]) <;> exact uo_s) (fun c4 t4 x4 => ?_)
      refine x_copy H (a := 46) (b := 45) x4 (by omega) (by omega) (by (repeat rw [uo_n (by omega)]) <;> exact n2) (fun c5 t5 x5 => ?_)
      refine x_copy H (a := 47) (b := 46) x5 (by omega) (by omega) (by (repeat rw [uo_n (by omega)]) <;> exact uo_s) (fun c6 t6 x6 => ?_)
      refine x_copy H (a := 48) (b := 47) x6 (by omega) (by omega) (by (repeat rw [uo_n (by omega)]) <;> exact uo_s) (fun c7 t7 x7 => ?_)
      refine x_copy H (a := 43) (b := 48) x7 (by omega) (by omega) (by (repeat rw [uo_n (by omega)]) <;> exact n4) (fun c8 t8 x8 => ?_)
      refine x_copy H (a := 47) (b := 43) x8 (by omega) (by omega) (by (repeat rw [uo_n (by omega)]) <;> exact uo_s) (fun c9 t9 x9 => ?_)
      have l4 : dl co (I + mo co 4 0 * (qo co F G * D)) + dl co G ≤ dl co m + 1 := by
        have a1 := dl_mul_le H (mo co 4 0) (qo co F G * D)
        have a2 := dl_c H (co := co) 4
        have a3 : dl co (I + mo co 4 0 * (qo co F G * D)) ≤ dl co m + 1 - dl co G := dl_add H (by omega) (by omega)
        omega
      refine ih G (rm co F G) D (I + mo co 4 0 * (qo co F G * D)) _ c9 t9 p2 (by omega) sp.2 (by omega) (by omega) l4 (by omega) (cp_rm H cp nG) (iv_s H h1 h2 nG) h1 x9 (by (repeat rw [uo_n (by omega)]) <;> exact uo_s) (by (repeat rw [uo_n (by omega)]) <;> exact uo_s) (by (repeat rw [uo_n (by omega)]) <;> exact uo_s) uo_s (fun r hr => ?_) n (by omega)
      (repeat rw [uo_n (by omega)])
      exact fr r hr
theorem x_invert {R : Type} [Lean.Grind.CommRing R] {co : R → Nat → Fin 5} (H : PL co) {M : Nat → Option R} {m a : R} {post : SX → Prop} (h : RX co a_c a_top M) (m2 : 2 ≤ dl co m) (m9 : dl co m ≤ 9) (h1 : M 41 = some a) (h2 : M 40 = some m) (la : dl co a < dl co m) (cp : Cp m a)
    (K : ∀ D M' c t pr, dl co D < dl co m → Dv m (D * a - 1) → RX co c t M' → M' 43 = some D → (∀ r, (r < 43 ∨ r = 44 ∨ 52 ≤ r) → M' r = M r) → post (f_count, f_place, f_operators, f_values, f_fault, f_found, f_factored, f_pieces, f_kernel, a_kind, a_with, c, t, pr, a_there, a_waiting, a_powers, a_matrix, a_basis)) : wpX_invert post (f_count, f_place, f_operators, f_values, f_fault, f_found, f_factored, f_pieces, f_kernel, a_kind, a_with, a_c, a_top, a_product, a_there, a_waiting, a_powers, a_matrix, a_basis) 41 40 := by
  unfold wpX_invert
  refine x_copy H (a := 40) (b := 45) h (by omega) (by omega) h2 (fun c1 t1 x1 => ?_)
  refine x_copy H (a := 41) (b := 46) x1 (by omega) (by omega) (by (repeat rw [uo_n (by omega)]) <;> exact h1) (fun c2 t2 x2 => ?_)
  refine x_only H (a := 48) (k := 0) (x := 0) x2 (by omega) (by omega) (by decide) (fun c3 t3 x3 => ?_)
  refine x_only H (a := 43) (k := 0) (x := 1) x3 (by omega) (by omega) (by decide) (fun c4 t4 x4 => ⟨10, ?_⟩)
  rw [mo_0 H, mo_1 H] at x4
  refine x_inv_l H (M0 := M) (a := a) m2 m9 h2 K 9 m a 0 1 _ c4 t4 a_product (by omega) la m2 m9 (by rw [dl_1 H]; omega) (by rw [dl_0 H]; omega) cp ⟨0, by grind⟩ ⟨-1, by grind⟩ x4 (by (repeat rw [uo_n (by omega)]) <;> exact uo_s) (by (repeat rw [uo_n (by omega)]) <;> exact uo_s) (by (repeat rw [uo_n (by omega)]) <;> exact uo_s) uo_s (fun r hr => (by (repeat rw [uo_n (by omega)]) <;> exact rfl)) 10 (by omega)
theorem x_fro_164 {R : Type} [Lean.Grind.CommRing R] {co : R → Nat → Fin 5} (H : PL co) {M0 : Nat → Option R} {g N : R} {e j k f : Nat} {post : Int32 → SX → Prop} (hf : 60 ≤ f) (hf' : f < 68) (hk : k < 9) (ng : g ≠ 0) (hg : M0 f = some g) (he : e < 100) (hje : j ≤ e)
    (K : ∀ E M c t, qit co g N (e - j) E → RX co c t M → (∀ r, r ≠ 44 → r ≠ 51 → M r = M0 r) → post (cI (co (rm co E g) k)) (f_count, f_place, f_operators, f_values, f_fault, f_found, f_factored, f_pieces, f_kernel, a_kind, a_with, c, t, a_product, a_there, a_waiting, a_powers, a_matrix, a_basis)) : ∀ d x E M c t, x = j + d → x ≤ e → qit co g N (e - x) E → RX co c t M → M 44 = some E → (∀ r, r ≠ 44 → r ≠ 51 → M r = M0 r) → ∀ n, d < n → wX_fractionOf_164 post (nI j) (nI k) (nI f) n (nI x) f_count f_place f_operators f_values f_fault f_found f_factored f_pieces f_kernel a_kind a_with c t a_product a_there a_waiting a_powers a_matrix a_basis := by
  intro d
  induction d with
  | zero =>
    intro x E M c t hx hxe hq h m44 fr n hn
    obtain ⟨n, rfl⟩ : ∃ k, n = k + 1 := ⟨n - 1, by omega⟩
    refine br_t (nI_le (by omega) (by omega)) ?_
    refine x_rest H (a := 44) h (by omega) (by omega) (by omega) (by omega) (by omega) m44 (by rw [fr f (by omega) (by omega)]; exact hg) ng (fun c1 t1 x1 => ?_)
    have e1 := (x1 44 (by omega) (rm co E g) (by (repeat rw [uo_n (by omega)]) <;> exact uo_s)).2.1 k (by omega)
    have ei : (1056 : Int32) + nI k = nI (24 * 44 + k) := nI_add 1056 k
    dsimp only
    rw [ei, nI_clamp (by omega), e1]
    refine ⟨vp_in_nI (by omega) (by omega), K E _ c1 t1 (by rw [show e - j = e - x by omega]; exact hq) x1 (fun r q1 q2 => ?_)⟩
    rw [uo_n q2, uo_n q1]; exact fr r q1 q2
  | succ d ih =>
    intro x E M c t hx hxe hq h m44 fr n hn
    obtain ⟨n, rfl⟩ : ∃ k, n = k + 1 := ⟨n - 1, by omega⟩
    obtain ⟨y, ey⟩ : ∃ y, x = y + 1 := ⟨x - 1, by omega⟩
    refine br_f (nI_ge (by omega) (by omega)) ?_
    refine x_exact H (a := 44) h (by omega) (by omega) (by omega) (by omega) (by omega) m44 (by rw [fr f (by omega) (by omega)]; exact hg) ng (fun c1 t1 x1 => ?_)
    refine nm_r (e' := nI y) (by rw [ey]; exact pk_m1 y) (ih y (qo co E g) _ c1 t1 (by omega) (by omega) ?_ x1 uo_s (fun r q1 q2 => ?_) n (by omega))
    · rw [show e - y = (e - x) + 1 by omega]
      exact ⟨E, hq, rfl⟩
    · rw [uo_n q1, uo_n q2]; exact fr r q1 q2
theorem x_fro_51 {R : Type} [Lean.Grind.CommRing R] {co : R → Nat → Fin 5} (H : PL co) {M0 : Nat → Option R} {p q g Q : R} {s i e j k : Nat} {post : Int32 → SX → Prop} (hs : s < 7) (hi : i < 8) (hk : k < 9) (g2 : 2 ≤ dl co g) (hg : M0 (60 + i) = some g) (hpw : a_powers i = nI e) (he1 : 1 ≤ e) (hj : 1 ≤ j) (hje : j ≤ e) (hq : q = Q * g ^ e) (nq : q ≠ 0) (q9 : dl co q ≤ 9) (p9 : dl co p ≤ 9) (h1 : M0 (2 * s) = some p) (h2 : M0 (2 * s + 1) = some q) (cp : Cp (g ^ e) Q)
    (K : ∀ c' M c t pr, Fa co p Q g e j c' → RX co c t M → (∀ r, (r < 40 ∨ 52 ≤ r) → M r = M0 r) → post (cI (co c' k)) (f_count, f_place, f_operators, f_values, f_fault, f_found, f_factored, f_pieces, f_kernel, a_kind, a_with, c, t, pr, a_there, a_waiting, a_powers, a_matrix, a_basis)) : ∀ d x M c t pr, x + d = e → RX co c t M → M 40 = some (g ^ x) → (∀ r, (r < 40 ∨ 52 ≤ r) → M r = M0 r) → ∀ n, d < n → wX_fractionOf_51 post (nI s) (nI i) (nI j) (nI k) (nI (60 + i)) n (nI x) f_count f_place f_operators f_values f_fault f_found f_factored f_pieces f_kernel a_kind a_with c t pr a_there a_waiting a_powers a_matrix a_basis := by
  have ng : g ≠ 0 := dl_nz H (by omega)
  have le := dl_pow H ng e
  have nQ : Q ≠ 0 := mul_l H (b := g ^ e) (by rw [← hq]; exact nq)
  have lq := dl_mul H nQ (pow_nz H ng e)
  rw [← hq] at lq
  have Q1 := dl_ne H nQ
  have k1 : e * 1 ≤ e * (dl co g - 1) := Nat.mul_le_mul_left _ (by omega)
  have e8 : e ≤ 8 := by omega
  have nG : g ^ e ≠ 0 := pow_nz H ng e
  intro d
  induction d with
  | zero =>
    intro x M c t pr hx h m40 fr n hn
    obtain ⟨n, rfl⟩ : ∃ k, n = k + 1 := ⟨n - 1, by omega⟩
    rw [show x = e by omega] at m40
    refine ⟨vp_in_nI hi (by omega), ?_⟩
    rw [nI_clamp (by omega), hpw]
    refine br_t (nI_le (by omega) (by omega)) ?_
    rw [tw_2, nI_1]
    refine x_copy H (b := 41) h (by omega) (by omega) (p := q) (by rw [fr _ (by omega)]; exact h2) (fun c1 t1 x1 => ?_)
    refine x_exact H (a := 41) (b := 40) x1 (by omega) (by omega) (by omega) (by omega) (by omega) uo_s (by (repeat rw [uo_n (by omega)]) <;> exact m40) nG (fun c2 t2 x2 => ?_)
    have qQ : qo co q (g ^ e) = Q := by rw [hq]; exact qo_mul H nG
    rw [qQ] at x2
    refine x_copy H (b := 42) x2 (by omega) (by omega) (p := p) (by (repeat rw [uo_n (by omega)]); rw [fr _ (by omega)]; exact h1) (fun c3 t3 x3 => ?_)
    refine x_rest H (a := 42) (b := 40) x3 (by omega) (by omega) (by omega) (by omega) (by omega) uo_s (by (repeat rw [uo_n (by omega)]) <;> exact m40) nG (fun c4 t4 x4 => ?_)
    refine x_rest H (a := 41) (b := 40) x4 (by omega) (by omega) (by omega) (by omega) (by omega) (by (repeat rw [uo_n (by omega)]) <;> exact uo_s) (by (repeat rw [uo_n (by omega)]) <;> exact m40) nG (fun c5 t5 x5 => ?_)
    have sQ := qr_spec H Q nG
    have sp := qr_spec H p nG
    have cQ : Cp (g ^ e) (rm co Q (g ^ e)) := cp_mod cp (rm_sub H Q nG)
    refine x_invert H (m := g ^ e) (a := rm co Q (g ^ e)) x5 (by omega) (by omega) (by (repeat rw [uo_n (by omega)]) <;> exact uo_s) (by (repeat rw [uo_n (by omega)]) <;> exact m40) sQ.2 cQ (fun D M6 c6 t6 p6 lD dD x6 m43 fr6 => ?_)
    refine x_multiply H (a := 42) (b := 43) (z := 44) x6 (by omega) (by omega) (by omega) (p := rm co p (g ^ e)) (by rw [fr6 42 (by omega)]; exact (by (repeat rw [uo_n (by omega)]) <;> exact uo_s)) m43 (by omega) (fun c7 t7 p7 x7 => ?_)
    refine x_rest H (a := 44) (b := 40) x7 (by omega) (by omega) (by omega) (by omega) (by omega) uo_s (q := g ^ e) (by rw [uo_n (by omega), fr6 40 (by omega)]; exact (by (repeat rw [uo_n (by omega)]) <;> exact m40)) nG (fun c8 t8 x8 => ?_)
    have fr8 : ∀ r, (r < 40 ∨ 52 ≤ r) → uo (uo (uo M6 44 (rm co p (g ^ e) * D)) 44 (rm co (rm co p (g ^ e) * D) (g ^ e))) 51 (qo co (rm co p (g ^ e) * D) (g ^ e)) r = M0 r := fun r hr => by
      (repeat rw [uo_n (by omega)])
      rw [fr6 r (by omega)]
      (repeat rw [uo_n (by omega)])
      exact fr r hr
    dsimp only
    rw [hpw]
    refine ⟨vp_in_nI hi (by omega), nm_e ⟨10, ?_⟩⟩
    have sN := qr_spec H (rm co p (g ^ e) * D) nG
    refine x_fro_164 H (M0 := uo (uo (uo M6 44 (rm co p (g ^ e) * D)) 44 (rm co (rm co p (g ^ e) * D) (g ^ e))) 51 (qo co (rm co p (g ^ e) * D) (g ^ e))) (N := rm co (rm co p (g ^ e) * D) (g ^ e)) (f := 60 + i) (e := e) (by omega) (by omega) hk ng (by rw [fr8 _ (by omega)]; exact hg) (by omega) hje (fun E M9 c9 t9 hq9 x9 fr9 => K (rm co E g) M9 c9 t9 _ ⟨_, E, ⟨sN.2, ?_⟩, hq9, rfl⟩ x9 (fun r hr => by rw [fr9 r (by omega) (by omega)]; exact fr8 r hr)) (e - j) e _ _ c8 t8 (by omega) (Nat.le_refl _) (by rw [Nat.sub_self]; rfl) x8 (by (repeat rw [uo_n (by omega)]) <;> exact uo_s) (fun r _ _ => rfl) 10 (by omega)
    · have d1 := rm_sub H (rm co p (g ^ e) * D) nG
      have d2 := rm_sub H p nG
      have d3 := rm_sub H Q nG
      generalize rm co (rm co p (g ^ e) * D) (g ^ e) = N' at *
      generalize rm co p (g ^ e) = p' at *
      generalize rm co Q (g ^ e) = Q' at *
      generalize g ^ e = G at *
      have t1 := dv_neg (dv_mulr Q d1)
      have t2 := dv_mul p' (dv_mul D d3)
      have t3 := dv_mul p' dD
      have t4 := dv_neg d2
      have := dv_add (dv_add t1 t2) (dv_add t3 t4)
      rw [show -((p' * D - N') * Q) + p' * (D * (Q - Q')) + (p' * (D * Q' - 1) + -(p - p')) = N' * Q - p by grind] at this
      exact this
  | succ d ih =>
    intro x M c t pr hx h m40 fr n hn
    obtain ⟨n, rfl⟩ : ∃ k, n = k + 1 := ⟨n - 1, by omega⟩
    refine ⟨vp_in_nI hi (by omega), ?_⟩
    rw [nI_clamp (by omega), hpw]
    refine br_f (nI_ge (by omega) (by omega)) ?_
    have gi : M (60 + i) = some g := by rw [fr _ (by omega)]; exact hg
    have lx := dl_pow H ng x
    have k2 : x * (dl co g - 1) ≤ e * (dl co g - 1) := Nat.mul_le_mul_right _ (by omega)
    have lg : 1 * (dl co g - 1) ≤ e * (dl co g - 1) := Nat.mul_le_mul_right _ (by omega)
    refine x_multiply H (a := 40) (z := 41) h (by omega) (by omega) (by omega) m40 gi (by omega) (fun c1 t1 p1 x1 => ?_)
    refine x_copy H (a := 41) (b := 40) x1 (by omega) (by omega) uo_s (fun c2 t2 x2 => ?_)
    refine nm_r (nI_1 x) (ih (x + 1) _ c2 t2 p1 (by omega) x2 (by rw [Lean.Grind.Semiring.pow_succ]; exact uo_s) (fun r hr => ?_) n (by omega))
    rw [uo_n (by omega), uo_n (by omega)]; exact fr r hr
end
end
section
/-! partial fractions in the reference -/
theorem ix9 (a k : Nat) : 9 * nI a + nI k = nI (9 * a + k) := by
  rw [show (9 : Int32) = nI 9 from rfl, pk_mul, nI_add]
theorem in9 {a k : Nat} (ha : a < 9) (hk : k < 9) : vp_in (9 * nI a + nI k) 90 := by
  rw [ix9]; exact vp_in_nI (by omega) (by omega)
theorem cl9 {a k : Nat} (ha : a < 9) (hk : k < 9) : (9 * nI a + nI k).toNatClampNeg = 9 * a + k := by
  rw [ix9]; exact nI_clamp (by omega)
def TB (tb : Nat → Int32) (N : Nat) (T : Nat → Nat → Fin 5) : Prop := ∀ r c, r < N → c < N + 1 → tb (9 * r + c) = cI (T r c)
theorem tb_up {tb : Nat → Int32} {N : Nat} {T : Nat → Nat → Fin 5} {r i : Nat} {x : Fin 5} (hn : N ≤ 8) (hi : i < 9) (h : TB tb N T) : TB (upd tb (9 * r + i) (cI x)) N (fun a b => if a = r ∧ b = i then x else T a b) := by
  intro a b ha hb
  show upd tb (9 * r + i) (cI x) (9 * a + b) = cI (if a = r ∧ b = i then x else T a b)
  by_cases c : a = r ∧ b = i
  · rw [if_pos c, c.1, c.2]; exact pk_us
  · rw [if_neg c, pk_un (by omega)]; exact h a b ha hb
theorem tb_congr {tb : Nat → Int32} {N : Nat} {T T' : Nat → Nat → Fin 5} (e : ∀ r i, r < N → i < N + 1 → T r i = T' r i) (h : TB tb N T) : TB tb N T' := fun r i hr hi => by
  rw [← e r i hr hi]; exact h r i hr hi
section
variable {f_count f_place f_opens f_top f_fault f_faultAt f_dry f_found : Int32} {a_c a_there a_kind a_num a_open a_openAt a_power a_table : Nat → Int32}
theorem y_clr_l {T : Nat → Nat → Fin 5} {N r q : Nat} {post : SY → Prop} (hN : N ≤ 8) (hr : r < N) (hq : q < N) (hne : q ≠ r)
    (K : ∀ tb, TB tb N (fun a b => if a = q then T q b - T q r * T r b else T a b) → post (f_count, f_place, f_opens, f_top, f_fault, f_faultAt, f_dry, f_found, a_c, a_there, a_kind, a_num, a_open, a_openAt, a_power, tb)) : ∀ d k tb, k + d = N + 1 → TB tb N (fun a b => if a = q ∧ b < k then T q b - T q r * T r b else T a b) → ∀ u, d < u → wY_clearRow_16 post (nI q) (nI r) (nI N) (cI (T q r)) f_count f_place f_opens f_top f_fault f_faultAt f_dry f_found u (nI k) a_c a_there a_kind a_num a_open a_openAt a_power tb := by
  intro d
  induction d with
  | zero =>
    intro k tb hk hT u hu
    obtain ⟨u, rfl⟩ : ∃ k, u = k + 1 := ⟨u - 1, by omega⟩
    refine br_t (nI_lt (by omega) (by omega)) (K tb (tb_congr (fun a b ha hb => ?_) hT))
    by_cases c : a = q
    · rw [if_pos c, if_pos ⟨c, by omega⟩]
    · rw [if_neg c, if_neg (fun z => c z.1)]
  | succ d ih =>
    intro k tb hk hT u hu
    obtain ⟨u, rfl⟩ : ∃ k, u = k + 1 := ⟨u - 1, by omega⟩
    have e1 := hT q k hq (by omega)
    have e2 := hT r k hr (by omega)
    dsimp only at e1 e2
    rw [if_neg (by omega)] at e1
    rw [if_neg (by omega)] at e2
    refine br_f (nI_nlt (by omega) (by omega)) ⟨in9 (by omega) (by omega), in9 (by omega) (by omega), y_mod ?_⟩
    rw [cl9 (by omega) (by omega), cl9 (by omega) (by omega), e1, e2, c_subm]
    refine ⟨in9 (by omega) (by omega), nm_e (nm_r (nI_1 k) (ih (k + 1) _ (by omega) (tb_congr (fun a b ha hb => ?_) (tb_up (x := T q k - T q r * T r k) (r := q) (i := k) hN (by omega) hT)) u (by omega)))⟩
    show (if a = q ∧ b = k then T q k - T q r * T r k else if a = q ∧ b < k then T q b - T q r * T r b else T a b) = if a = q ∧ b < k + 1 then T q b - T q r * T r b else T a b
    by_cases c : a = q ∧ b = k
    · rw [if_pos c, if_pos (by omega), c.2]
    · rw [if_neg c]
      by_cases c2 : a = q ∧ b < k
      · rw [if_pos c2, if_pos (by omega)]
      · rw [if_neg c2, if_neg (by omega)]
theorem y_sol_160 {T : Nat → Nat → Fin 5} {N r : Nat} {post : SY → Prop} {J : Int32 → Int32 → Int32 → Int32 → Int32 → Int32 → Int32 → Int32 → Int32 → (Nat → Int32) → (Nat → Int32) → (Nat → Int32) → (Nat → Int32) → (Nat → Int32) → (Nat → Int32) → (Nat → Int32) → (Nat → Int32) → Prop} (hN : N ≤ 8) (hr : r < N)
    (K : ∀ tb, TB tb N (cln T r r) → J (nI (r + 1)) f_count f_place f_opens f_top f_fault f_faultAt f_dry f_found a_c a_there a_kind a_num a_open a_openAt a_power tb) : ∀ d q tb, q + d = N → TB tb N (fun a b => if a = r ∨ a < q then cln T r r a b else T a b) → ∀ u, d < u → wY_solve_160 post J (nI N) (nI r) u (nI q) f_count f_place f_opens f_top f_fault f_faultAt f_dry f_found a_c a_there a_kind a_num a_open a_openAt a_power tb := by
  intro d
  induction d with
  | zero =>
    intro q tb hq hT u hu
    obtain ⟨u, rfl⟩ : ∃ k, u = k + 1 := ⟨u - 1, by omega⟩
    exact br_t (nI_le (by omega) (by omega)) (nm_r (nI_1 r) (K tb (tb_congr (fun a b ha hb => by rw [if_pos (by omega)]) hT)))
  | succ d ih =>
    intro q tb hq hT u hu
    obtain ⟨u, rfl⟩ : ∃ k, u = k + 1 := ⟨u - 1, by omega⟩
    refine br_f (nI_ge (by omega) (by omega)) ?_
    by_cases c : q = r
    · refine br_t (by rw [c]) (nm_r (nI_1 q) (ih (q + 1) tb (by omega) (tb_congr (fun a b ha hb => ?_) hT) u (by omega)))
      by_cases c2 : a = r ∨ a < q
      · rw [if_pos c2, if_pos (by omega)]
      · rw [if_neg c2, if_neg (by omega)]
    · refine br_f (by rw [nI_eq (by omega) (by omega)]; exact c) ?_
      unfold wpY_clearRow
      have e1 := hT q r (by omega) (by omega)
      dsimp only at e1
      rw [if_neg (by omega)] at e1
      refine ⟨in9 (by omega) (by omega), ?_⟩
      rw [cl9 (by omega) (by omega), e1]
      refine nm_e ⟨10, ?_⟩
      have := y_clr_l (T := fun a b => if a = r ∨ a < q then cln T r r a b else T a b) (q := q) hN hr (by omega) c (post := fun u' => match u' with | (z_f_count, z_f_place, z_f_opens, z_f_top, z_f_fault, z_f_faultAt, z_f_dry, z_f_found, z_a_c, z_a_there, z_a_kind, z_a_num, z_a_open, z_a_openAt, z_a_power, z_a_table) => (∀ (x5_29 : Int32), x5_29 = nI q + 1 → wY_solve_160 post J (nI N) (nI r) u x5_29 z_f_count z_f_place z_f_opens z_f_top z_f_fault z_f_faultAt z_f_dry z_f_found z_a_c z_a_there z_a_kind z_a_num z_a_open z_a_openAt z_a_power z_a_table)) (f_count := f_count) (f_place := f_place) (f_opens := f_opens) (f_top := f_top) (f_fault := f_fault) (f_faultAt := f_faultAt) (f_dry := f_dry) (f_found := f_found) (a_c := a_c) (a_there := a_there) (a_kind := a_kind) (a_num := a_num) (a_open := a_open) (a_openAt := a_openAt) (a_power := a_power) (fun tb' hT' => ?_) (N + 1) 0 tb (by omega) (tb_congr (fun a b ha hb => (if_neg (by omega)).symm) hT) 10 (by omega)
      · dsimp only at this
        rw [if_neg (by omega)] at this
        exact this
      · refine nm_r (nI_1 q) (ih (q + 1) tb' (by omega) (tb_congr (fun a b ha hb => ?_) hT') u (by omega))
        show (if a = q then (if q = r ∨ q < q then cln T r r q b else T q b) - (if q = r ∨ q < q then cln T r r q r else T q r) * (if r = r ∨ r < q then cln T r r r b else T r b) else if a = r ∨ a < q then cln T r r a b else T a b) = if a = r ∨ a < q + 1 then cln T r r a b else T a b
        by_cases c2 : a = q
        · rw [if_pos c2, if_neg (by omega), if_neg (by omega), if_pos (by omega), if_pos (by omega), c2]
          unfold cln
          rw [if_pos rfl, if_neg c]
        · rw [if_neg c2]
          by_cases c3 : a = r ∨ a < q
          · rw [if_pos c3, if_pos (by omega)]
          · rw [if_neg c3, if_neg (by omega)]
theorem y_sol_115 {T : Nat → Nat → Fin 5} {N r : Nat} {post : SY → Prop} {J : Int32 → Int32 → Int32 → Int32 → Int32 → Int32 → Int32 → Int32 → Int32 → (Nat → Int32) → (Nat → Int32) → (Nat → Int32) → (Nat → Int32) → (Nat → Int32) → (Nat → Int32) → (Nat → Int32) → (Nat → Int32) → Prop} (hN : N ≤ 8) (hr : r < N)
    (K : ∀ tb, TB tb N (cln T r r) → J (nI (r + 1)) f_count f_place f_opens f_top f_fault f_faultAt f_dry f_found a_c a_there a_kind a_num a_open a_openAt a_power tb) : ∀ d k tb, k + d = N + 1 → TB tb N (fun a b => if a = r ∧ b < k then cln T r r a b else T a b) → ∀ u, d < u → wY_solve_115 post J (nI N) (nI r) (cI (T r r * T r r * T r r)) f_count f_place f_opens f_top f_fault f_faultAt f_dry f_found u (nI k) a_c a_there a_kind a_num a_open a_openAt a_power tb := by
  intro d
  induction d with
  | zero =>
    intro k tb hk hT u hu
    obtain ⟨u, rfl⟩ : ∃ k, u = k + 1 := ⟨u - 1, by omega⟩
    refine br_t (nI_lt (by omega) (by omega)) ⟨9, ?_⟩
    refine y_sol_160 hN hr K N 0 tb (by omega) (tb_congr (fun a b ha hb => ?_) hT) 9 (by omega)
    by_cases c : a = r
    · rw [if_pos ⟨c, by omega⟩, if_pos (Or.inl c)]
    · rw [if_neg (fun z => c z.1), if_neg (by omega)]
  | succ d ih =>
    intro k tb hk hT u hu
    obtain ⟨u, rfl⟩ : ∃ k, u = k + 1 := ⟨u - 1, by omega⟩
    have e1 := hT r k hr (by omega)
    dsimp only at e1
    rw [if_neg (by omega)] at e1
    have ec : T r k * (T r r * T r r * T r r) = cln T r r r k := by unfold cln; rw [if_pos rfl]
    refine br_f (nI_nlt (by omega) (by omega)) ⟨in9 (by omega) (by omega), y_mod ?_⟩
    rw [cl9 (by omega) (by omega), e1, c_mulm, ec]
    refine ⟨in9 (by omega) (by omega), nm_e (nm_r (nI_1 k) (ih (k + 1) _ (by omega) (tb_congr (fun a b ha hb => ?_) (tb_up (x := cln T r r r k) (r := r) (i := k) hN (by omega) hT)) u (by omega)))⟩
    show (if a = r ∧ b = k then cln T r r r k else if a = r ∧ b < k then cln T r r a b else T a b) = if a = r ∧ b < k + 1 then cln T r r a b else T a b
    by_cases c : a = r ∧ b = k
    · rw [if_pos c, if_pos (by omega), c.1, c.2]
    · rw [if_neg c]
      by_cases c2 : a = r ∧ b < k
      · rw [if_pos c2, if_pos (by omega)]
      · rw [if_neg c2, if_neg (by omega)]
theorem y_sol_32 {T : Nat → Nat → Fin 5} {N r p : Nat} {post : SY → Prop} {J : Int32 → Int32 → Int32 → Int32 → Int32 → Int32 → Int32 → Int32 → Int32 → (Nat → Int32) → (Nat → Int32) → (Nat → Int32) → (Nat → Int32) → (Nat → Int32) → (Nat → Int32) → (Nat → Int32) → (Nat → Int32) → Prop} (hN : N ≤ 8) (hr : r < N) (hp : p < N)
    (K : ∀ tb, TB tb N (cln (xch T p r) r r) → J (nI (r + 1)) f_count f_place f_opens f_top f_fault f_faultAt f_dry f_found a_c a_there a_kind a_num a_open a_openAt a_power tb) : ∀ d k tb, k + d = N + 1 → TB tb N (fun a b => if b < k then xch T p r a b else T a b) → ∀ u, d < u → wY_solve_32 post J (nI N) (nI r) (nI p) f_count f_place f_opens f_top f_fault f_faultAt f_dry f_found u (nI k) a_c a_there a_kind a_num a_open a_openAt a_power tb := by
  intro d
  induction d with
  | zero =>
    intro k tb hk hT u hu
    obtain ⟨u, rfl⟩ : ∃ k, u = k + 1 := ⟨u - 1, by omega⟩
    have hT' : TB tb N (xch T p r) := tb_congr (fun a b ha hb => by rw [if_pos (by omega)]) hT
    refine br_t (nI_lt (by omega) (by omega)) ⟨in9 (by omega) (by omega), ?_⟩
    rw [cl9 (by omega) (by omega), hT' r r hr (by omega)]
    refine y_inverse ⟨10, ?_⟩
    exact y_sol_115 hN hr K (N + 1) 0 tb (by omega) (tb_congr (fun a b ha hb => by rw [if_neg (by omega)]) hT') 10 (by omega)
  | succ d ih =>
    intro k tb hk hT u hu
    obtain ⟨u, rfl⟩ : ∃ k, u = k + 1 := ⟨u - 1, by omega⟩
    have e1 := hT p k hp (by omega)
    have e2 := hT r k hr (by omega)
    dsimp only at e1 e2
    rw [if_neg (by omega)] at e1 e2
    refine br_f (nI_nlt (by omega) (by omega)) ⟨in9 (by omega) (by omega), nm_e ⟨in9 (by omega) (by omega), in9 (by omega) (by omega), ?_⟩⟩
    rw [cl9 (by omega) (by omega), cl9 (by omega) (by omega), e1, e2]
    refine nm_e ⟨in9 (by omega) (by omega), nm_e (nm_r (nI_1 k) (ih (k + 1) _ (by omega) (tb_congr (fun a b ha hb => ?_) (tb_up (x := T p k) (r := r) (i := k) hN (by omega) (tb_up (x := T r k) (r := p) (i := k) hN (by omega) hT))) u (by omega)))⟩
    show (if a = r ∧ b = k then T p k else if a = p ∧ b = k then T r k else if b < k then xch T p r a b else T a b) = if b < k + 1 then xch T p r a b else T a b
    by_cases q : b = k
    · rw [if_pos (by omega : b < k + 1)]
      unfold xch
      by_cases q1 : a = r
      · rw [if_pos ⟨q1, q⟩, if_pos q1, q]
      · rw [if_neg (fun w => q1 w.1), if_neg q1]
        by_cases q2 : a = p
        · rw [if_pos ⟨q2, q⟩, if_pos q2, q]
        · rw [if_neg (fun w => q2 w.1), if_neg q2, if_neg (by omega)]
    · rw [if_neg (fun w => q w.2), if_neg (fun w => q w.2)]
      by_cases q3 : b < k
      · rw [if_pos q3, if_pos (by omega)]
      · rw [if_neg q3, if_neg (by omega)]
theorem y_sol_2 {T0 : Nat → Nat → Fin 5} {N : Nat} {post : SY → Prop} (hN : N ≤ 8) (ns : ∀ v, Ke N N T0 v → ∀ c, c < N → v c = 0)
    (K : ∀ T tb, Gj N T0 T N → TB tb N T → post (f_count, f_place, f_opens, f_top, f_fault, f_faultAt, f_dry, f_found, a_c, a_there, a_kind, a_num, a_open, a_openAt, a_power, tb)) : ∀ d r T tb, r + d = N → Gj N T0 T r → TB tb N T → ∀ u, d < u → wY_solve_2 post (nI N) u (nI r) f_count f_place f_opens f_top f_fault f_faultAt f_dry f_found a_c a_there a_kind a_num a_open a_openAt a_power tb := by
  intro d
  induction d with
  | zero =>
    intro r T tb hr hG hT u hu
    obtain ⟨u, rfl⟩ : ∃ k, u = k + 1 := ⟨u - 1, by omega⟩
    rw [show r = N by omega] at hG
    exact br_t (nI_le (by omega) (by omega)) (K T tb hG hT)
  | succ d ih =>
    intro r T tb hr hG hT u hu
    obtain ⟨u, rfl⟩ : ∃ k, u = k + 1 := ⟨u - 1, by omega⟩
    refine br_f (nI_ge (by omega) (by omega)) ?_
    obtain ⟨p, hp1, hp2, hp3⟩ := gj_pv (by omega) hG ns
    have search : ∀ s x, x + s = p → r ≤ x → ∀ m, s < m → wY_solve_9 post (wY_solve_2 post (nI N) u) (nI N) (nI r) f_count f_place f_opens f_top f_fault f_faultAt f_dry f_found a_c a_there a_kind a_num a_open a_openAt a_power tb m (nI x) := by
      have found : ∀ x m, r ≤ x → x < N → T x r ≠ 0 → wY_solve_9 post (wY_solve_2 post (nI N) u) (nI N) (nI r) f_count f_place f_opens f_top f_fault f_faultAt f_dry f_found a_c a_there a_kind a_num a_open a_openAt a_power tb (m + 1) (nI x) := by
        intro x m h1 h2 h3
        refine ⟨in9 (by omega) (by omega), ?_⟩
        rw [cl9 (by omega) (by omega), hT x r h2 (by omega)]
        refine br_f (fun z => h3 ((c_0 _).mp z)) ⟨10, ?_⟩
        exact y_sol_32 hN (by omega) h2 (fun tb' hT' => ih (r + 1) _ tb' (by omega) (gj_s (by omega) hG h1 h2 h3) hT' u (by omega)) (N + 1) 0 tb (by omega) (tb_congr (fun a b ha hb => by rw [if_neg (by omega)]) hT) 10 (by omega)
      intro s
      induction s with
      | zero =>
        intro x hx hrx m hm
        obtain ⟨m, rfl⟩ : ∃ k, m = k + 1 := ⟨m - 1, by omega⟩
        rw [show x = p by omega]
        exact found p m hp1 hp2 hp3
      | succ s ihs =>
        intro x hx hrx m hm
        obtain ⟨m, rfl⟩ : ∃ k, m = k + 1 := ⟨m - 1, by omega⟩
        by_cases z : T x r = 0
        · refine ⟨in9 (by omega) (by omega), ?_⟩
          rw [cl9 (by omega) (by omega), hT x r (by omega) (by omega)]
          exact br_t (by rw [z]; rfl) (nm_r (nI_1 x) (ihs (x + 1) (by omega) (by omega) m (by omega)))
        · exact found x m hrx (by omega) z
    exact ⟨9, search (p - r) r (by omega) (Nat.le_refl _) 9 (by omega)⟩
theorem y_solve {T : Nat → Nat → Fin 5} {N : Nat} {post : SY → Prop} (hN : N ≤ 8) (ns : ∀ v, Ke N N T v → ∀ c, c < N → v c = 0) (hT : TB a_table N T)
    (K : ∀ T' tb, Gj N T T' N → TB tb N T' → post (f_count, f_place, f_opens, f_top, f_fault, f_faultAt, f_dry, f_found, a_c, a_there, a_kind, a_num, a_open, a_openAt, a_power, tb)) : wpY_solve post (f_count, f_place, f_opens, f_top, f_fault, f_faultAt, f_dry, f_found, a_c, a_there, a_kind, a_num, a_open, a_openAt, a_power, a_table) (nI N) := by
  unfold wpY_solve
  exact ⟨9, y_sol_2 hN ns K N 0 T a_table (by omega) (gj_0 N T) hT 9 (by omega)⟩
theorem y_col_47 {R : Type} [Lean.Grind.CommRing R] {co : R → Nat → Fin 5} (H : PL co) {P : R} {e col : Nat} {post : SY → Prop} (he : e < 9) (hcol : col < 9) (hc : ∀ k, k < 20 → a_c (20 * 84 + k) = cI (co P k))
    (K : ∀ tb, (∀ k, k < 9 → tb (9 * k + col) = cI (co (mo co 1 e * P) k)) → (∀ k c, c < 9 → c ≠ col → tb (9 * k + c) = a_table (9 * k + c)) → post (f_count, f_place, f_opens, f_top, f_fault, f_faultAt, f_dry, f_found, a_c, a_there, a_kind, a_num, a_open, a_openAt, a_power, tb)) : ∀ d x tb, x + d = 9 → (∀ k, k < x → tb (9 * k + col) = cI (co (mo co 1 e * P) k)) → (∀ k c, c < 9 → c ≠ col → tb (9 * k + c) = a_table (9 * k + c)) → ∀ u, d < u → wY_column_47 post (nI e) (nI col) f_count f_place f_opens f_top f_fault f_faultAt f_dry f_found u (nI x) a_c a_there a_kind a_num a_open a_openAt a_power tb := by
  intro d
  induction d with
  | zero =>
    intro x tb hx h1 h2 u hu
    obtain ⟨u, rfl⟩ : ∃ k, u = k + 1 := ⟨u - 1, by omega⟩
    exact br_t (nI_le (a := 9) (by omega) (by omega)) (K tb (fun k hk => h1 k (by omega)) h2)
  | succ d ih =>
    intro x tb hx h1 h2 u hu
    obtain ⟨u, rfl⟩ : ∃ k, u = k + 1 := ⟨u - 1, by omega⟩
    refine br_f (nI_ge (b := 9) (by omega) (by decide)) ?_
    have fin : ∀ y : Fin 5, y = co (mo co 1 e * P) x → wY_column_47 post (nI e) (nI col) f_count f_place f_opens f_top f_fault f_faultAt f_dry f_found u (nI (x + 1)) a_c a_there a_kind a_num a_open a_openAt a_power (upd tb (9 * x + col) (cI y)) := by
      intro y ey
      refine ih (x + 1) _ (by omega) (fun k hk => ?_) (fun k c hc1 hc2 => ?_) u (by omega)
      · by_cases q : k = x
        · rw [q, pk_us, ey]
        · rw [pk_un (by omega)]; exact h1 k (by omega)
      · rw [pk_un (by omega)]; exact h2 k c hc1 hc2
    by_cases c : e ≤ x
    · have ei : (1680 : Int32) + nI x - nI e = nI (20 * 84 + (x - e)) := by
        rw [show (1680 : Int32) = nI 1680 from rfl, nI_add, pk_sub (by omega)]
        congr 1
        omega
      refine br_t (nI_le c (by omega)) ?_
      rw [ei, nI_clamp (by omega), hc (x - e) (by omega), cl9 (by omega) hcol]
      refine ⟨vp_in_nI (by omega) (by omega), in9 (by omega) hcol, nm_e (nm_r (nI_1 x) (fin _ ?_))⟩
      rw [co_mo H, if_pos c, f5_1m]
    · refine br_f (nI_ge (by omega) (by omega)) ⟨in9 (by omega) hcol, nm_r (e' := upd tb (9 * x + col) (cI 0)) (by rw [cl9 (by omega) hcol]; rfl) (nm_r (nI_1 x) (fin _ ?_))⟩
      rw [co_mo H, if_neg c]
theorem y_column {R : Type} [Lean.Grind.CommRing R] {co : R → Nat → Fin 5} (H : PL co) {M : Nat → Option R} {q Q g : R} {r0 i L E e col : Nat} {post : SY → Prop} (h : RY co a_c M) (hr0 : r0 < 70) (hi : i < 8) (he : e < 9) (hcol : col < 9) (h1 : M r0 = some q) (h2 : M (72 + i) = some g) (ng : g ≠ 0) (hq : q = Q * g ^ E) (hL : L ≤ E) (hL20 : L < 100)
    (K : ∀ M' c tb, RY co c M' → (∀ r, r ≠ 81 → r ≠ 84 → r ≠ 85 → M' r = M r) → (∀ k, k < 9 → tb (9 * k + col) = cI (co (mo co 1 e * qo co q (g ^ L)) k)) → (∀ k c, c < 9 → c ≠ col → tb (9 * k + c) = a_table (9 * k + c)) → post (f_count, f_place, f_opens, f_top, f_fault, f_faultAt, f_dry, f_found, c, a_there, a_kind, a_num, a_open, a_openAt, a_power, tb)) : wpY_column post (f_count, f_place, f_opens, f_top, f_fault, f_faultAt, f_dry, f_found, a_c, a_there, a_kind, a_num, a_open, a_openAt, a_power, a_table) (nI r0) (nI i) (nI L) (nI e) (nI col) := by
  unfold wpY_column
  have qp : ∀ l, l ≤ E → qo co q (g ^ l) = Q * g ^ (E - l) := by
    intro l hl
    have : q = (Q * g ^ (E - l)) * g ^ l := by
      rw [hq]
      have p : g ^ E = g ^ (E - l) * g ^ l := by
        rw [← Lean.Grind.Semiring.pow_add]
        congr 1
        omega
      rw [p]; grind
    conv => lhs; rw [this]
    exact qo_mul H (pow_nz H ng l)
  refine y_copy H (b := 84) h (by omega) (by omega) h1 (fun c1 x1 => ⟨L + 1, ?_⟩)
  have loop : ∀ d l M1 c1, l + d = L → RY co c1 M1 → M1 84 = some (qo co q (g ^ l)) → (∀ r, r ≠ 81 → r ≠ 84 → r ≠ 85 → M1 r = M r) → ∀ u, d < u → wY_column_10 post (nI i) (nI L) (nI e) (nI col) u (nI l) f_count f_place f_opens f_top f_fault f_faultAt f_dry f_found c1 a_there a_kind a_num a_open a_openAt a_power a_table := by
    intro d
    induction d with
    | zero =>
      intro l M1 c1 hl x1 m84 fr u hu
      obtain ⟨u, rfl⟩ : ∃ k, u = k + 1 := ⟨u - 1, by omega⟩
      rw [show l = L by omega] at m84
      refine br_t (nI_le (by omega) (by omega)) ⟨10, ?_⟩
      exact y_col_47 H he hcol (x1 84 (by omega) _ m84).2 (fun tb t1 t2 => K M1 c1 tb x1 fr t1 t2) 9 0 a_table (by omega) (fun k hk => absurd hk (Nat.not_lt_zero k)) (fun _ _ _ _ => rfl) 10 (by omega)
    | succ d ih =>
      intro l M1 c1 hl x1 m84 fr u hu
      obtain ⟨u, rfl⟩ : ∃ k, u = k + 1 := ⟨u - 1, by omega⟩
      refine br_f (nI_ge (by omega) (by omega)) ?_
      rw [show (72 : Int32) + nI i = nI (72 + i) from nI_add 72 i]
      refine y_divide H (a := 84) (y := 85) (z := 81) x1 (by omega) (by omega) (by omega) (by omega) (by omega) (by omega) (by omega) m84 (by rw [fr _ (by omega) (by omega) (by omega)]; exact h2) ng (fun c2 x2 => ?_)
      refine y_copy H (a := 85) (b := 84) x2 (by omega) (by omega) (by (repeat rw [uo_n (by omega)]) <;> exact uo_s) (fun c3 x3 => ?_)
      refine nm_r (nI_1 l) (ih (l + 1) _ c3 (by omega) x3 ?_ (fun r q1 q2 q3 => ?_) u (by omega))
      · rw [uo_s, qp l (by omega), qp (l + 1) (by omega)]
        congr 1
        have : g ^ (E - l) = g ^ (E - (l + 1)) * g := by
          rw [← Lean.Grind.Semiring.pow_succ]
          congr 1
          omega
        rw [this, show Q * (g ^ (E - (l + 1)) * g) = (Q * g ^ (E - (l + 1))) * g by grind]
        exact qo_mul H ng
      · (repeat rw [uo_n (by omega)])
        exact fr r q1 q2 q3
  refine loop L 0 _ c1 (by omega) x1 ?_ (fun r q1 q2 q3 => uo_n q2) (L + 1) (by omega)
  rw [uo_s, qp 0 (by omega), Nat.sub_zero, ← hq]
end
end
section
/-! the reference's system of equations -/
noncomputable def ple {R : Type} (co : R → Nat → Fin 5) (g : Nat → R) (e : Nat → Nat) (a : Nat) : Nat := e a * (dl co (g a) - 1)
theorem pof_s {R : Type} {co : R → Nat → Fin 5} (g : Nat → R) (e : Nat → Nat) (a : Nat) : pof co g e (a + 1) = pof co g e a + ple co g e a := rfl
theorem pof_mono {R : Type} {co : R → Nat → Fin 5} (g : Nat → R) (e : Nat → Nat) {a b : Nat} (h : a ≤ b) : pof co g e a ≤ pof co g e b := by
  induction b with
  | zero => rw [show a = 0 by omega]; exact Nat.le_refl _
  | succ b ih =>
    by_cases c : a = b + 1
    · rw [c]; exact Nat.le_refl _
    · have := ih (by omega)
      rw [pof_s]
      omega
theorem pof_inj {R : Type} {co : R → Nat → Fin 5} {g : Nat → R} {e : Nat → Nat} {a b a' b' : Nat} (h : b < ple co g e a) (h' : b' < ple co g e a') (q : pof co g e a + b = pof co g e a' + b') : a = a' ∧ b = b' := by
  have e1 : a = a' := by
    rcases Nat.lt_trichotomy a a' with c | c | c
    · have := pof_mono (co := co) g e (show a + 1 ≤ a' from c)
      rw [pof_s] at this
      omega
    · exact c
    · have := pof_mono (co := co) g e (show a' + 1 ≤ a from c)
      rw [pof_s] at this
      omega
  rw [e1] at q
  exact ⟨e1, by omega⟩
theorem pof_sur {R : Type} {co : R → Nat → Fin 5} (g : Nat → R) (e : Nat → Nat) : ∀ n c, c < pof co g e n → ∃ a b, a < n ∧ b < ple co g e a ∧ c = pof co g e a + b := by
  intro n
  induction n with
  | zero => intro c hc; exact absurd hc (Nat.not_lt_zero c)
  | succ n ih =>
    intro c hc
    rw [pof_s] at hc
    by_cases q : c < pof co g e n
    · obtain ⟨a, b, h1, h2, h3⟩ := ih c q
      exact ⟨a, b, by omega, h2, h3⟩
    · exact ⟨n, c - pof co g e n, by omega, by omega, by omega⟩
noncomputable def colp {R : Type} [Lean.Grind.CommRing R] (co : R → Nat → Fin 5) (q : R) (g : Nat → R) (e : Nat → Nat) (c : Nat) : R := @Classical.epsilon R ⟨0⟩ (fun x => ∃ a b, b < ple co g e a ∧ c = pof co g e a + b ∧ x = pcl co q g a b)
theorem colp_e {R : Type} [Lean.Grind.CommRing R] {co : R → Nat → Fin 5} (q : R) {g : Nat → R} {e : Nat → Nat} {a b : Nat} (hb : b < ple co g e a) : colp co q g e (pof co g e a + b) = pcl co q g a b := by
  obtain ⟨a', b', h1, h2, h3⟩ := @Classical.epsilon_spec_aux R ⟨0⟩ (fun x => ∃ a' b', b' < ple co g e a' ∧ pof co g e a + b = pof co g e a' + b' ∧ x = pcl co q g a' b') ⟨pcl co q g a b, a, b, hb, rfl, rfl⟩
  have := pof_inj hb h1 h2
  show @Classical.epsilon R ⟨0⟩ _ = _
  rw [h3, this.1, this.2]
theorem pcl_dl {R : Type} [Lean.Grind.CommRing R] {co : R → Nat → Fin 5} (H : PL co) {q Q : R} {g : Nat → R} {e : Nat → Nat} {a b : Nat} (nq : q ≠ 0) (g2 : 2 ≤ dl co (g a)) (hQ : q = Q * g a ^ e a) (hb : b < ple co g e a) : dl co (pcl co q g a b) ≤ dl co q - 1 := by
  have ng : g a ≠ 0 := dl_nz H (by omega)
  have dpos : 0 < dl co (g a) - 1 := by omega
  have hl : b / (dl co (g a) - 1) < e a := Nat.div_lt_of_lt_mul (by rw [Nat.mul_comm]; exact hb)
  have ml := Nat.mod_lt b dpos
  unfold pcl
  generalize b % (dl co (g a) - 1) = t at ml
  generalize b / (dl co (g a) - 1) = l at hl
  have e1 : q = (Q * g a ^ (e a - (1 + l))) * g a ^ (1 + l) := by
    have p : g a ^ e a = g a ^ (e a - (1 + l)) * g a ^ (1 + l) := by
      rw [← Lean.Grind.Semiring.pow_add]
      congr 1
      omega
    rw [hQ, p]; grind
  have e2 : qo co q (g a ^ (1 + l)) = Q * g a ^ (e a - (1 + l)) := by
    conv => lhs; rw [e1]
    exact qo_mul H (pow_nz H ng _)
  rw [e2]
  generalize Q * g a ^ (e a - (1 + l)) = P at e1
  have nP : P ≠ 0 := mul_l H (b := g a ^ (1 + l)) (by rw [← e1]; exact nq)
  have l1 := dl_mul H nP (pow_nz H ng (1 + l))
  rw [← e1, dl_pow H ng] at l1
  have l2 := dl_mul_le H (mo co 1 t) P
  rw [dl_mo H (by decide)] at l2
  have l3 : 1 * (dl co (g a) - 1) ≤ (1 + l) * (dl co (g a) - 1) := Nat.mul_le_mul_right _ (by omega)
  have := dl_ne H nP
  omega
/-- the table: columns, then the right side -/
noncomputable def T0 {R : Type} [Lean.Grind.CommRing R] (co : R → Nat → Fin 5) (p q : R) (g : Nat → R) (e : Nat → Nat) (N r c : Nat) : Fin 5 := if c < N then co (colp co q g e c) r else co (rm co p q) r
theorem tz_sum {R : Type} [Lean.Grind.CommRing R] {co : R → Nat → Fin 5} (H : PL co) {q : R} {g : Nat → R} {e : Nat → Nat} {n N : Nat} (nq : q ≠ 0) (hN : pof co g e n = N) (dq : dl co q = N + 1) (g2 : ∀ a, a < n → 2 ≤ dl co (g a)) (Q : Nat → R) (hQ : ∀ a, a < n → q = Q a * g a ^ e a) (v : Nat → Fin 5) : dl co (sR (fun c => mo co (v c) 0 * colp co q g e c) N) ≤ N ∧ sR (fun c => mo co (v c) 0 * colp co q g e c) N = sR (fun a => Q a * hn (g a) (cy co v (pof co g e a) (dl co (g a) - 1)) (e a)) n := by
  constructor
  · refine sR_dl H N (fun c hc => ?_)
    obtain ⟨a, b, h1, h2, h3⟩ := pof_sur (co := co) g e n c (by omega)
    have l := pcl_dl H (a := a) nq (g2 a h1) (hQ a h1) h2
    rw [h3, colp_e q h2]
    have l2 := dl_mul_le H (mo co (v (pof co g e a + b)) 0) (pcl co q g a b)
    have l3 := dl_c H (co := co) (v (pof co g e a + b))
    omega
  · have := pf_sum H (q := q) (col := colp co q g e) g2 Q hQ (fun a b ha hb => colp_e q hb) v n (Nat.le_refl n)
    rw [hN] at this
    exact this
theorem tz_ns {R : Type} [Lean.Grind.CommRing R] {co : R → Nat → Fin 5} (H : PL co) {p q : R} {g : Nat → R} {e : Nat → Nat} {n N : Nat} (nq : q ≠ 0) (fc : Fc co q n g e) (hN : pof co g e n = N) (dq : dl co q = N + 1) (Q : Nat → R) (hQ : ∀ a, a < n → q = Q a * g a ^ e a) : ∀ v, Ke N N (T0 co p q g e N) v → ∀ c, c < N → v c = 0 := by
  intro v hv c hc
  obtain ⟨s1, s2⟩ := tz_sum H nq hN dq (fun a ha => (fc.1 a ha).1.1) Q hQ v
  have z : sR (fun c => mo co (v c) 0 * colp co q g e c) N = 0 := pl_ext H (fun r => by
    rw [pl_0 H]
    by_cases q1 : r < N
    · rw [sR_co H, ← hv r q1]
      refine sm_congr N (fun i hi => ?_)
      show co (mo co (v i) 0 * colp co q g e i) r = T0 co p q g e N r i * v i
      unfold T0
      rw [if_pos hi, co_c H, f5_mcm]
    · exact dl_hi H (by omega))
  rw [s2] at z
  obtain ⟨a, b, h1, h2, h3⟩ := pof_sur (co := co) g e n c (by omega)
  rw [h3]
  exact pf_ind H fc Q hQ z h1 h2
theorem tz_sol {R : Type} [Lean.Grind.CommRing R] {co : R → Nat → Fin 5} (H : PL co) {p q : R} {g : Nat → R} {e : Nat → Nat} {n N : Nat} {T : Nat → Nat → Fin 5} (nq : q ≠ 0) (fc : Fc co q n g e) (hN : pof co g e n = N) (dq : dl co q = N + 1) (Q : Nat → R) (hQ : ∀ a, a < n → q = Q a * g a ^ e a) (hG : Gj N (T0 co p q g e N) T N) : sR (fun a => Q a * hn (g a) (cy co (fun c => T c N) (pof co g e a) (dl co (g a) - 1)) (e a)) n = rm co p q := by
  obtain ⟨s1, s2⟩ := tz_sum H nq hN dq (fun a ha => (fc.1 a ha).1.1) Q hQ (fun c => T c N)
  have en := gj_end hG
  rw [← s2]
  refine pl_ext H (fun r => ?_)
  by_cases q1 : r < N
  · have := en r q1
    have e2 : T0 co p q g e N r N = co (rm co p q) r := by unfold T0; rw [if_neg (Nat.lt_irrefl N)]
    rw [e2] at this
    rw [sR_co H, ← this]
    refine sm_congr N (fun i hi => ?_)
    show co (mo co (T i N) 0 * colp co q g e i) r = T0 co p q g e N r i * T i N
    unfold T0
    rw [if_pos hi, co_c H, f5_mcm]
  · have l := (qr_spec H p nq).2
    rw [dl_hi H (a := sR (fun c => mo co (T c N) 0 * colp co q g e c) N) (by omega), dl_hi H (a := rm co p q) (by omega)]
/-- the columns that stand in the table -/
def TC {R : Type} [Lean.Grind.CommRing R] (co : R → Nat → Fin 5) (q : R) (g : Nat → R) (e : Nat → Nat) (tb : Nat → Int32) (col : Nat) : Prop := ∀ k, k < 9 → ∀ c, c < col → tb (9 * k + c) = cI (co (colp co q g e c) k)
section
variable {f_count f_place f_opens f_top f_fault f_faultAt f_dry f_found : Int32} {a_c a_there a_kind a_num a_open a_openAt a_power a_table : Nat → Int32}
theorem y_fr_129 {R : Type} [Lean.Grind.CommRing R] {co : R → Nat → Fin 5} (H : PL co) {M0 : Nat → Option R} {q : R} {g Q : Nat → R} {e : Nat → Nat} {n i j k a r0 tgt : Nat} {post : Int32 → SY → Prop} {J : Int32 → Int32 → Int32 → Int32 → Int32 → Int32 → Int32 → Int32 → Int32 → Int32 → Int32 → (Nat → Int32) → (Nat → Int32) → (Nat → Int32) → (Nat → Int32) → (Nat → Int32) → (Nat → Int32) → (Nat → Int32) → (Nat → Int32) → Prop} (nq : q ≠ 0) (q9 : dl co q ≤ 9) (hr0 : r0 < 70) (h1 : M0 r0 = some q) (hn8 : n ≤ 8) (ha : a < n) (g2 : 2 ≤ dl co (g a)) (hQ : q = Q a * g a ^ e a) (hg : M0 (72 + a) = some (g a)) (hpw : a_power a = nI (e a)) (he1 : 1 ≤ e a) (he8 : e a ≤ 8) (hi : i < n) (hj : 1 ≤ j) (hje : j ≤ e i) (hj8 : j ≤ 100) (hk : k < dl co (g i) - 1) (hk9 : k < 9) (hpof : pof co g e (a + 1) ≤ 8) (htgt : tgt = pof co g e i + ((j - 1) * (dl co (g i) - 1) + k))
    (K : ∀ w M c tb, RY co c M → (∀ r, r ≠ 81 → r ≠ 84 → r ≠ 85 → M r = M0 r) → TC co q g e tb (pof co g e (a + 1)) → (i ≤ a → tgt < pof co g e (a + 1) → w = nI tgt) → J w (nI (pof co g e (a + 1))) (nI (a + 1)) f_count f_place f_opens f_top f_fault f_faultAt f_dry f_found c a_there a_kind a_num a_open a_openAt a_power tb) : ∀ d b w M c tb, b + d = ple co g e a → RY co c M → (∀ r, r ≠ 81 → r ≠ 84 → r ≠ 85 → M r = M0 r) → TC co q g e tb (pof co g e a + b) → (i ≤ a → tgt < pof co g e a + b → w = nI tgt) → ∀ u, d < u → wY_fraction_129 post J (nI i) (nI j) (nI k) (nI n) (nI r0) (nI a) u w (nI (pof co g e a + b)) (nI b) f_count f_place f_opens f_top f_fault f_faultAt f_dry f_found c a_there a_kind a_num a_open a_openAt a_power tb := by
  have ps := pof_s (co := co) g e a
  obtain ⟨D, hD⟩ : ∃ D, dl co (g a) = D + 1 := ⟨dl co (g a) - 1, by omega⟩
  have ple' : ple co g e a = e a * D := by unfold ple; rw [hD, Nat.add_sub_cancel]
  have ng : g a ≠ 0 := dl_nz H (by omega)
  have D8 : D ≤ 8 := by
    have nQ : Q a * g a ^ e a ≠ 0 := by rw [← hQ]; exact nq
    have l := dl_mul H (mul_l H nQ) (mul_r H nQ)
    rw [← hQ, dl_pow H ng, hD, Nat.add_sub_cancel] at l
    have := dl_ne H (mul_l H nQ)
    have : 1 * D ≤ e a * D := Nat.mul_le_mul_right _ (by omega)
    omega
  intro d
  induction d with
  | zero =>
    intro b w M c tb hb hx fr hT hw u hu
    obtain ⟨u, rfl⟩ : ∃ k, u = k + 1 := ⟨u - 1, by omega⟩
    refine ⟨vp_in_nI (by omega) (by omega), ?_⟩
    rw [nI_clamp (by omega), hpw, show (72 : Int32) + nI a = nI (72 + a) from nI_add 72 a]
    refine y_deg H hx (by omega) (by rw [fr _ (by omega) (by omega) (by omega)]; exact hg) ?_
    rw [hD, ti_succ, pk_mul, ← ple', show pof co g e a + b = pof co g e (a + 1) by omega] at *
    exact br_t (nI_le (by omega) (by omega)) (nm_r (nI_1 a) (K w M c tb hx fr hT hw))
  | succ d ih =>
    intro b w M c tb hb hx fr hT hw u hu
    obtain ⟨u, rfl⟩ : ∃ k, u = k + 1 := ⟨u - 1, by omega⟩
    have gi : M (72 + a) = some (g a) := by rw [fr _ (by omega) (by omega) (by omega)]; exact hg
    refine ⟨vp_in_nI (by omega) (by omega), ?_⟩
    rw [nI_clamp (by omega), hpw, show (72 : Int32) + nI a = nI (72 + a) from nI_add 72 a]
    refine y_deg H hx (by omega) gi ?_
    rw [hD, ti_succ, pk_mul, ← ple']
    refine br_f (nI_ge (by omega) (by omega)) ?_
    refine y_deg H hx (by omega) gi ?_
    rw [hD, ti_succ]
    refine ⟨nI_ne0 (by omega) (by omega), nm_r (pk_rem (by omega) (by omega) (by omega)) ?_⟩
    refine y_deg H hx (by omega) gi ?_
    rw [hD, ti_succ]
    refine ⟨nI_ne0 (by omega) (by omega), nm_r (e' := nI (1 + b / D)) (by rw [pk_div (by omega) (by omega) (by omega)]; exact nI_add 1 _) ?_⟩
    have bd : b / D ≤ b := Nat.div_le_self b D
    have bm : b % D < D := Nat.mod_lt b (by omega)
    have bl : b / D < e a := Nat.div_lt_of_lt_mul (by rw [Nat.mul_comm]; omega)
    have go : ∀ w' : Int32, (i ≤ a → tgt < pof co g e a + (b + 1) → w' = nI tgt) → wY_fraction_204 post J (wY_fraction_129 post J (nI i) (nI j) (nI k) (nI n) (nI r0) (nI a) u) (nI i) (nI j) (nI k) (nI n) (nI r0) w' (nI (pof co g e a + b)) (nI a) (nI b) (nI (b % D)) (nI (1 + b / D)) f_count f_place f_opens f_top f_fault f_faultAt f_dry f_found c a_there a_kind a_num a_open a_openAt a_power tb := by
      intro w' hw'
      unfold wY_fraction_204
      refine y_column H (E := e a) (Q := Q a) hx hr0 (by omega) (by omega) (by omega) (by rw [fr _ (by omega) (by omega) (by omega)]; exact h1) gi ng hQ (by omega) (by omega) (fun M' c' tb' hx' fr' t1 t2 => ?_)
      refine nm_r (nI_1 _) (nm_r (nI_1 b) (ih (b + 1) w' M' c' tb' (by omega) hx' (fun r q1 q2 q3 => by rw [fr' r q1 q2 q3]; exact fr r q1 q2 q3) (fun k hk c hc => ?_) hw' u (by omega)))
      by_cases z : c = pof co g e a + b
      · rw [z, colp_e q (by omega), t1 k hk]
        unfold pcl
        rw [hD, Nat.add_sub_cancel]
      · rw [t2 k c (by omega) z]
        exact hT k hk c (by omega)
    -- is it the wanted one
    have notw : ¬ (a = i ∧ 1 + b / D = j ∧ b % D = k) → (i ≤ a → tgt < pof co g e a + (b + 1) → w = nI tgt) := by
      intro nw hia ht
      by_cases z : tgt = pof co g e a + b
      · exfalso
        by_cases ai : a = i
        · apply nw
          rw [← ai, hD, Nat.add_sub_cancel] at htgt hk
          have eb : b = (j - 1) * D + k := by omega
          refine ⟨ai, ?_, ?_⟩
          · rw [eb, Nat.add_comm ((j - 1) * D), Nat.add_mul_div_right _ _ (by omega), Nat.div_eq_of_lt hk]; omega
          · rw [eb, Nat.add_comm, Nat.add_mul_mod_self_right, Nat.mod_eq_of_lt hk]
        · have m1 := pof_mono (co := co) g e (show i + 1 ≤ a by omega)
          rw [pof_s] at m1
          have m2 : (j - 1) * (dl co (g i) - 1) + (dl co (g i) - 1) ≤ ple co g e i := by
            unfold ple
            have : (j - 1 + 1) * (dl co (g i) - 1) ≤ e i * (dl co (g i) - 1) := Nat.mul_le_mul_right _ (by omega)
            rw [Nat.add_mul] at this
            omega
          omega
      · exact hw hia (by omega)
    by_cases c1 : a = i
    · refine br_t (by rw [c1]) ?_
      by_cases c2 : 1 + b / D = j
      · refine br_t (by rw [c2]) ?_
        by_cases c3 : b % D = k
        · refine br_t (by rw [c3]) (go _ (fun _ _ => ?_))
          rw [htgt, ← c1, hD, Nat.add_sub_cancel, ← c3]
          congr 1
          have := Nat.div_add_mod b D
          have e1 : (j - 1) * D = D * (b / D) := by rw [show j - 1 = b / D by omega, Nat.mul_comm]
          omega
        · exact br_f (by rw [nI_eq (by omega) (by omega)]; exact c3) (go w (notw (fun z => c3 z.2.2)))
      · exact br_f (by rw [nI_eq (by omega) (by omega)]; exact c2) (go w (notw (fun z => c2 z.2.1)))
    · exact br_f (by rw [nI_eq (by omega) (by omega)]; exact c1) (go w (notw (fun z => c1 z.1)))
theorem y_fr_236 {R : Type} [Lean.Grind.CommRing R] {co : R → Nat → Fin 5} (H : PL co) {M : Nat → Option R} {p q : R} {g Q : Nat → R} {e : Nat → Nat} {n i j k N tgt : Nat} {post : Int32 → SY → Prop} (nq : q ≠ 0) (mq : Mo co q) (fc : Fc co q n g e) (hN : pof co g e n = N) (dq : dl co q = N + 1) (hN8 : N ≤ 8) (hQ : ∀ a, a < n → q = Q a * g a ^ e a) (h : RY co a_c M) (h83 : M 83 = some (rm co p q)) (hi : i < n) (hj : 1 ≤ j) (hje : j ≤ e i) (hk : k < dl co (g i) - 1) (htgt : tgt = pof co g e i + ((j - 1) * (dl co (g i) - 1) + k))
    (K : ∀ x tb, (∀ c', Fa co p (Q i) (g i) (e i) j c' → co c' k = x) → post (cI x) (f_count, f_place, f_opens, f_top, f_fault, f_faultAt, f_dry, f_found, a_c, a_there, a_kind, a_num, a_open, a_openAt, a_power, tb)) : ∀ d r tb, r + d = N → TC co q g e tb N → (∀ r', r' < r → tb (9 * r' + N) = cI (co (rm co p q) r')) → ∀ u, d < u → wY_fraction_236 post (nI tgt) (nI N) f_count f_place f_opens f_top f_fault f_faultAt f_dry f_found u (nI r) a_c a_there a_kind a_num a_open a_openAt a_power tb := by
  have c83 := (h 83 (by omega) _ h83).2
  have tl : tgt < N := by
    have m1 := pof_mono (co := co) g e (show i + 1 ≤ n by omega)
    rw [pof_s] at m1
    have m2 : (j - 1) * (dl co (g i) - 1) + (dl co (g i) - 1) ≤ ple co g e i := by
      unfold ple
      have : (j - 1 + 1) * (dl co (g i) - 1) ≤ e i * (dl co (g i) - 1) := Nat.mul_le_mul_right _ (by omega)
      rw [Nat.add_mul] at this
      omega
    omega
  intro d
  induction d with
  | zero =>
    intro r tb hr hT hR u hu
    obtain ⟨u, rfl⟩ : ∃ k, u = k + 1 := ⟨u - 1, by omega⟩
    refine br_t (nI_le (by omega) (by omega)) ?_
    refine y_solve (T := T0 co p q g e N) hN8 (tz_ns H nq fc hN dq Q hQ) (fun a b ha hb => ?_) (fun T' tb' hG hT' => ?_)
    · unfold T0
      by_cases z : b < N
      · rw [if_pos z]; exact hT a (by omega) b z
      · rw [if_neg z, show b = N by omega]; exact hR a (by omega)
    · dsimp only
      rw [cl9 (by omega) (by omega), hT' tgt N tl (by omega)]
      refine ⟨in9 (by omega) (by omega), K _ tb' (fun c' hc' => ?_)⟩
      rw [fa_y H mq fc Q hQ (tz_sol H nq fc hN dq Q hQ hG) hi hj hje hc' k, if_pos hk, ← htgt]
  | succ d ih =>
    intro r tb hr hT hR u hu
    obtain ⟨u, rfl⟩ : ∃ k, u = k + 1 := ⟨u - 1, by omega⟩
    have ei : (1660 : Int32) + nI r = nI (20 * 83 + r) := nI_add 1660 r
    refine br_f (nI_ge (by omega) (by omega)) ?_
    rw [ei, nI_clamp (by omega), c83 r (by omega), cl9 (by omega) (by omega)]
    refine ⟨vp_in_nI (by omega) (by omega), in9 (by omega) (by omega), nm_e (nm_r (nI_1 r) (ih (r + 1) _ (by omega) (fun k hk c hc => ?_) (fun r' hr' => ?_) u (by omega)))⟩
    · rw [pk_un (by omega)]; exact hT k hk c hc
    · by_cases z : r' = r
      · rw [z]; exact pk_us
      · rw [pk_un (by omega)]; exact hR r' (by omega)
theorem y_fr_119 {R : Type} [Lean.Grind.CommRing R] {co : R → Nat → Fin 5} (H : PL co) {M0 : Nat → Option R} {p q : R} {g Q : Nat → R} {e : Nat → Nat} {n i j k r0 tgt N : Nat} {post : Int32 → SY → Prop} (nq : q ≠ 0) (mq : Mo co q) (q9 : dl co q ≤ 9) (fc : Fc co q n g e) (hN : pof co g e n = N) (dq : dl co q = N + 1) (hr0 : r0 < 70) (h1 : M0 r0 = some q) (h83 : M0 83 = some (rm co p q)) (hn8 : n ≤ 8) (hQ : ∀ a, a < n → q = Q a * g a ^ e a) (hl : LY M0 a_power n g e) (hi : i < n) (hj : 1 ≤ j) (hje : j ≤ e i) (hk : k < dl co (g i) - 1) (htgt : tgt = pof co g e i + ((j - 1) * (dl co (g i) - 1) + k))
    (K : ∀ x M c tb, (∀ c', Fa co p (Q i) (g i) (e i) j c' → co c' k = x) → RY co c M → (∀ r, r ≠ 81 → r ≠ 84 → r ≠ 85 → M r = M0 r) → post (cI x) (f_count, f_place, f_opens, f_top, f_fault, f_faultAt, f_dry, f_found, c, a_there, a_kind, a_num, a_open, a_openAt, a_power, tb)) : ∀ d a w M c tb, a + d = n → RY co c M → (∀ r, r ≠ 81 → r ≠ 84 → r ≠ 85 → M r = M0 r) → TC co q g e tb (pof co g e a) → (i < a → tgt < pof co g e a → w = nI tgt) → ∀ u, d < u → wY_fraction_119 post (nI i) (nI j) (nI k) (nI n) (nI r0) u w (nI (pof co g e a)) (nI a) f_count f_place f_opens f_top f_fault f_faultAt f_dry f_found c a_there a_kind a_num a_open a_openAt a_power tb := by
  have fe := fc_e H nq q9 fc hi
  intro d
  induction d with
  | zero =>
    intro a w M c tb ha hx fr hT hw u hu
    obtain ⟨u, rfl⟩ : ∃ k, u = k + 1 := ⟨u - 1, by omega⟩
    have ea : a = n := by omega
    rw [ea, hN] at hT hw ⊢
    have tl : tgt < N := by
      have m1 := pof_mono (co := co) g e (show i + 1 ≤ n by omega)
      rw [pof_s] at m1
      have m2 : (j - 1) * (dl co (g i) - 1) + (dl co (g i) - 1) ≤ ple co g e i := by
        unfold ple
        have : (j - 1 + 1) * (dl co (g i) - 1) ≤ e i * (dl co (g i) - 1) := Nat.mul_le_mul_right _ (by omega)
        rw [Nat.add_mul] at this
        omega
      omega
    rw [hw hi tl]
    refine br_t (nI_le (by omega) (by omega)) ⟨10, ?_⟩
    exact y_fr_236 H nq mq fc hN dq (by omega) hQ hx (by rw [fr 83 (by omega) (by omega) (by omega)]; exact h83) hi hj hje hk htgt (fun x tb' hc' => K x M c tb' hc' hx fr) N 0 tb (by omega) hT (fun r' hr' => absurd hr' (Nat.not_lt_zero r')) 10 (by omega)
  | succ d ih =>
    intro a w M c tb ha hx fr hT hw u hu
    obtain ⟨u, rfl⟩ : ∃ k, u = k + 1 := ⟨u - 1, by omega⟩
    have fa := fc_e H nq q9 fc (show a < n by omega)
    have m1 := pof_mono (co := co) g e (show a + 1 ≤ n by omega)
    have la := hl a (by omega)
    have ps := pof_s (co := co) g e a
    refine br_f (nI_ge (by omega) (by omega)) ⟨10, ?_⟩
    refine y_fr_129 H (M0 := M0) (Q := Q) (tgt := tgt) nq q9 hr0 h1 hn8 (by omega) fa.2.2.1 (hQ a (by omega)) la.1 la.2 (fc.1 a (by omega)).2.2.1 fa.2.1 hi hj hje (by omega) hk (by omega) (by omega) htgt (fun w' M' c' tb' hx' fr' hT' hw' => ih (a + 1) w' M' c' tb' (by omega) hx' fr' hT' (fun q1 q2 => hw' (by omega) q2) u (by omega)) (ple co g e a) 0 w M c tb (by omega) hx fr hT (fun q1 q2 => ?_) 10 (by omega)
    by_cases z : i = a
    · rw [z] at htgt
      omega
    · exact hw (by omega) q2
end
end
section
/-! formulas: a pure machine -/
noncomputable def cif {α : Type} (p : Prop) (a b : α) : α := @ite α p (Classical.propDecidable p) a b
theorem cif_t {α : Type} {p : Prop} {a b : α} (h : p) : cif p a b = a := if_pos h
theorem cif_f {α : Type} {p : Prop} {a b : α} (h : ¬ p) : cif p a b = b := if_neg h
/-- the number that an int stands for -/
noncomputable def fi (v : Int32) : Fin 5 := Classical.epsilon (fun x => md v = cI x)
theorem fi_e (v : Int32) : md v = cI (fi v) := Classical.epsilon_spec (md_any v)
noncomputable def rd2 {R : Type} [Lean.Grind.CommRing R] (co : R → Nat → Fin 5) (p q : R) : R × R := (rdP co p q, rdQ co p q)
/-- too large? -/
noncomputable def big {R : Type} [Lean.Grind.CommRing R] (co : R → Nat → Fin 5) (v : R × R) : Nat × (R × R) := if sz co v.1 v.2 ≤ 8 then (0, v) else (4, v)
/-- a binary operator: a fault, or 0, and the value -/
noncomputable def bop {R : Type} [Lean.Grind.CommRing R] (co : R → Nat → Fin 5) (o : Nat) (v w : R × R) : Nat × (R × R) :=
  if o = 5 then big co (rd2 co (v.1 * w.2 + mo co 1 0 * (w.1 * v.2)) (v.2 * w.2))
  else if o = 6 then big co (rd2 co (v.1 * w.2 + mo co 4 0 * (w.1 * v.2)) (v.2 * w.2))
  else if o = 7 then big co (rd2 co (v.1 * w.1) (v.2 * w.2))
  else if o = 8 then cif (w.1 = 0) (3, v) (big co (rd2 co (v.1 * w.2) (v.2 * w.1)))
  else cif (sz co w.1 w.2 = 0 ∧ vv co v.2 (co w.1 0) = 0) (3, v)
    (if 8 < sz co v.1 v.2 * sz co w.1 w.2 then (4, v) else big co (rd2 co (PU co v.1 w.1 w.2 (sz co v.1 v.2)) (PU co v.2 w.1 w.2 (sz co v.1 v.2))))
noncomputable def ngv {R : Type} [Lean.Grind.CommRing R] (co : R → Nat → Fin 5) (v : R × R) : R × R := (mo co 4 0 * v.1, v.2)
noncomputable def pwp {R : Type} [Lean.Grind.CommRing R] (co : R → Nat → Fin 5) (k : Nat) (v : R × R) : Nat × (R × R) := if 8 < k * sz co v.1 v.2 then (4, v) else (0, (rwP co v.1 v.2 k, rwQ co v.1 v.2 k))
noncomputable def pwn {R : Type} [Lean.Grind.CommRing R] (co : R → Nat → Fin 5) (k : Nat) (v : R × R) : Nat × (R × R) := cif (v.1 = 0) (3, v) (if 8 < k * sz co v.1 v.2 then (4, v) else (0, (rwP co v.2 v.1 k, rwQ co v.2 v.1 k)))
noncomputable def pw_ {R : Type} [Lean.Grind.CommRing R] (co : R → Nat → Fin 5) (n : Int32) (v : R × R) : Nat × (R × R) := if 0 ≤ n then pwp co n.toNatClampNeg v else pwn co (-n).toNatClampNeg v
noncomputable def der {R : Type} [Lean.Grind.CommRing R] (co : R → Nat → Fin 5) (v : R × R) : Nat × (R × R) := big co (rd2 co (de co v.1 * v.2 + mo co 4 0 * (v.1 * de co v.2)) (v.2 * v.2))
def Vv {R : Type} [Lean.Grind.CommRing R] (co : R → Nat → Fin 5) (v : R × R) : Prop := Va co v.1 v.2
theorem big_va {R : Type} [Lean.Grind.CommRing R] {co : R → Nat → Fin 5} (H : PL co) {p q : R} (hq : q ≠ 0) (h : (big co (rd2 co p q)).1 = 0) : Vv co (big co (rd2 co p q)).2 := by
  unfold big at *
  by_cases c : sz co (rd2 co p q).1 (rd2 co p q).2 ≤ 8
  · rw [if_pos c]
    exact rd_va H hq c
  · rw [if_neg c] at h
    simp at h
theorem big_c {R : Type} [Lean.Grind.CommRing R] {co : R → Nat → Fin 5} (v : R × R) : (big co v).1 = 0 ∨ (big co v).1 = 4 := by
  unfold big
  split
  · exact Or.inl rfl
  · exact Or.inr rfl
theorem bop_va {R : Type} [Lean.Grind.CommRing R] {co : R → Nat → Fin 5} (H : PL co) {o : Nat} {v w : R × R} (hv : Vv co v) (hw : Vv co w) (h : (bop co o v w).1 = 0) : Vv co (bop co o v w).2 := by
  have nv := mo_ne H hv.2.1
  have nw := mo_ne H hw.2.1
  unfold bop at *
  by_cases c5 : o = 5
  · rw [if_pos c5] at h ⊢; exact big_va H (mul_nz H nv nw) h
  · rw [if_neg c5] at h ⊢
    by_cases c6 : o = 6
    · rw [if_pos c6] at h ⊢; exact big_va H (mul_nz H nv nw) h
    · rw [if_neg c6] at h ⊢
      by_cases c7 : o = 7
      · rw [if_pos c7] at h ⊢; exact big_va H (mul_nz H nv nw) h
      · rw [if_neg c7] at h ⊢
        by_cases c8 : o = 8
        · rw [if_pos c8] at h ⊢
          by_cases z : w.1 = 0
          · rw [cif_t z] at h; simp at h
          · rw [cif_f z] at h ⊢; exact big_va H (mul_nz H nv z) h
        · rw [if_neg c8] at h ⊢
          by_cases z : sz co w.1 w.2 = 0 ∧ vv co v.2 (co w.1 0) = 0
          · rw [cif_t z] at h; simp at h
          · rw [cif_f z] at h ⊢
            by_cases l : 8 < sz co v.1 v.2 * sz co w.1 w.2
            · rw [if_pos l] at h; simp at h
            · rw [if_neg l] at h ⊢; exact big_va H (pu_nz H hv hw z) h
theorem bop_c {R : Type} [Lean.Grind.CommRing R] {co : R → Nat → Fin 5} (o : Nat) (v w : R × R) : (bop co o v w).1 = 0 ∨ (bop co o v w).1 = 3 ∨ (bop co o v w).1 = 4 := by
  have bc : ∀ x : R × R, (big co x).1 = 0 ∨ (big co x).1 = 3 ∨ (big co x).1 = 4 := fun x => (big_c x).elim Or.inl (fun z => Or.inr (Or.inr z))
  unfold bop
  by_cases c5 : o = 5
  · rw [if_pos c5]; exact bc _
  · rw [if_neg c5]
    by_cases c6 : o = 6
    · rw [if_pos c6]; exact bc _
    · rw [if_neg c6]
      by_cases c7 : o = 7
      · rw [if_pos c7]; exact bc _
      · rw [if_neg c7]
        by_cases c8 : o = 8
        · rw [if_pos c8]
          by_cases z : w.1 = 0
          · rw [cif_t z]; exact Or.inr (Or.inl rfl)
          · rw [cif_f z]; exact bc _
        · rw [if_neg c8]
          by_cases z : sz co w.1 w.2 = 0 ∧ vv co v.2 (co w.1 0) = 0
          · rw [cif_t z]; exact Or.inr (Or.inl rfl)
          · rw [cif_f z]
            split
            · exact Or.inr (Or.inr rfl)
            · exact bc _
theorem ngv_va {R : Type} [Lean.Grind.CommRing R] {co : R → Nat → Fin 5} (H : PL co) {v : R × R} (hv : Vv co v) : Vv co (ngv co v) := by
  have n4 : (4 : Fin 5) ≠ 0 := by decide
  refine ⟨?_, hv.2.1, ?_, hv.2.2.2⟩
  · obtain ⟨s, t, e⟩ := hv.1
    have x : mo co 4 0 * mo co 4 0 = (1 : R) := by rw [mo_mul H, show (4 : Fin 5) * 4 = 1 from rfl, mo_1 H]
    exact ⟨s * mo co 4 0, t, by
      show s * mo co 4 0 * (mo co 4 0 * v.1) + t * v.2 = 1
      rw [← e]
      have : s * mo co 4 0 * (mo co 4 0 * v.1) = s * (mo co 4 0 * mo co 4 0) * v.1 := by grind
      rw [this, x]; grind⟩
  · show dl co (mo co 4 0 * v.1) ≤ 9
    rw [dl_unm H (dl_mo H n4 0)]; exact hv.2.2.1
theorem sz_neg {R : Type} [Lean.Grind.CommRing R] {co : R → Nat → Fin 5} (H : PL co) {p q : R} (hc : Cp p q) (np : p ≠ 0) (hq : Mo co q) (k : Nat) : sz co (rwP co q p k) (rwQ co q p k) = k * sz co p q := by
  have nx := f5_inv0 _ (ld_ne H np)
  have cn := mo_nz H (co := co) nx 0
  have e := rw_sc H (p := q) np cn k
  rw [← e.1, ← e.2]
  have hc' : Cp (mo co (ld co p * ld co p * ld co p) 0 * q) (mo co (ld co p * ld co p * ld co p) 0 * p) := by
    have x : mo co (ld co p) 0 * mo co (ld co p * ld co p * ld co p) 0 = (1 : R) := by
      rw [mo_mul H, f5_inv _ (ld_ne H np), mo_1 H]
    obtain ⟨s, t, est⟩ := hc
    exact ⟨t * mo co (ld co p) 0, s * mo co (ld co p) 0, by grind⟩
  rw [sz_pow H hc' (mo_mak H np)]
  unfold sz
  rw [dl_unm H (dl_mo H nx 0), dl_unm H (dl_mo H nx 0), Nat.max_comm]
theorem pwp_va {R : Type} [Lean.Grind.CommRing R] {co : R → Nat → Fin 5} (H : PL co) {k : Nat} {v : R × R} (hv : Vv co v) (h : (pwp co k v).1 = 0) : Vv co (pwp co k v).2 ∧ k * sz co v.1 v.2 ≤ 8 ∧ (pwp co k v).2 = (rwP co v.1 v.2 k, rwQ co v.1 v.2 k) := by
  unfold pwp at *
  by_cases c : 8 < k * sz co v.1 v.2
  · rw [if_pos c] at h; simp at h
  · rw [if_neg c] at h ⊢
    refine ⟨rd_va H (pow_nz H (mo_ne H hv.2.1) k) ?_, by omega, rfl⟩
    have := sz_pow H hv.1 hv.2.1 k
    unfold rwP rwQ at this
    omega
theorem pwn_va {R : Type} [Lean.Grind.CommRing R] {co : R → Nat → Fin 5} (H : PL co) {k : Nat} {v : R × R} (hv : Vv co v) (h : (pwn co k v).1 = 0) : Vv co (pwn co k v).2 ∧ v.1 ≠ 0 ∧ k * sz co v.1 v.2 ≤ 8 ∧ (pwn co k v).2 = (rwP co v.2 v.1 k, rwQ co v.2 v.1 k) := by
  unfold pwn at *
  by_cases z : v.1 = 0
  · rw [cif_t z] at h; simp at h
  · rw [cif_f z] at h ⊢
    by_cases c : 8 < k * sz co v.1 v.2
    · rw [if_pos c] at h; simp at h
    · rw [if_neg c] at h ⊢
      refine ⟨rd_va H (pow_nz H z k) ?_, z, by omega, rfl⟩
      have := sz_neg H hv.1 z hv.2.1 k
      unfold rwP rwQ at this
      omega
theorem der_va {R : Type} [Lean.Grind.CommRing R] {co : R → Nat → Fin 5} (H : PL co) {v : R × R} (hv : Vv co v) (h : (der co v).1 = 0) : Vv co (der co v).2 := big_va H (mul_nz H (mo_ne H hv.2.1) (mo_ne H hv.2.1)) h

/-! the stack of operators: some i a token, none a sign; the top first -/
def lev (kd : Nat → Nat) : Option Nat → Nat
  | none => 1
  | some i => if kd i = 11 then 3 else if kd i = 7 ∨ kd i = 8 then 2 else if kd i = 5 ∨ kd i = 6 then 1 else 0
/-- one operator carried out: a fault and its place, and the values -/
noncomputable def ap1 {R : Type} [Lean.Grind.CommRing R] (co : R → Nat → Fin 5) (kd : Nat → Nat) : Option Nat → List (R × R) → Nat × Nat × List (R × R)
  | none, w :: vs => (0, 0, ngv co w :: vs)
  | some i, w :: v :: vs => ((bop co (kd i) v w).1, i, (bop co (kd i) v w).2 :: vs)
  | _, vs => (0, 0, vs)
/-- while the top binds as tightly as b -/
noncomputable def drn {R : Type} [Lean.Grind.CommRing R] (co : R → Nat → Fin 5) (kd : Nat → Nat) (b : Nat) : List (Option Nat) → List (R × R) → Nat × Nat × List (Option Nat) × List (R × R)
  | [], vs => (0, 0, [], vs)
  | s :: st, vs => if b ≤ lev kd s then (if (ap1 co kd s vs).1 = 0 then drn co kd b st (ap1 co kd s vs).2.2 else ((ap1 co kd s vs).1, (ap1 co kd s vs).2.1, st, vs)) else (0, 0, s :: st, vs)
/-- an @ at the top is carried out at once -/
noncomputable def egr {R : Type} [Lean.Grind.CommRing R] (co : R → Nat → Fin 5) (kd : Nat → Nat) : List (Option Nat) → List (R × R) → Nat × Nat × List (Option Nat) × List (R × R)
  | s :: st, vs => if lev kd s = 3 then ((ap1 co kd s vs).1, (ap1 co kd s vs).2.1, st, (ap1 co kd s vs).2.2) else (0, 0, s :: st, vs)
  | [], vs => (0, 0, [], vs)
/-- an operand -/
noncomputable def atv {R : Type} [Lean.Grind.CommRing R] (co : R → Nat → Fin 5) (kd : Nat → Nat) (nm : Nat → Int32) (pl : Nat → Option (R × R)) (i : Nat) : Nat × (R × R) :=
  if kd i = 0 then (0, (mo co (fi (nm i)) 0, 1))
  else if kd i = 1 then (0, (mo co 1 1, 1))
  else match pl (nm i).toNatClampNeg with
    | some v => (0, v)
    | none => (2, (0, 0))
def bnd (k : Nat) : Nat := if k = 11 then 3 else if k = 7 ∨ k = 8 then 2 else 1
/-- from token i on, d tokens; the answer: fault, place, value -/
noncomputable def run {R : Type} [Lean.Grind.CommRing R] (co : R → Nat → Fin 5) (kd : Nat → Nat) (nm : Nat → Int32) (pl : Nat → Option (R × R)) : Nat → Bool → List (Option Nat) → List (R × R) → Nat → Nat × Nat × (R × R)
  | 0, _, st, vs, _ => if (drn co kd 1 st vs).1 = 0 then (0, 0, (drn co kd 1 st vs).2.2.2.headD (0, 0)) else ((drn co kd 1 st vs).1, (drn co kd 1 st vs).2.1, (0, 0))
  | d + 1, true, st, vs, i =>
    if kd i = 6 then run co kd nm pl d true (none :: st) vs (i + 1)
    else if kd i = 3 then run co kd nm pl d true (some i :: st) vs (i + 1)
    else if (atv co kd nm pl i).1 = 0 then
      (if (egr co kd st ((atv co kd nm pl i).2 :: vs)).1 = 0 then run co kd nm pl d false (egr co kd st ((atv co kd nm pl i).2 :: vs)).2.2.1 (egr co kd st ((atv co kd nm pl i).2 :: vs)).2.2.2 (i + 1)
        else ((egr co kd st ((atv co kd nm pl i).2 :: vs)).1, (egr co kd st ((atv co kd nm pl i).2 :: vs)).2.1, (0, 0)))
      else ((atv co kd nm pl i).1, i, (0, 0))
  | d + 1, false, st, vs, i =>
    if kd i = 4 then
      (if (drn co kd 1 st vs).1 = 0 then
        (if (egr co kd (drn co kd 1 st vs).2.2.1.tail (drn co kd 1 st vs).2.2.2).1 = 0 then run co kd nm pl d false (egr co kd (drn co kd 1 st vs).2.2.1.tail (drn co kd 1 st vs).2.2.2).2.2.1 (egr co kd (drn co kd 1 st vs).2.2.1.tail (drn co kd 1 st vs).2.2.2).2.2.2 (i + 1)
          else ((egr co kd (drn co kd 1 st vs).2.2.1.tail (drn co kd 1 st vs).2.2.2).1, (egr co kd (drn co kd 1 st vs).2.2.1.tail (drn co kd 1 st vs).2.2.2).2.1, (0, 0)))
        else ((drn co kd 1 st vs).1, (drn co kd 1 st vs).2.1, (0, 0)))
    else if kd i = 9 then
      (if (pw_ co (nm i) (vs.headD (0, 0))).1 = 0 then run co kd nm pl d false st ((pw_ co (nm i) (vs.headD (0, 0))).2 :: vs.tail) (i + 1) else ((pw_ co (nm i) (vs.headD (0, 0))).1, i, (0, 0)))
    else if kd i = 10 then
      (if (der co (vs.headD (0, 0))).1 = 0 then run co kd nm pl d false st ((der co (vs.headD (0, 0))).2 :: vs.tail) (i + 1) else ((der co (vs.headD (0, 0))).1, i, (0, 0)))
    else (if (drn co kd (bnd (kd i)) st vs).1 = 0 then run co kd nm pl d true (some i :: (drn co kd (bnd (kd i)) st vs).2.2.1) (drn co kd (bnd (kd i)) st vs).2.2.2 (i + 1)
      else ((drn co kd (bnd (kd i)) st vs).1, (drn co kd (bnd (kd i)) st vs).2.1, (0, 0)))
/-- the first token that does not fit -/
def wr (kd : Nat → Nat) (n : Nat) : Nat → Bool → Bool → Nat → Nat → Option Nat
  | 0, op, _, dep, _ => if op = true ∨ dep ≠ 0 then some n else none
  | d + 1, true, fst, dep, i => if kd i ≤ 3 ∨ (kd i = 6 ∧ fst = true) then wr kd n d (decide (3 ≤ kd i)) (decide (kd i = 3)) (if kd i = 3 then dep + 1 else dep) (i + 1) else some i
  | d + 1, false, fst, dep, i => if kd i < 4 ∨ (kd i = 4 ∧ dep = 0) then some i else wr kd n d (decide ((5 ≤ kd i ∧ kd i ≤ 8) ∨ kd i = 11)) false (if kd i = 4 then dep - 1 else dep) (i + 1)
/-- open brackets, binary operators on the stack -/
def brk (kd : Nat → Nat) : List (Option Nat) → Nat
  | [] => 0
  | none :: st => brk kd st
  | some i :: st => (if kd i = 3 then 1 else 0) + brk kd st
def bin (kd : Nat → Nat) : List (Option Nat) → Nat
  | [] => 0
  | none :: st => bin kd st
  | some i :: st => (if kd i = 3 then 0 else 1) + bin kd st
/-- what may lie on the stack -/
def Ent (kd : Nat → Nat) (s : Option Nat) : Prop := s = none ∨ ∃ i, s = some i ∧ i < 24 ∧ (kd i = 3 ∨ (5 ≤ kd i ∧ kd i ≤ 8) ∨ kd i = 11)
def Ents (kd : Nat → Nat) (st : List (Option Nat)) : Prop := ∀ s, s ∈ st → Ent kd s
def Vals {R : Type} [Lean.Grind.CommRing R] (co : R → Nat → Fin 5) (vs : List (R × R)) : Prop := ∀ v, v ∈ vs → Vv co v
theorem ents_t {kd : Nat → Nat} {s : Option Nat} {st : List (Option Nat)} (h : Ents kd (s :: st)) : Ents kd st := fun x hx => h x (List.mem_cons_of_mem _ hx)
theorem ents_h {kd : Nat → Nat} {s : Option Nat} {st : List (Option Nat)} (h : Ents kd (s :: st)) : Ent kd s := h s (List.mem_cons_self)
theorem ents_c {kd : Nat → Nat} {s : Option Nat} {st : List (Option Nat)} (h1 : Ent kd s) (h : Ents kd st) : Ents kd (s :: st) := fun x hx => by
  rcases List.mem_cons.mp hx with q | q
  · rw [q]; exact h1
  · exact h x q
theorem vals_t {R : Type} [Lean.Grind.CommRing R] {co : R → Nat → Fin 5} {v : R × R} {vs : List (R × R)} (h : Vals co (v :: vs)) : Vals co vs := fun x hx => h x (List.mem_cons_of_mem _ hx)
theorem vals_h {R : Type} [Lean.Grind.CommRing R] {co : R → Nat → Fin 5} {v : R × R} {vs : List (R × R)} (h : Vals co (v :: vs)) : Vv co v := h v (List.mem_cons_self)
theorem vals_c {R : Type} [Lean.Grind.CommRing R] {co : R → Nat → Fin 5} {v : R × R} {vs : List (R × R)} (h1 : Vv co v) (h : Vals co vs) : Vals co (v :: vs) := fun x hx => by
  rcases List.mem_cons.mp hx with q | q
  · rw [q]; exact h1
  · exact h x q
theorem lev_0 {kd : Nat → Nat} {s : Option Nat} (h : Ent kd s) (hl : lev kd s = 0) : ∃ i, s = some i ∧ i < 24 ∧ kd i = 3 := by
  rcases h with q | ⟨i, q, h1, h2⟩
  · rw [q] at hl
    have hl' : (1 : Nat) = 0 := hl
    omega
  · refine ⟨i, q, h1, ?_⟩
    rw [q] at hl
    unfold lev at hl
    dsimp only at hl
    split at hl
    · omega
    · split at hl
      · omega
      · split at hl
        · omega
        · omega
theorem lev_3 {kd : Nat → Nat} {s : Option Nat} (hl : lev kd s = 3) : ∃ i, s = some i ∧ kd i = 11 := by
  match s with
  | none =>
    have hl' : (1 : Nat) = 3 := hl
    omega
  | some i =>
    refine ⟨i, rfl, ?_⟩
    unfold lev at hl
    dsimp only at hl
    split at hl
    · assumption
    · split at hl
      · omega
      · split at hl <;> omega
theorem lev_le (kd : Nat → Nat) (s : Option Nat) : lev kd s ≤ 3 := by
  match s with
  | none => exact (by decide : 1 ≤ 3)
  | some i =>
    unfold lev
    dsimp only
    split
    · omega
    · split
      · omega
      · split <;> omega
/-- with b at least 1 an entry that is carried out is no bracket -/
theorem lev_nb {kd : Nat → Nat} {s : Option Nat} {i : Nat} (hs : s = some i) (hl : 1 ≤ lev kd s) (h : Ent kd s) : (5 ≤ kd i ∧ kd i ≤ 8) ∨ kd i = 11 := by
  rcases h with q | ⟨j, q, h1, h2⟩
  · rw [q] at hs; cases hs
  · rw [q] at hs
    cases hs
    rcases h2 with z | z
    · rw [q] at hl
      unfold lev at hl
      dsimp only at hl
      rw [if_neg (by omega), if_neg (by omega), if_neg (by omega)] at hl
      omega
    · exact z
/-- enough values for what is carried out; then all is well again -/
theorem ap1_ok {R : Type} [Lean.Grind.CommRing R] {co : R → Nat → Fin 5} (H : PL co) {kd : Nat → Nat} {s : Option Nat} {st : List (Option Nat)} {vs : List (R × R)} {x : Nat} (he : Ents kd (s :: st)) (hv : Vals co vs) (hl : 1 ≤ lev kd s) (hn : vs.length = bin kd (s :: st) + 1) (h0 : (ap1 co kd s vs).1 = 0) : Vals co (ap1 co kd s vs).2.2 ∧ (ap1 co kd s vs).2.2.length = bin kd st + 1 ∧ brk kd (s :: st) = brk kd st ∧ (ap1 co kd s vs).2.2.length ≤ vs.length := by
  match s, vs with
  | none, [] => exact absurd hn (by show ¬ 0 = bin kd st + 1; omega)
  | none, w :: vs =>
    have hn' : (w :: vs).length = bin kd st + 1 := hn
    exact ⟨vals_c (ngv_va H (vals_h hv)) (vals_t hv), hn', rfl, Nat.le_refl _⟩
  | some i, vs =>
    have nb := lev_nb rfl hl (ents_h he)
    have b1 : bin kd (some i :: st) = 1 + bin kd st := by
      show (if kd i = 3 then 0 else 1) + bin kd st = _
      rw [if_neg (by omega)]
    have b2 : brk kd (some i :: st) = brk kd st := by
      show (if kd i = 3 then 1 else 0) + brk kd st = _
      rw [if_neg (by omega)]; omega
    rw [b1] at hn
    match vs with
    | [] => exact absurd hn (by show ¬ 0 = _; omega)
    | [w] => exact absurd hn (by show ¬ 1 = _; omega)
    | w :: v :: vs =>
      have hn' : vs.length + 2 = 1 + bin kd st + 1 := hn
      refine ⟨vals_c (bop_va H (vals_h (vals_t hv)) (vals_h hv) h0) (vals_t (vals_t hv)), ?_, b2, ?_⟩
      · show vs.length + 1 = _
        omega
      · show vs.length + 1 ≤ vs.length + 2
        omega
theorem drn_ok {R : Type} [Lean.Grind.CommRing R] {co : R → Nat → Fin 5} (H : PL co) {kd : Nat → Nat} {b : Nat} (hb : 1 ≤ b) : ∀ (st : List (Option Nat)) (vs : List (R × R)), Ents kd st → Vals co vs → vs.length = bin kd st + 1 → (drn co kd b st vs).1 = 0 → Ents kd (drn co kd b st vs).2.2.1 ∧ Vals co (drn co kd b st vs).2.2.2 ∧ (drn co kd b st vs).2.2.2.length = bin kd (drn co kd b st vs).2.2.1 + 1 ∧ brk kd (drn co kd b st vs).2.2.1 = brk kd st ∧ (drn co kd b st vs).2.2.1.length ≤ st.length ∧ (drn co kd b st vs).2.2.2.length ≤ vs.length ∧ (∀ s st', (drn co kd b st vs).2.2.1 = s :: st' → lev kd s < b) := by
  intro st
  induction st with
  | nil =>
    intro vs he hv hn h0
    exact ⟨he, hv, hn, rfl, Nat.le_refl _, Nat.le_refl _, fun s st' q => by cases q⟩
  | cons s st ih =>
    intro vs he hv hn h0
    by_cases c : b ≤ lev kd s
    · have e1 : drn co kd b (s :: st) vs = if (ap1 co kd s vs).1 = 0 then drn co kd b st (ap1 co kd s vs).2.2 else ((ap1 co kd s vs).1, (ap1 co kd s vs).2.1, st, vs) := by
        show (if b ≤ lev kd s then _ else _) = _
        rw [if_pos c]
      by_cases z : (ap1 co kd s vs).1 = 0
      · rw [e1, if_pos z] at h0 ⊢
        have a := ap1_ok H (x := 0) he hv (by omega) hn z
        have i := ih _ (ents_t he) a.1 a.2.1 h0
        refine ⟨i.1, i.2.1, i.2.2.1, by rw [i.2.2.2.1, a.2.2.1], ?_, ?_, i.2.2.2.2.2.2⟩
        · have := i.2.2.2.2.1
          show _ ≤ st.length + 1
          omega
        · have := i.2.2.2.2.2.1
          omega
      · rw [e1, if_neg z] at h0
        exact absurd h0 z
    · have e1 : drn co kd b (s :: st) vs = (0, 0, s :: st, vs) := by
        show (if b ≤ lev kd s then _ else _) = _
        rw [if_neg c]
      rw [e1]
      refine ⟨he, hv, hn, rfl, Nat.le_refl _, Nat.le_refl _, fun s' st' q => ?_⟩
      cases q
      omega
end
section
/-! the component's operators on the stack -/
def wI : Option Nat → Int32
  | none => -1
  | some i => nI i
def SW (w : Nat → Int32) : List (Option Nat) → Prop
  | [] => True
  | s :: st => w st.length = wI s ∧ SW w st
def SV {R : Type} (M : Nat → Option R) (b : Nat) : List (R × R) → Prop
  | [] => True
  | v :: vs => M (b + 2 * vs.length) = some v.1 ∧ M (b + 2 * vs.length + 1) = some v.2 ∧ SV M b vs
def KD (ak : Nat → Int32) (kd : Nat → Nat) (n : Nat) : Prop := n ≤ 24 ∧ ∀ i, i < n → ak i = nI (kd i) ∧ kd i ≤ 11
def FE {R : Type} (M M' : Nat → Option R) : Prop := ∀ r, (r < 14 ∨ 52 ≤ r) → M' r = M r
theorem sv_fr {R : Type} {M M' : Nat → Option R} {b : Nat} : ∀ (vs : List (R × R)), SV M b vs → (∀ r, b ≤ r → r < b + 2 * vs.length → M' r = M r) → SV M' b vs := by
  intro vs
  induction vs with
  | nil => intro _ _; trivial
  | cons v vs ih =>
    intro h fr
    have fr' : ∀ r, b ≤ r → r < b + 2 * (vs.length + 1) → M' r = M r := fr
    exact ⟨by rw [fr' _ (by omega) (by omega)]; exact h.1, by rw [fr' _ (by omega) (by omega)]; exact h.2.1, ih h.2.2 (fun r q1 q2 => fr' r q1 (by omega))⟩
theorem sw_up {w : Nat → Int32} {k : Nat} {x : Int32} : ∀ (st : List (Option Nat)), SW w st → st.length ≤ k → SW (upd w k x) st := by
  intro st
  induction st with
  | nil => intro _ _; trivial
  | cons s st ih =>
    intro h hk
    have hk' : st.length + 1 ≤ k := hk
    exact ⟨by rw [pk_un (by omega)]; exact h.1, ih h.2 (by omega)⟩
theorem big_1 {R : Type} [Lean.Grind.CommRing R] {co : R → Nat → Fin 5} {z : R × R} (h : sz co z.1 z.2 ≤ 8) : big co z = (0, z) := if_pos h
theorem big_2 {R : Type} [Lean.Grind.CommRing R] {co : R → Nat → Fin 5} {z : R × R} (h : ¬ sz co z.1 z.2 ≤ 8) : big co z = (4, z) := if_neg h
section
variable {f_count f_place f_operators f_values f_fault f_found f_factored f_pieces f_kernel : Int32} {a_kind a_with a_c a_top a_product a_there a_waiting a_powers a_matrix a_basis : Nat → Int32}
theorem x_ap161 {R : Type} [Lean.Grind.CommRing R] {co : R → Nat → Fin 5} (H : PL co) {M : Nat → Option R} {z : R × R} {a i : Nat} {post : SX → Prop} (h : RX co a_c a_top M) (ha : a + 1 < 76) (h1 : M a = some z.1) (h2 : M (a + 1) = some z.2) (K0 : (big co z).1 = 0 → post (f_count, f_place, f_operators, f_values, 0, f_found, f_factored, f_pieces, f_kernel, a_kind, a_with, a_c, a_top, a_product, a_there, a_waiting, a_powers, a_matrix, a_basis)) (K1 : (big co z).1 = 4 → post (f_count, nI i, f_operators, f_values, 4, f_found, f_factored, f_pieces, f_kernel, a_kind, a_with, a_c, a_top, a_product, a_there, a_waiting, a_powers, a_matrix, a_basis)) : wX_apply_161 post (nI i) (nI a) f_count f_place f_operators f_values 0 f_found f_factored f_pieces f_kernel a_kind a_with a_c a_top a_product a_there a_waiting a_powers a_matrix a_basis := by
  unfold wX_apply_161
  refine br_t rfl ?_
  have l1 := (h a (by omega) _ h1).1
  have l2 := (h (a + 1) ha _ h2).1
  refine x_size H h ha h1 h2 ?_
  by_cases c : sz co z.1 z.2 ≤ 8
  · exact br_t (nI_le (b := 8) c (by decide)) (K0 (by rw [big_1 c]))
  · exact br_f (nI_ge (a := 8) (by omega) (by unfold sz; omega)) (K1 (by rw [big_2 c]))
theorem x_apply_s {R : Type} [Lean.Grind.CommRing R] {co : R → Nat → Fin 5} (H : PL co) {M : Nat → Option R} {w : R × R} {vs : List (R × R)} {st : List (Option Nat)} {post : SX → Prop} (h : RX co a_c a_top M) (hst : st.length < 25) (hvs : 2 * vs.length < 24) (hw : SW a_waiting (none :: st)) (hv : SV M 14 (w :: vs))
    (K : ∀ M' c, RX co c a_top M' → SV M' 14 (ngv co w :: vs) → FE M M' → post (f_count, f_place, nI st.length, nI (vs.length + 1), f_fault, f_found, f_factored, f_pieces, f_kernel, a_kind, a_with, c, a_top, a_product, a_there, a_waiting, a_powers, a_matrix, a_basis)) : wpX_apply post (f_count, f_place, nI (st.length + 1), nI (vs.length + 1), f_fault, f_found, f_factored, f_pieces, f_kernel, a_kind, a_with, a_c, a_top, a_product, a_there, a_waiting, a_powers, a_matrix, a_basis) := by
  unfold wpX_apply
  have e2 : 14 + 2 * nI (vs.length + 1) - 2 = nI (14 + 2 * vs.length) := by
    rw [tw_2, show (14 : Int32) + nI (2 * (vs.length + 1)) = nI (14 + 2 * (vs.length + 1)) from nI_add 14 _, show (2 : Int32) = nI 2 from rfl, pk_sub (by omega)]
    congr 1
  dsimp only
  rw [nI_pred]
  refine nm_e ⟨vp_in_nI (by omega) (by omega), ?_⟩
  rw [nI_clamp (by omega), hw.1]
  refine nm_e (nm_r e2 (br_f (by decide) ?_))
  refine x_scale H (x := 4) h (by omega) hv.1 (by decide) (fun c hx => K _ c hx ⟨uo_s, by rw [uo_n (by omega)]; exact hv.2.1, ?_⟩ (fun r hr => uo_n (by omega)))
  exact sv_fr vs hv.2.2 (fun r q1 q2 => uo_n (by omega))
theorem x_apply_b {R : Type} [Lean.Grind.CommRing R] {co : R → Nat → Fin 5} (H : PL co) {M : Nat → Option R} {v w : R × R} {vs : List (R × R)} {st : List (Option Nat)} {kd : Nat → Nat} {n i : Nat} {post : SX → Prop} (h : RX co a_c a_top M) (hk : KD a_kind kd n) (hin : i < n) (hki : (5 ≤ kd i ∧ kd i ≤ 8) ∨ kd i = 11) (hst : st.length < 25) (hvs : 2 * (vs.length + 1) < 24) (hw : SW a_waiting (some i :: st)) (hv : SV M 14 (w :: v :: vs)) (vv' : Vv co v) (vw : Vv co w)
    (K0 : (bop co (kd i) v w).1 = 0 → ∀ M' c t pr, RX co c t M' → SV M' 14 ((bop co (kd i) v w).2 :: vs) → FE M M' → post (f_count, f_place, nI st.length, nI (vs.length + 1), 0, f_found, f_factored, f_pieces, f_kernel, a_kind, a_with, c, t, pr, a_there, a_waiting, a_powers, a_matrix, a_basis))
    (K1 : (bop co (kd i) v w).1 ≠ 0 → ∀ M' c t pr, RX co c t M' → FE M M' → post (f_count, nI i, nI st.length, nI (vs.length + 1), nI (bop co (kd i) v w).1, f_found, f_factored, f_pieces, f_kernel, a_kind, a_with, c, t, pr, a_there, a_waiting, a_powers, a_matrix, a_basis)) : wpX_apply post (f_count, f_place, nI (st.length + 1), nI (vs.length + 2), 0, f_found, f_factored, f_pieces, f_kernel, a_kind, a_with, a_c, a_top, a_product, a_there, a_waiting, a_powers, a_matrix, a_basis) := by
  unfold wpX_apply
  have hn := hk.1
  have hkk := hk.2 i hin
  have e2 : 14 + 2 * nI (vs.length + 2) - 2 = nI (14 + 2 * (vs.length + 1)) := by
    rw [tw_2, show (14 : Int32) + nI (2 * (vs.length + 2)) = nI (14 + 2 * (vs.length + 2)) from nI_add 14 _, show (2 : Int32) = nI 2 from rfl, pk_sub (by omega)]
    congr 1
  have e3 : nI (14 + 2 * (vs.length + 1)) - 2 = nI (14 + 2 * vs.length) := by
    rw [show (2 : Int32) = nI 2 from rfl, pk_sub (by omega)]
    congr 1
  dsimp only
  rw [nI_pred]
  refine nm_e ⟨vp_in_nI (by omega) (by omega), ?_⟩
  rw [nI_clamp (by omega), hw.1]
  refine nm_e (nm_r e2 (br_t (nI_pos' (show i < 2 ^ 31 by omega)) (nm_r e3 (nm_r (nI_pred _) ⟨vp_in_nI (show i < 24 by omega) (by omega), nm_r (e' := nI (kd i)) (by show a_kind (nI i).toNatClampNeg = nI (kd i); rw [nI_clamp (by omega)]; exact hkk.1) ?_⟩))))
  -- the rows
  have w1 := hv.1
  have w2 := hv.2.1
  have v1 := hv.2.2.1
  have v2 := hv.2.2.2.1
  rw [show (v :: vs).length = vs.length + 1 from rfl] at w1 w2
  have nv := mo_ne H vv'.2.1
  have nw := mo_ne H vw.2.1
  have fe : ∀ M', FX M M' (14 + 2 * vs.length) → FE M M' := fun M' fx r hr => fx r (by omega) (by omega) (by omega)
  have svv : ∀ M', FX M M' (14 + 2 * vs.length) → SV M' 14 vs := fun M' fx => sv_fr vs hv.2.2.2.2 (fun r q1 q2 => fx r (by omega) (by omega) (by omega))
  -- after an operator: is it too large
  have after : ∀ (z : R × R) M' c t pr, bop co (kd i) v w = big co z → RX co c t M' → M' (14 + 2 * vs.length) = some z.1 → M' (14 + 2 * vs.length + 1) = some z.2 → FX M M' (14 + 2 * vs.length) → wX_apply_161 post (nI i) (nI (14 + 2 * vs.length)) f_count f_place (nI st.length) (nI (vs.length + 1)) 0 f_found f_factored f_pieces f_kernel a_kind a_with c t pr a_there a_waiting a_powers a_matrix a_basis := by
    intro z M' c t pr eb hx m1 m2 fx
    refine x_ap161 H hx (by omega) m1 m2 (fun b0 => ?_) (fun b4 => ?_)
    · have e22 : (big co z).2 = z := by unfold big; split <;> rfl
      refine K0 (by rw [eb]; exact b0) M' c t pr hx ?_ (fe M' fx)
      rw [eb, e22]
      exact ⟨m1, m2, svv M' fx⟩
    · have := K1 (by rw [eb, b4]; decide) M' c t pr hx (fe M' fx)
      rw [eb, b4] at this
      exact this
  by_cases c11 : kd i = 11
  · have eb : bop co (kd i) v w = cif (sz co w.1 w.2 = 0 ∧ vv co v.2 (co w.1 0) = 0) (3, v) (if 8 < sz co v.1 v.2 * sz co w.1 w.2 then (4, v) else big co (rd2 co (PU co v.1 w.1 w.2 (sz co v.1 v.2)) (PU co v.2 w.1 w.2 (sz co v.1 v.2)))) := by
      unfold bop
      rw [if_neg (by omega), if_neg (by omega), if_neg (by omega), if_neg (by omega)]
    refine br_f (by rw [c11]; decide) (br_t (by rw [c11]; decide) ?_)
    refine x_compose H (b := 14 + 2 * (vs.length + 1)) h (by omega) (by omega) v1 v2 w1 w2 vv' vw (fun z1 z2 => ?_) (fun nz l => ?_) (fun nz l M' c t pr hx m1 m2 fx => ?_)
    · have b3 : bop co (kd i) v w = (3, v) := by rw [eb, cif_t ⟨z1, z2⟩]
      have := K1 (by rw [b3]; simp) M a_c a_top a_product h (fun _ _ => rfl)
      rw [b3] at this
      unfold wX_apply_161
      exact br_f (show ¬ (3 : Int32) = 0 by decide) this
    · have b4 : bop co (kd i) v w = (4, v) := by rw [eb, cif_f nz, if_pos l]
      have := K1 (by rw [b4]; simp) M a_c a_top a_product h (fun _ _ => rfl)
      rw [b4] at this
      unfold wX_apply_161
      exact br_f (show ¬ (4 : Int32) = 0 by decide) this
    · exact after _ M' c t pr (by rw [eb, cif_f nz, if_neg (by omega)]) hx m1 m2 fx
  · refine br_f (nI_nlt (b := 5) (by omega) (by omega)) (br_f (nI_nlt (a := 8) (by omega) (by omega)) ?_)
    by_cases c5 : kd i = 5
    · refine br_t (by rw [c5]; rfl) ?_
      exact x_sum H (f := 1) h (by omega) (by omega) v1 v2 w1 w2 vv'.2.2.1 vv'.2.2.2 vw.2.2.1 vw.2.2.2 nv nw (fun x y => c_addm x 1 y) (fun M' c t pr hx m1 m2 fx => after _ M' c t pr (by unfold bop; rw [if_pos c5]) hx m1 m2 fx)
    · refine br_f (by rw [show (5 : Int32) = nI 5 from rfl, nI_eq (by omega) (by omega)]; exact c5) ?_
      by_cases c6 : kd i = 6
      · refine br_t (by rw [c6]; rfl) ?_
        exact x_sum H (f := 4) h (by omega) (by omega) v1 v2 w1 w2 vv'.2.2.1 vv'.2.2.2 vw.2.2.1 vw.2.2.2 nv nw (fun x y => c_addm x 4 y) (fun M' c t pr hx m1 m2 fx => after _ M' c t pr (by unfold bop; rw [if_neg c5, if_pos c6]) hx m1 m2 fx)
      · refine br_f (by rw [show (6 : Int32) = nI 6 from rfl, nI_eq (by omega) (by omega)]; exact c6) ?_
        by_cases c7 : kd i = 7
        · refine br_t (by rw [c7]; rfl) ?_
          rw [nI_1]
          exact x_times H h (by omega) (by omega) (by omega) (by omega) (by omega) v1 v2 w1 w2 vv'.2.2.1 vv'.2.2.2 vw.2.2.1 vw.2.2.2 nv nw (fun M' c t pr hx m1 m2 fx => after _ M' c t pr (by unfold bop; rw [if_neg c5, if_neg c6, if_pos c7]) hx m1 m2 (fun r q1 q2 q3 => fx r q1 q2 (by omega) (by omega) (by omega)))
        · refine br_f (by rw [show (7 : Int32) = nI 7 from rfl, nI_eq (by omega) (by omega)]; exact c7) ?_
          have c8 : kd i = 8 := by omega
          have eb : bop co (kd i) v w = cif (w.1 = 0) (3, v) (big co (rd2 co (v.1 * w.2) (v.2 * w.1))) := by
            unfold bop
            rw [if_neg c5, if_neg c6, if_neg c7, if_pos c8]
          refine br_t (by rw [c8]; rfl) ⟨vp_in_nI (by omega) (by omega), ?_⟩
          have tw := (h _ (by omega) _ w1).2.2
          have lw := vw.2.2.1
          rw [nI_clamp (by omega), tw]
          by_cases z : w.1 = 0
          · have b3 : bop co (kd i) v w = (3, v) := by rw [eb, cif_t z]
            have := K1 (by rw [b3]; simp) M a_c a_top a_product h (fun _ _ => rfl)
            rw [b3] at this
            refine br_f (by rw [ti_nn (by omega), z, dl_0 H]; omega) ?_
            unfold wpX_fail wX_apply_161
            exact br_f (show ¬ (3 : Int32) = 0 by decide) this
          · refine br_t (by rw [ti_nn (by omega)]; exact dl_ne H z) ?_
            rw [nI_1]
            exact x_times H h (by omega) (by omega) (by omega) (by omega) (by omega) v1 v2 w2 w1 vv'.2.2.1 vv'.2.2.2 vw.2.2.2 vw.2.2.1 nv z (fun M' c t pr hx m1 m2 fx => after _ M' c t pr (by rw [eb, cif_f z]) hx m1 m2 (fun r q1 q2 q3 => fx r q1 q2 (by omega) (by omega) (by omega)))
end
end
section
/-! the component goes through a formula -/
def bI (b : Bool) : Int32 := if b = true then 1 else 0
/-- below an @ lies no @ -/
def NA (kd : Nat → Nat) : List (Option Nat) → Prop
  | s :: s' :: st => (lev kd s = 3 → lev kd s' < 3) ∧ NA kd (s' :: st)
  | _ => True
theorem na_t {kd : Nat → Nat} {s : Option Nat} {st : List (Option Nat)} (h : NA kd (s :: st)) : NA kd st := by
  match st with
  | [] => trivial
  | s' :: st => exact h.2
theorem na_c {kd : Nat → Nat} {s : Option Nat} {st : List (Option Nat)} (h : NA kd st) (h1 : lev kd s < 3 ∨ ∀ s' st', st = s' :: st' → lev kd s' < 3) : NA kd (s :: st) := by
  match st with
  | [] => trivial
  | s' :: st =>
    refine ⟨fun q => ?_, h⟩
    rcases h1 with z | z
    · omega
    · exact z s' st rfl
theorem drn_s1 {R : Type} [Lean.Grind.CommRing R] {co : R → Nat → Fin 5} {kd : Nat → Nat} {b : Nat} {s : Option Nat} {st : List (Option Nat)} {vs : List (R × R)} (h : b ≤ lev kd s) (z : (ap1 co kd s vs).1 = 0) : drn co kd b (s :: st) vs = drn co kd b st (ap1 co kd s vs).2.2 := by
  show (if b ≤ lev kd s then (if (ap1 co kd s vs).1 = 0 then drn co kd b st (ap1 co kd s vs).2.2 else _) else _) = _
  rw [if_pos h, if_pos z]
theorem drn_s2 {R : Type} [Lean.Grind.CommRing R] {co : R → Nat → Fin 5} {kd : Nat → Nat} {b : Nat} {s : Option Nat} {st : List (Option Nat)} {vs : List (R × R)} (h : b ≤ lev kd s) (z : ¬ (ap1 co kd s vs).1 = 0) : drn co kd b (s :: st) vs = ((ap1 co kd s vs).1, (ap1 co kd s vs).2.1, st, vs) := by
  show (if b ≤ lev kd s then (if (ap1 co kd s vs).1 = 0 then drn co kd b st (ap1 co kd s vs).2.2 else ((ap1 co kd s vs).1, (ap1 co kd s vs).2.1, st, vs)) else _) = _
  rw [if_pos h, if_neg z]
theorem drn_s3 {R : Type} [Lean.Grind.CommRing R] {co : R → Nat → Fin 5} {kd : Nat → Nat} {b : Nat} {s : Option Nat} {st : List (Option Nat)} {vs : List (R × R)} (h : ¬ b ≤ lev kd s) : drn co kd b (s :: st) vs = (0, 0, s :: st, vs) := by
  show (if b ≤ lev kd s then (if (ap1 co kd s vs).1 = 0 then drn co kd b st (ap1 co kd s vs).2.2 else ((ap1 co kd s vs).1, (ap1 co kd s vs).2.1, st, vs)) else (0, 0, s :: st, vs)) = _
  rw [if_neg h]
theorem drn_na {R : Type} [Lean.Grind.CommRing R] {co : R → Nat → Fin 5} {kd : Nat → Nat} {b : Nat} : ∀ (st : List (Option Nat)) (vs : List (R × R)), NA kd st → NA kd (drn co kd b st vs).2.2.1 := by
  intro st
  induction st with
  | nil => intro vs _; trivial
  | cons s st ih =>
    intro vs h
    by_cases c : b ≤ lev kd s
    · by_cases z : (ap1 co kd s vs).1 = 0
      · rw [drn_s1 c z]; exact ih _ (na_t h)
      · rw [drn_s2 c z]; exact na_t h
    · rw [drn_s3 c]; exact h
/-- to carry out an @ at the top is to empty the stack down to what binds less than @ -/
theorem egr_drn {R : Type} [Lean.Grind.CommRing R] {co : R → Nat → Fin 5} {kd : Nat → Nat} {st : List (Option Nat)} {vs : List (R × R)} (h : NA kd st) : (egr co kd st vs).1 = (drn co kd 3 st vs).1 ∧ ((egr co kd st vs).1 ≠ 0 → (egr co kd st vs).2.1 = (drn co kd 3 st vs).2.1) ∧ ((egr co kd st vs).1 = 0 → (egr co kd st vs).2.2 = (drn co kd 3 st vs).2.2) := by
  match st with
  | [] => exact ⟨rfl, fun _ => rfl, fun _ => rfl⟩
  | s :: st =>
    by_cases c : lev kd s = 3
    · have e : egr co kd (s :: st) vs = ((ap1 co kd s vs).1, (ap1 co kd s vs).2.1, st, (ap1 co kd s vs).2.2) := by
        show (if lev kd s = 3 then _ else _) = _
        rw [if_pos c]
      by_cases z : (ap1 co kd s vs).1 = 0
      · have e2 : drn co kd 3 st (ap1 co kd s vs).2.2 = (0, 0, st, (ap1 co kd s vs).2.2) := by
          match st with
          | [] => rfl
          | s' :: st => exact drn_s3 (by have := h.1 c; omega)
        rw [e, drn_s1 (by omega) z, e2]
        exact ⟨z, fun q => absurd z q, fun _ => rfl⟩
      · rw [e, drn_s2 (by omega) z]
        exact ⟨rfl, fun _ => rfl, fun q => absurd q z⟩
    · have e : egr co kd (s :: st) vs = (0, 0, s :: st, vs) := by
        show (if lev kd s = 3 then _ else _) = _
        rw [if_neg c]
      rw [e, drn_s3 (by have := lev_le kd s; omega)]
      exact ⟨rfl, fun _ => rfl, fun _ => rfl⟩
theorem drn_drn {R : Type} [Lean.Grind.CommRing R] {co : R → Nat → Fin 5} {kd : Nat → Nat} {b : Nat} (hb : b ≤ 3) : ∀ (st : List (Option Nat)) (vs : List (R × R)), (drn co kd 3 st vs).1 = 0 → drn co kd b (drn co kd 3 st vs).2.2.1 (drn co kd 3 st vs).2.2.2 = drn co kd b st vs := by
  intro st
  induction st with
  | nil => intro vs _; rfl
  | cons s st ih =>
    intro vs h
    by_cases c : 3 ≤ lev kd s
    · by_cases z : (ap1 co kd s vs).1 = 0
      · rw [drn_s1 c z] at h ⊢
        rw [ih _ h, drn_s1 (by omega) z]
      · rw [drn_s2 c z] at h
        exact absurd h z
    · rw [drn_s3 c]
theorem drn_flt {R : Type} [Lean.Grind.CommRing R] {co : R → Nat → Fin 5} {kd : Nat → Nat} {b : Nat} (hb : b ≤ 3) : ∀ (st : List (Option Nat)) (vs : List (R × R)), (drn co kd 3 st vs).1 ≠ 0 → (drn co kd b st vs).1 = (drn co kd 3 st vs).1 ∧ (drn co kd b st vs).2.1 = (drn co kd 3 st vs).2.1 := by
  intro st
  induction st with
  | nil => intro vs h; exact absurd rfl h
  | cons s st ih =>
    intro vs h
    by_cases c : 3 ≤ lev kd s
    · by_cases z : (ap1 co kd s vs).1 = 0
      · rw [drn_s1 c z] at h ⊢
        rw [drn_s1 (by omega) z]
        exact ih _ h
      · rw [drn_s2 c z, drn_s2 (by omega) z]
        exact ⟨rfl, rfl⟩
    · rw [drn_s3 c] at h
      exact absurd rfl h
section
variable {f_count f_place f_operators f_values f_fault f_found f_factored f_pieces f_kernel : Int32} {a_kind a_with a_c a_top a_product a_there a_waiting a_powers a_matrix a_basis : Nat → Int32}
/-- what the machine's state is in the component -/
def XM {R : Type} [Lean.Grind.CommRing R] (co : R → Nat → Fin 5) (kd : Nat → Nat) (n : Nat) (ak aw : Nat → Int32) (M : Nat → Option R) (st : List (Option Nat)) (vs : List (R × R)) : Prop :=
  KD ak kd n ∧ SW aw st ∧ SV M 14 vs ∧ Ents kd st ∧ Vals co vs ∧ (∀ i, some i ∈ st → i < n) ∧ st.length ≤ 24 ∧ 2 * vs.length ≤ 24
def XK (kd : Nat → Nat) (n : Nat) (ak aw : Nat → Int32) (st : List (Option Nat)) : Prop := KD ak kd n ∧ SW aw st ∧ Ents kd st ∧ (∀ i, some i ∈ st → i < n) ∧ st.length ≤ 24
theorem xm_xk {R : Type} [Lean.Grind.CommRing R] {co : R → Nat → Fin 5} {kd : Nat → Nat} {n : Nat} {ak aw : Nat → Int32} {M : Nat → Option R} {st : List (Option Nat)} {vs : List (R × R)} (h : XM co kd n ak aw M st vs) : XK kd n ak aw st := ⟨h.1, h.2.1, h.2.2.2.1, h.2.2.2.2.2.1, h.2.2.2.2.2.2.1⟩
theorem x_waits {kd : Nat → Nat} {n : Nat} {st : List (Option Nat)} {post : Int32 → Prop} (hm : XK kd n a_kind a_waiting st) (K0 : st = [] → post 0) (K1 : ∀ s st', st = s :: st' → post (nI (lev kd s))) : wpX_waits post (f_count, f_place, nI st.length, f_values, f_fault, f_found, f_factored, f_pieces, f_kernel, a_kind, a_with, a_c, a_top, a_product, a_there, a_waiting, a_powers, a_matrix, a_basis) := by
  unfold wpX_waits
  obtain ⟨hk, hw, he, hin, hl⟩ := hm
  match st with
  | [] => exact br_t rfl (K0 rfl)
  | s :: st =>
    have hl' : st.length + 1 ≤ 24 := hl
    refine br_f (nI_ne0 (Nat.succ_pos _) (by show st.length + 1 < 2 ^ 31; omega)) ?_
    rw [show (s :: st).length = st.length + 1 from rfl, nI_pred]
    refine ⟨vp_in_nI (by omega) (by omega), ?_⟩
    rw [nI_clamp (by omega), hw.1]
    have k1 := K1 s st rfl
    match s with
    | none => exact nm_e (br_f (by decide) k1)
    | some i =>
      have hi := hin i (List.mem_cons_self)
      have h24 := hk.1
      have ki := hk.2 i hi
      refine nm_e (br_t (nI_pos' (show i < 2 ^ 31 by omega)) ⟨vp_in_nI (show i < 24 by omega) (by omega), ?_⟩)
      show wpX_binding _ (a_kind (nI i).toNatClampNeg)
      rw [nI_clamp (by omega), ki.1]
      unfold wpX_binding
      unfold lev at k1
      dsimp only at k1
      have lit : ∀ c : Nat, c < 2 ^ 31 → (nI (kd i) = nI c ↔ kd i = c) := fun c hc => nI_eq (by omega) hc
      by_cases c11 : kd i = 11
      · rw [if_pos c11] at k1
        exact br_t ((lit 11 (by decide)).mpr c11) k1
      · rw [if_neg c11] at k1
        refine br_f (fun z => c11 ((lit 11 (by decide)).mp z)) ?_
        by_cases c7 : kd i = 7
        · rw [if_pos (Or.inl c7)] at k1
          exact br_t ((lit 7 (by decide)).mpr c7) k1
        · refine br_f (fun z => c7 ((lit 7 (by decide)).mp z)) ?_
          by_cases c8 : kd i = 8
          · rw [if_pos (Or.inr c8)] at k1
            exact br_t ((lit 8 (by decide)).mpr c8) k1
          · rw [if_neg (by omega)] at k1
            refine br_f (fun z => c8 ((lit 8 (by decide)).mp z)) ?_
            by_cases c5 : kd i = 5
            · rw [if_pos (Or.inl c5)] at k1
              exact br_t ((lit 5 (by decide)).mpr c5) k1
            · refine br_f (fun z => c5 ((lit 5 (by decide)).mp z)) ?_
              by_cases c6 : kd i = 6
              · rw [if_pos (Or.inr c6)] at k1
                exact br_t ((lit 6 (by decide)).mpr c6) k1
              · rw [if_neg (by omega)] at k1
                exact br_f (fun z => c6 ((lit 6 (by decide)).mp z)) k1
theorem x_ap {R : Type} [Lean.Grind.CommRing R] {co : R → Nat → Fin 5} (H : PL co) {kd : Nat → Nat} {n : Nat} {M : Nat → Option R} {s : Option Nat} {st : List (Option Nat)} {vs : List (R × R)} {post : SX → Prop} (h : RX co a_c a_top M) (hm : XM co kd n a_kind a_waiting M (s :: st) vs) (hl : 1 ≤ lev kd s) (hn : vs.length = bin kd (s :: st) + 1)
    (K0 : (ap1 co kd s vs).1 = 0 → ∀ M' c t pr, RX co c t M' → XM co kd n a_kind a_waiting M' st (ap1 co kd s vs).2.2 → FE M M' → post (f_count, f_place, nI st.length, nI (ap1 co kd s vs).2.2.length, 0, f_found, f_factored, f_pieces, f_kernel, a_kind, a_with, c, t, pr, a_there, a_waiting, a_powers, a_matrix, a_basis))
    (K1 : (ap1 co kd s vs).1 ≠ 0 → ∀ M' c t pr vl, RX co c t M' → FE M M' → post (f_count, nI (ap1 co kd s vs).2.1, nI st.length, vl, nI (ap1 co kd s vs).1, f_found, f_factored, f_pieces, f_kernel, a_kind, a_with, c, t, pr, a_there, a_waiting, a_powers, a_matrix, a_basis)) : wpX_apply post (f_count, f_place, nI (s :: st).length, nI vs.length, 0, f_found, f_factored, f_pieces, f_kernel, a_kind, a_with, a_c, a_top, a_product, a_there, a_waiting, a_powers, a_matrix, a_basis) := by
  obtain ⟨hk, hw, hv, he, hva, hin, hl24, hl2⟩ := hm
  have hst : st.length + 1 ≤ 24 := hl24
  match s, vs with
  | none, [] => exact absurd hn (by show ¬ 0 = bin kd st + 1; omega)
  | none, w :: vs =>
    have hvl : 2 * (vs.length + 1) ≤ 24 := hl2
    refine x_apply_s H h (by omega) (by omega) hw hv (fun M' c hx sv fe => K0 rfl M' c a_top a_product hx ⟨hk, hw.2, sv, ents_t he, vals_c (ngv_va H (vals_h hva)) (vals_t hva), fun i hi => hin i (List.mem_cons_of_mem _ hi), by omega, hvl⟩ fe)
  | some i, vs =>
    have nb := lev_nb rfl hl (ents_h he)
    have hi := hin i (List.mem_cons_self)
    have b1 : bin kd (some i :: st) = 1 + bin kd st := by
      show (if kd i = 3 then 0 else 1) + bin kd st = _
      rw [if_neg (by omega)]
    rw [b1] at hn
    match vs with
    | [] => exact absurd hn (by show ¬ 0 = _; omega)
    | [w] => exact absurd hn (by show ¬ 1 = _; omega)
    | w :: v :: vs =>
      have hvl : 2 * (vs.length + 2) ≤ 24 := hl2
      exact x_apply_b H h hk hi nb (by omega) (by omega) hw hv (vals_h (vals_t hva)) (vals_h hva) (fun b0 M' c t pr hx sv fe => K0 b0 M' c t pr hx ⟨hk, hw.2, sv, ents_t he, vals_c (bop_va H (vals_h (vals_t hva)) (vals_h hva) b0) (vals_t (vals_t hva)), fun i hi => hin i (List.mem_cons_of_mem _ hi), by omega, by show 2 * (vs.length + 1) ≤ 24; omega⟩ fe) (fun b1 M' c t pr hx fe => K1 b1 M' c t pr _ hx fe)
theorem fe_tr {R : Type} {M M' M'' : Nat → Option R} (h : FE M M') (g : FE M' M'') : FE M M'' := fun r hr => by rw [g r hr]; exact h r hr
theorem xk_t {kd : Nat → Nat} {n : Nat} {ak aw : Nat → Int32} {s : Option Nat} {st : List (Option Nat)} (h : XK kd n ak aw (s :: st)) : XK kd n ak aw st :=
  ⟨h.1, h.2.1.2, ents_t h.2.2.1, fun i hi => h.2.2.2.1 i (List.mem_cons_of_mem _ hi), by have : st.length + 1 ≤ 24 := h.2.2.2.2; omega⟩
theorem ap1_c {R : Type} [Lean.Grind.CommRing R] {co : R → Nat → Fin 5} (kd : Nat → Nat) (s : Option Nat) (vs : List (R × R)) : (ap1 co kd s vs).1 = 0 ∨ (ap1 co kd s vs).1 = 3 ∨ (ap1 co kd s vs).1 = 4 := by
  match s, vs with
  | none, [] => exact Or.inl rfl
  | none, w :: vs => exact Or.inl rfl
  | some i, [] => exact Or.inl rfl
  | some i, [w] => exact Or.inl rfl
  | some i, w :: v :: vs => exact bop_c _ _ _
theorem ap1_n0 {R : Type} [Lean.Grind.CommRing R] {co : R → Nat → Fin 5} {kd : Nat → Nat} {s : Option Nat} {vs : List (R × R)} (h : (ap1 co kd s vs).1 ≠ 0) : ¬ nI (ap1 co kd s vs).1 = 0 := by
  have := ap1_c (co := co) kd s vs
  exact nI_ne0 (by omega) (by omega)
/-- values for the whole stack stay enough -/
def Bn (kd : Nat → Nat) (st : List (Option Nat)) (n : Nat) : Prop := n = bin kd st + 1
theorem x_d197 {R : Type} [Lean.Grind.CommRing R] {co : R → Nat → Fin 5} (H : PL co) {kd : Nat → Nat} {n b : Nat} {x1 : Int32} {post : SX → Prop} {M0 : Nat → Option R} (hb1 : 1 ≤ b) (hb3 : b ≤ 3) {st0 : List (Option Nat)} {vs0 : List (R × R)}
    (K0 : (drn co kd b st0 vs0).1 = 0 → ∀ M c t pr, RX co c t M → XM co kd n a_kind a_waiting M (drn co kd b st0 vs0).2.2.1 (drn co kd b st0 vs0).2.2.2 → FE M0 M → wX_take_225 post x1 0 f_count f_place (nI (drn co kd b st0 vs0).2.2.1.length) (nI (drn co kd b st0 vs0).2.2.2.length) 0 f_found f_factored f_pieces f_kernel a_kind a_with c t pr a_there a_waiting a_powers a_matrix a_basis)
    (K1 : (drn co kd b st0 vs0).1 ≠ 0 → ∀ M c t pr vl h, h < 24 → RX co c t M → FE M0 M → wX_take_225 post x1 0 f_count (nI (drn co kd b st0 vs0).2.1) (nI h) vl (nI (drn co kd b st0 vs0).1) f_found f_factored f_pieces f_kernel a_kind a_with c t pr a_there a_waiting a_powers a_matrix a_basis) :
    ∀ (st : List (Option Nat)) (vs : List (R × R)) M c t pr, drn co kd b st vs = drn co kd b st0 vs0 → RX co c t M → XM co kd n a_kind a_waiting M st vs → vs.length = bin kd st + 1 → FE M0 M → ∀ m, st.length + 1 < m → wX_take_197 post x1 (nI b) 0 m f_count f_place (nI st.length) (nI vs.length) 0 f_found f_factored f_pieces f_kernel a_kind a_with c t pr a_there a_waiting a_powers a_matrix a_basis := by
  intro st
  induction st with
  | nil =>
    intro vs M c t pr e hx hm hn fe m hmm
    obtain ⟨m, rfl⟩ : ∃ k, m = k + 1 := ⟨m - 1, by omega⟩
    rw [← e] at K0
    refine br_t rfl (x_waits (st := []) (xm_xk hm) (fun _ => br_t (nI_lt (a := 0) (by omega) (by omega)) (K0 rfl M c t pr hx hm fe)) (fun s st' q => by cases q))
  | cons s st ih =>
    intro vs M c t pr e hx hm hn fe m hmm
    obtain ⟨m, rfl⟩ : ∃ k, m = k + 1 := ⟨m - 1, by omega⟩
    have hmm' : st.length + 1 + 1 < m + 1 := hmm
    refine br_t rfl (x_waits (xm_xk hm) (fun q => by cases q) (fun s' st' q => ?_))
    cases q
    have l3 := lev_le kd s
    by_cases c1 : b ≤ lev kd s
    · refine br_f (nI_nlt c1 (by omega)) (br_t rfl ?_)
      refine x_ap H hx hm (by omega) hn (fun z M' c' t' pr' hx' hm' fe' => ?_) (fun z M' c' t' pr' vl hx' fe' => ?_)
      · rw [drn_s1 c1 z] at e
        have a := ap1_ok H (x := 0) hm.2.2.2.1 hm.2.2.2.2.1 (by omega) hn z
        exact ih _ M' c' t' pr' e hx' hm' a.2.1 (fe_tr fe fe') m (by omega)
      · rw [drn_s2 c1 z] at e
        rw [← e] at K1
        have lt : st.length + 1 ≤ 24 := (xm_xk hm).2.2.2.2
        have k1 := K1 z M' c' t' pr' vl st.length (by omega) hx' (fe_tr fe fe')
        obtain ⟨m, rfl⟩ : ∃ k, m = k + 1 := ⟨m - 1, by omega⟩
        refine br_t rfl (x_waits (xk_t (xm_xk hm)) (fun _ => br_c (fun _ => k1) (fun _ => br_f (ap1_n0 z) k1)) (fun _ _ _ => br_c (fun _ => k1) (fun _ => br_f (ap1_n0 z) k1)))
    · rw [drn_s3 c1] at e
      rw [← e] at K0
      exact br_t (nI_lt (by omega) (by omega)) (K0 rfl M c t pr hx hm fe)
theorem x_d100 {R : Type} [Lean.Grind.CommRing R] {co : R → Nat → Fin 5} (H : PL co) {kd : Nat → Nat} {n : Nat} {post : SX → Prop} {M0 : Nat → Option R} {st0 : List (Option Nat)} {vs0 : List (R × R)}
    (K0 : (drn co kd 1 st0 vs0).1 = 0 → ∀ M c t pr, RX co c t M → XM co kd n a_kind a_waiting M (drn co kd 1 st0 vs0).2.2.1 (drn co kd 1 st0 vs0).2.2.2 → FE M0 M → post (f_count, f_place, nI (drn co kd 1 st0 vs0).2.2.1.length - 1, nI (drn co kd 1 st0 vs0).2.2.2.length, 0, f_found, f_factored, f_pieces, f_kernel, a_kind, a_with, c, t, pr, a_there, a_waiting, a_powers, a_matrix, a_basis))
    (K1 : (drn co kd 1 st0 vs0).1 ≠ 0 → ∀ M c t pr vl h, RX co c t M → FE M0 M → post (f_count, nI (drn co kd 1 st0 vs0).2.1, h, vl, nI (drn co kd 1 st0 vs0).1, f_found, f_factored, f_pieces, f_kernel, a_kind, a_with, c, t, pr, a_there, a_waiting, a_powers, a_matrix, a_basis)) :
    ∀ (st : List (Option Nat)) (vs : List (R × R)) M c t pr, drn co kd 1 st vs = drn co kd 1 st0 vs0 → RX co c t M → XM co kd n a_kind a_waiting M st vs → vs.length = bin kd st + 1 → FE M0 M → ∀ m, st.length + 1 < m → wX_take_100 post m f_count f_place (nI st.length) (nI vs.length) 0 f_found f_factored f_pieces f_kernel a_kind a_with c t pr a_there a_waiting a_powers a_matrix a_basis := by
  intro st
  induction st with
  | nil =>
    intro vs M c t pr e hx hm hn fe m hmm
    obtain ⟨m, rfl⟩ : ∃ k, m = k + 1 := ⟨m - 1, by omega⟩
    rw [← e] at K0
    unfold wX_take_100
    exact x_waits (st := []) (xm_xk hm) (fun _ => br_t (by decide) (nm_e (K0 rfl M c t pr hx hm fe))) (fun s st' q => by cases q)
  | cons s st ih =>
    intro vs M c t pr e hx hm hn fe m hmm
    obtain ⟨m, rfl⟩ : ∃ k, m = k + 1 := ⟨m - 1, by omega⟩
    have hmm' : st.length + 1 + 1 < m + 1 := hmm
    unfold wX_take_100
    refine x_waits (xm_xk hm) (fun q => by cases q) (fun s' st' q => ?_)
    cases q
    have l3 := lev_le kd s
    by_cases c1 : 1 ≤ lev kd s
    · refine br_f (nI_nle (by omega) (by omega)) (br_t rfl ?_)
      refine x_ap H hx hm (by omega) hn (fun z M' c' t' pr' hx' hm' fe' => ?_) (fun z M' c' t' pr' vl hx' fe' => ?_)
      · rw [drn_s1 c1 z] at e
        have a := ap1_ok H (x := 0) hm.2.2.2.1 hm.2.2.2.2.1 (by omega) hn z
        exact ih _ M' c' t' pr' e hx' hm' a.2.1 (fe_tr fe fe') m (by omega)
      · rw [drn_s2 c1 z] at e
        rw [← e] at K1
        have k1 := fun h => K1 z M' c' t' pr' vl h hx' (fe_tr fe fe')
        obtain ⟨m, rfl⟩ : ∃ k, m = k + 1 := ⟨m - 1, by omega⟩
        unfold wX_take_100
        exact x_waits (xk_t (xm_xk hm)) (fun _ => br_c (fun _ => nm_e (k1 _)) (fun _ => br_f (ap1_n0 z) (nm_e (k1 _)))) (fun _ _ _ => br_c (fun _ => nm_e (k1 _)) (fun _ => br_f (ap1_n0 z) (nm_e (k1 _))))
    · rw [drn_s3 c1] at e
      rw [← e] at K0
      exact br_t (by rw [show lev kd s = 0 by omega]; decide) (nm_e (K0 rfl M c t pr hx hm fe))
theorem x_d132 {R : Type} [Lean.Grind.CommRing R] {co : R → Nat → Fin 5} (H : PL co) {kd : Nat → Nat} {n : Nat} {x1 x3 : Int32} {post : SX → Prop} {M0 : Nat → Option R} {st0 : List (Option Nat)} {vs0 : List (R × R)}
    (K0 : (drn co kd 3 st0 vs0).1 = 0 → ∀ M c t pr, RX co c t M → XM co kd n a_kind a_waiting M (drn co kd 3 st0 vs0).2.2.1 (drn co kd 3 st0 vs0).2.2.2 → FE M0 M → wX_take_154 post x1 x3 f_count f_place (nI (drn co kd 3 st0 vs0).2.2.1.length) (nI (drn co kd 3 st0 vs0).2.2.2.length) 0 f_found f_factored f_pieces f_kernel a_kind a_with c t pr a_there a_waiting a_powers a_matrix a_basis)
    (K1 : (drn co kd 3 st0 vs0).1 ≠ 0 → ∀ M c t pr vl h, RX co c t M → FE M0 M → post (f_count, nI (drn co kd 3 st0 vs0).2.1, h, vl, nI (drn co kd 3 st0 vs0).1, f_found, f_factored, f_pieces, f_kernel, a_kind, a_with, c, t, pr, a_there, a_waiting, a_powers, a_matrix, a_basis)) :
    ∀ (st : List (Option Nat)) (vs : List (R × R)) M c t pr, drn co kd 3 st vs = drn co kd 3 st0 vs0 → RX co c t M → XM co kd n a_kind a_waiting M st vs → vs.length = bin kd st + 1 → FE M0 M → ∀ m, st.length + 1 < m → wX_take_132 post x1 x3 m f_count f_place (nI st.length) (nI vs.length) 0 f_found f_factored f_pieces f_kernel a_kind a_with c t pr a_there a_waiting a_powers a_matrix a_basis := by
  intro st
  induction st with
  | nil =>
    intro vs M c t pr e hx hm hn fe m hmm
    obtain ⟨m, rfl⟩ : ∃ k, m = k + 1 := ⟨m - 1, by omega⟩
    rw [← e] at K0
    unfold wX_take_132
    exact x_waits (st := []) (xm_xk hm) (fun _ => br_f (by decide) (K0 rfl M c t pr hx hm fe)) (fun s st' q => by cases q)
  | cons s st ih =>
    intro vs M c t pr e hx hm hn fe m hmm
    obtain ⟨m, rfl⟩ : ∃ k, m = k + 1 := ⟨m - 1, by omega⟩
    have hmm' : st.length + 1 + 1 < m + 1 := hmm
    unfold wX_take_132
    refine x_waits (xm_xk hm) (fun q => by cases q) (fun s' st' q => ?_)
    cases q
    have l3 := lev_le kd s
    by_cases c1 : 3 ≤ lev kd s
    · refine br_t (by rw [show lev kd s = 3 by omega]; rfl) (br_t rfl ?_)
      refine x_ap H hx hm (by omega) hn (fun z M' c' t' pr' hx' hm' fe' => ?_) (fun z M' c' t' pr' vl hx' fe' => ?_)
      · rw [drn_s1 c1 z] at e
        have a := ap1_ok H (x := 0) hm.2.2.2.1 hm.2.2.2.2.1 (by omega) hn z
        exact ih _ M' c' t' pr' e hx' hm' a.2.1 (fe_tr fe fe') m (by omega)
      · rw [drn_s2 c1 z] at e
        rw [← e] at K1
        have k1 : wX_take_154 post x1 x3 f_count (nI (ap1 co kd s vs).2.1) (nI st.length) vl (nI (ap1 co kd s vs).1) f_found f_factored f_pieces f_kernel a_kind a_with c' t' pr' a_there a_waiting a_powers a_matrix a_basis := br_f (ap1_n0 z) (K1 z M' c' t' pr' vl _ hx' (fe_tr fe fe'))
        obtain ⟨m, rfl⟩ : ∃ k, m = k + 1 := ⟨m - 1, by omega⟩
        unfold wX_take_132
        exact x_waits (xk_t (xm_xk hm)) (fun _ => br_c (fun _ => br_f (ap1_n0 z) k1) (fun _ => k1)) (fun _ _ _ => br_c (fun _ => br_f (ap1_n0 z) k1) (fun _ => k1))
    · rw [drn_s3 c1] at e
      rw [← e] at K0
      refine br_f (fun q => c1 ?_) (K0 rfl M c t pr hx hm fe)
      have := (nI_eq (a := lev kd s) (b := 3) (by omega) (by decide)).mp q
      omega
theorem x_d87 {R : Type} [Lean.Grind.CommRing R] {co : R → Nat → Fin 5} (H : PL co) {kd : Nat → Nat} {n : Nat} {post : Int32 → SX → Prop} {M0 : Nat → Option R} {st0 : List (Option Nat)} {vs0 : List (R × R)}
    (K0 : (drn co kd 1 st0 vs0).1 = 0 → ∀ M c t pr, RX co c t M → XM co kd n a_kind a_waiting M [] (drn co kd 1 st0 vs0).2.2.2 → FE M0 M → wX_evaluate_108 post f_count f_place 0 (nI (drn co kd 1 st0 vs0).2.2.2.length) 0 f_found f_factored f_pieces f_kernel a_kind a_with c t pr a_there a_waiting a_powers a_matrix a_basis)
    (K1 : (drn co kd 1 st0 vs0).1 ≠ 0 → ∀ M c t pr vl h, RX co c t M → FE M0 M → post (nI (drn co kd 1 st0 vs0).1) (f_count, nI (drn co kd 1 st0 vs0).2.1, h, vl, nI (drn co kd 1 st0 vs0).1, f_found, f_factored, f_pieces, f_kernel, a_kind, a_with, c, t, pr, a_there, a_waiting, a_powers, a_matrix, a_basis)) :
    ∀ (st : List (Option Nat)) (vs : List (R × R)) M c t pr, drn co kd 1 st vs = drn co kd 1 st0 vs0 → brk kd st = 0 → RX co c t M → XM co kd n a_kind a_waiting M st vs → vs.length = bin kd st + 1 → FE M0 M → ∀ m, st.length + 1 < m → wX_evaluate_87 post m f_count f_place (nI st.length) (nI vs.length) 0 f_found f_factored f_pieces f_kernel a_kind a_with c t pr a_there a_waiting a_powers a_matrix a_basis := by
  intro st
  induction st with
  | nil =>
    intro vs M c t pr e hb hx hm hn fe m hmm
    obtain ⟨m, rfl⟩ : ∃ k, m = k + 1 := ⟨m - 1, by omega⟩
    rw [← e] at K0
    exact br_t (by decide) (K0 rfl M c t pr hx hm fe)
  | cons s st ih =>
    intro vs M c t pr e hb hx hm hn fe m hmm
    obtain ⟨m, rfl⟩ : ∃ k, m = k + 1 := ⟨m - 1, by omega⟩
    have hmm' : st.length + 1 + 1 < m + 1 := hmm
    have lt : st.length + 1 ≤ 24 := (xm_xk hm).2.2.2.2
    have c1 : 1 ≤ lev kd s := by
      by_cases q : 1 ≤ lev kd s
      · exact q
      · obtain ⟨i, es, _, ki⟩ := lev_0 (ents_h hm.2.2.2.1) (show lev kd s = 0 by omega)
        rw [es] at hb
        have : (if kd i = 3 then 1 else 0) + brk kd st = 0 := hb
        rw [if_pos ki] at this
        omega
    refine br_f (nI_nle (Nat.succ_pos _) (by show st.length + 1 < 2 ^ 31; omega)) (br_t rfl ?_)
    refine x_ap H hx hm (by omega) hn (fun z M' c' t' pr' hx' hm' fe' => ?_) (fun z M' c' t' pr' vl hx' fe' => ?_)
    · rw [drn_s1 c1 z] at e
      have a := ap1_ok H (x := 0) hm.2.2.2.1 hm.2.2.2.2.1 (by omega) hn z
      exact ih _ M' c' t' pr' e (by rw [← a.2.2.1]; exact hb) hx' hm' a.2.1 (fe_tr fe fe') m (by omega)
    · rw [drn_s2 c1 z] at e
      rw [← e] at K1
      have k1 : wX_evaluate_108 post f_count (nI (ap1 co kd s vs).2.1) (nI st.length) vl (nI (ap1 co kd s vs).1) f_found f_factored f_pieces f_kernel a_kind a_with c' t' pr' a_there a_waiting a_powers a_matrix a_basis := br_f (ap1_n0 z) (K1 z M' c' t' pr' vl _ hx' (fe_tr fe fe'))
      obtain ⟨m, rfl⟩ : ∃ k, m = k + 1 := ⟨m - 1, by omega⟩
      exact br_c (fun _ => k1) (fun _ => br_f (ap1_n0 z) k1)
end
end
section
/-! the component's tokens -/
def TK (kd : Nat → Nat) (nm : Nat → Int32) (n : Nat) : Prop := ∀ i, i < n → (kd i = 2 → ∃ v, v ≤ 5 ∧ nm i = nI v) ∧ (kd i = 9 → ∃ k, k ≤ 8 ∧ (nm i = nI k ∨ (1 ≤ k ∧ nm i = -nI k)))
theorem pw_p {R : Type} [Lean.Grind.CommRing R] {co : R → Nat → Fin 5} {k : Nat} (hk : k ≤ 8) (v : R × R) : pw_ co (nI k) v = pwp co k v := by
  unfold pw_
  rw [if_pos (nI_pos' (by omega)), nI_clamp (by omega)]
theorem pw_n {R : Type} [Lean.Grind.CommRing R] {co : R → Nat → Fin 5} {k : Nat} (h1 : 1 ≤ k) (hk : k ≤ 8) (v : R × R) : pw_ co (-nI k) v = pwn co k v := by
  unfold pw_
  rw [if_neg (nI_neg h1 (by omega)), nI_nn, nI_clamp (by omega)]
/-- the places in the component -/
def PA {R : Type} [Lean.Grind.CommRing R] (co : R → Nat → Fin 5) (M : Nat → Option R) (th : Nat → Int32) (b : Nat) (pl : Nat → Option (R × R)) (m : Nat) : Prop :=
  ∀ v, v < m → (pl v = none ∧ th v = 0) ∨ (∃ p q, pl v = some (p, q) ∧ th v = 1 ∧ M (b + 2 * v) = some p ∧ M (b + 2 * v + 1) = some q ∧ Va co p q)
theorem pa_fr {R : Type} [Lean.Grind.CommRing R] {co : R → Nat → Fin 5} {M M' : Nat → Option R} {th : Nat → Int32} {b : Nat} {pl : Nat → Option (R × R)} {m : Nat} (h : PA co M th b pl m) (fr : ∀ r, b ≤ r → r < b + 2 * m → M' r = M r) : PA co M' th b pl m := fun v hv => by
  rcases h v hv with q | ⟨p, q, h1, h2, h3, h4, h5⟩
  · exact Or.inl q
  · exact Or.inr ⟨p, q, h1, h2, by rw [fr _ (by omega) (by omega)]; exact h3, by rw [fr _ (by omega) (by omega)]; exact h4, h5⟩
theorem va_c {R : Type} [Lean.Grind.CommRing R] {co : R → Nat → Fin 5} (H : PL co) (x : Fin 5) : Va co (mo co x 0) (1 : R) := ⟨cp_1 _, mo_one H, by have := dl_c H (co := co) x; omega, by rw [dl_1 H]; omega⟩
theorem va_x {R : Type} [Lean.Grind.CommRing R] {co : R → Nat → Fin 5} (H : PL co) : Va co (mo co 1 1) (1 : R) := ⟨cp_1 _, mo_one H, by rw [dl_mo H (by decide)]; omega, by rw [dl_1 H]; omega⟩
theorem atv_va {R : Type} [Lean.Grind.CommRing R] {co : R → Nat → Fin 5} (H : PL co) {kd : Nat → Nat} {nm : Nat → Int32} {pl : Nat → Option (R × R)} {n i : Nat} (hpl : ∀ v x, v ≤ 5 → pl v = some x → Vv co x) (hk : TK kd nm n) (hi : i < n) (h2 : kd i ≤ 2) (h : (atv co kd nm pl i).1 = 0) : Vv co (atv co kd nm pl i).2 := by
  unfold atv at *
  by_cases c0 : kd i = 0
  · rw [if_pos c0]; exact va_c H _
  · rw [if_neg c0] at h ⊢
    by_cases c1 : kd i = 1
    · rw [if_pos c1]; exact va_x H
    · rw [if_neg c1] at h ⊢
      obtain ⟨v, hv, ev⟩ := (hk i hi).1 (by omega)
      rw [ev, nI_clamp (by omega)] at h ⊢
      match e : pl v with
      | none => rw [e] at h; simp at h
      | some x => exact hpl v x hv e
section
variable {f_count f_place f_operators f_values f_fault f_found f_factored f_pieces f_kernel : Int32} {a_kind a_with a_c a_top a_product a_there a_waiting a_powers a_matrix a_basis : Nat → Int32}
theorem x_tkA {i c : Nat} {f : Int32} {post : SX → Prop} (hi : i < 24) (hc : c ≤ 2) (hk : a_kind i = nI c) (K : wX_take_68 post (nI i) (nI c) f_count f_place f_operators f_values f_fault f_found f_factored f_pieces f_kernel a_kind a_with a_c a_top a_product a_there a_waiting a_powers a_matrix a_basis) : wpX_take post (f_count, f_place, f_operators, f_values, f_fault, f_found, f_factored, f_pieces, f_kernel, a_kind, a_with, a_c, a_top, a_product, a_there, a_waiting, a_powers, a_matrix, a_basis) (nI i) f := by
  unfold wpX_take
  refine ⟨vp_in_nI hi (by omega), nm_r (e' := nI c) (by rw [nI_clamp (by omega)]; exact hk) ?_⟩
  match c, hc with
  | 0, _ => exact br_f (by decide) (br_f (by decide) (br_t (by decide) K))
  | 1, _ => exact br_f (by decide) (br_f (by decide) (br_f (by decide) (br_t (by decide) K)))
  | 2, _ => exact br_f (by decide) (br_f (by decide) (br_f (by decide) (br_f (by decide) (br_t (by decide) K))))
theorem x_tk3 {i h : Nat} {f : Int32} {post : SX → Prop} (hi : i < 24) (hh : h < 26) (hk : a_kind i = nI 3) (K : post (f_count, f_place, nI (h + 1), f_values, f_fault, f_found, f_factored, f_pieces, f_kernel, a_kind, a_with, a_c, a_top, a_product, a_there, upd a_waiting h (nI i), a_powers, a_matrix, a_basis)) : wpX_take post (f_count, f_place, nI h, f_values, f_fault, f_found, f_factored, f_pieces, f_kernel, a_kind, a_with, a_c, a_top, a_product, a_there, a_waiting, a_powers, a_matrix, a_basis) (nI i) f := by
  unfold wpX_take
  refine ⟨vp_in_nI hi (by omega), nm_r (e' := nI 3) (by rw [nI_clamp (by omega)]; exact hk) ?_⟩
  refine br_f (by decide) (br_f (by decide) (br_f (by decide) (br_f (by decide) (br_f (by decide) (br_t (by decide) (nm_r (nI_1 h) ⟨vp_in_nI hh (by omega), nm_r (e' := upd a_waiting h (nI i)) ?_ K⟩))))))
  rw [nI_clamp (by omega), (e_nar ⟨i, by omega⟩).2, (e_nar ⟨i, by omega⟩).1]
theorem x_tk4 {i : Nat} {f : Int32} {post : SX → Prop} (hi : i < 24) (hk : a_kind i = nI 4) (K : ∃ n100, wX_take_100 post n100 f_count f_place f_operators f_values f_fault f_found f_factored f_pieces f_kernel a_kind a_with a_c a_top a_product a_there a_waiting a_powers a_matrix a_basis) : wpX_take post (f_count, f_place, f_operators, f_values, f_fault, f_found, f_factored, f_pieces, f_kernel, a_kind, a_with, a_c, a_top, a_product, a_there, a_waiting, a_powers, a_matrix, a_basis) (nI i) f := by
  unfold wpX_take
  refine ⟨vp_in_nI hi (by omega), nm_r (e' := nI 4) (by rw [nI_clamp (by omega)]; exact hk) ?_⟩
  exact br_f (by decide) (br_f (by decide) (br_f (by decide) (br_f (by decide) (br_f (by decide) (br_f (by decide) (br_t (by decide) K))))))
theorem x_tkB {i c : Nat} {f : Int32} {post : SX → Prop} (hi : i < 24) (hc : (5 ≤ c ∧ c ≤ 8) ∨ c = 11) (hk : a_kind i = nI c) (K : wX_take_174 post (nI i) f (nI c) f_count f_place f_operators f_values f_fault f_found f_factored f_pieces f_kernel a_kind a_with a_c a_top a_product a_there a_waiting a_powers a_matrix a_basis) : wpX_take post (f_count, f_place, f_operators, f_values, f_fault, f_found, f_factored, f_pieces, f_kernel, a_kind, a_with, a_c, a_top, a_product, a_there, a_waiting, a_powers, a_matrix, a_basis) (nI i) f := by
  unfold wpX_take
  refine ⟨vp_in_nI hi (by omega), nm_r (e' := nI c) (by rw [nI_clamp (by omega)]; exact hk) ?_⟩
  by_cases c11 : c = 11
  · subst c11
    exact br_f (by decide) (br_t (by decide) K)
  · by_cases c5 : c = 5
    · subst c5
      exact br_f (by decide) (br_f (by decide) (br_f (by decide) (br_f (by decide) (br_f (by decide) (br_f (by decide) (br_f (by decide) (br_t (by decide) K)))))))
    · by_cases c6 : c = 6
      · subst c6
        exact br_f (by decide) (br_f (by decide) (br_f (by decide) (br_f (by decide) (br_f (by decide) (br_f (by decide) (br_f (by decide) (br_f (by decide) (br_t (by decide) K))))))))
      · by_cases c7 : c = 7
        · subst c7
          exact br_f (by decide) (br_f (by decide) (br_f (by decide) (br_f (by decide) (br_f (by decide) (br_f (by decide) (br_f (by decide) (br_f (by decide) (br_f (by decide) (br_t (by decide) K)))))))))
        · have c8 : c = 8 := by omega
          subst c8
          exact br_f (by decide) (br_f (by decide) (br_f (by decide) (br_f (by decide) (br_f (by decide) (br_f (by decide) (br_f (by decide) (br_f (by decide) (br_f (by decide) (br_f (by decide) (br_t (by decide) K))))))))))
theorem x_tkC {i c : Nat} {f : Int32} {post : SX → Prop} (hi : i < 24) (hc : c = 9 ∨ c = 10) (hk : a_kind i = nI c) (K : ∃ n132, wX_take_132 post (nI i) (nI c) n132 f_count f_place f_operators f_values f_fault f_found f_factored f_pieces f_kernel a_kind a_with a_c a_top a_product a_there a_waiting a_powers a_matrix a_basis) : wpX_take post (f_count, f_place, f_operators, f_values, f_fault, f_found, f_factored, f_pieces, f_kernel, a_kind, a_with, a_c, a_top, a_product, a_there, a_waiting, a_powers, a_matrix, a_basis) (nI i) f := by
  unfold wpX_take
  refine ⟨vp_in_nI hi (by omega), nm_r (e' := nI c) (by rw [nI_clamp (by omega)]; exact hk) ?_⟩
  rcases hc with h | h
  · subst h
    exact br_f (by decide) (br_f (by decide) (br_f (by decide) (br_f (by decide) (br_f (by decide) (br_f (by decide) (br_f (by decide) (br_f (by decide) (br_f (by decide) (br_f (by decide) (br_f (by decide) (br_t (by decide) K)))))))))))
  · subst h
    exact br_f (by decide) (br_f (by decide) (br_f (by decide) (br_f (by decide) (br_f (by decide) (br_f (by decide) (br_f (by decide) (br_f (by decide) (br_f (by decide) (br_f (by decide) (br_f (by decide) (br_f (by decide) (br_t (by decide) K))))))))))))
theorem x_push {i h : Nat} {sg : Bool} {post : SX → Prop} (hi : i < 24) (hh : h < 26) (K : post (f_count, f_place, nI (h + 1), f_values, f_fault, f_found, f_factored, f_pieces, f_kernel, a_kind, a_with, a_c, a_top, a_product, a_there, upd a_waiting h (if sg = true then -1 else nI i), a_powers, a_matrix, a_basis)) : wX_take_225 post (nI i) (bI sg) f_count f_place (nI h) f_values f_fault f_found f_factored f_pieces f_kernel a_kind a_with a_c a_top a_product a_there a_waiting a_powers a_matrix a_basis := by
  unfold wX_take_225
  refine nm_r (nI_1 h) ?_
  match sg with
  | false =>
    refine br_t rfl ⟨vp_in_nI hh (by omega), nm_r (e' := upd a_waiting h (nI i)) ?_ K⟩
    rw [nI_clamp (by omega), (e_nar ⟨i, by omega⟩).2, (e_nar ⟨i, by omega⟩).1]
  | true =>
    refine br_f (by decide) ⟨vp_in_nI hh (by omega), nm_r (e' := upd a_waiting h (-1)) ?_ K⟩
    rw [nI_clamp (by omega), vp_nar_byte]
    congr 1
theorem x_t174 {i c : Nat} {fst : Bool} {post : SX → Prop} (hc : (5 ≤ c ∧ c ≤ 8) ∨ c = 11)
    (K : ∃ m, wX_take_197 post (nI i) (nI (bnd c)) (bI (decide (c = 6) && fst)) m f_count f_place f_operators f_values f_fault f_found f_factored f_pieces f_kernel a_kind a_with a_c a_top a_product a_there a_waiting a_powers a_matrix a_basis) : wX_take_174 post (nI i) (bI fst) (nI c) f_count f_place f_operators f_values f_fault f_found f_factored f_pieces f_kernel a_kind a_with a_c a_top a_product a_there a_waiting a_powers a_matrix a_basis := by
  unfold wX_take_174 wpX_binding
  by_cases c11 : c = 11
  · subst c11
    exact br_t (by decide) (br_f (by decide) K)
  · by_cases c5 : c = 5
    · subst c5
      exact br_f (by decide) (br_f (by decide) (br_f (by decide) (br_t (by decide) (br_f (by decide) K))))
    · by_cases c6 : c = 6
      · subst c6
        refine br_f (by decide) (br_f (by decide) (br_f (by decide) (br_f (by decide) (br_t (by decide) (br_t (by decide) ?_)))))
        match fst with
        | false => exact br_t rfl K
        | true => exact br_f (by decide) K
      · by_cases c7 : c = 7
        · subst c7
          exact br_f (by decide) (br_t (by decide) (br_f (by decide) K))
        · have c8 : c = 8 := by omega
          subst c8
          exact br_f (by decide) (br_f (by decide) (br_t (by decide) (br_f (by decide) K)))
theorem x_operand {R : Type} [Lean.Grind.CommRing R] {co : R → Nat → Fin 5} (H : PL co) {kd : Nat → Nat} {nm : Nat → Int32} {pl : Nat → Option (R × R)} {n i : Nat} {M : Nat → Option R} {vs : List (R × R)} {post : SX → Prop} (h : RX co a_c a_top M) (hk : TK kd nm n) (hi : i < n) (h24 : n ≤ 24) (h2 : kd i ≤ 2) (hpl : PA co M a_there 0 pl 6) (hv : SV M 14 vs) (hl : 2 * vs.length ≤ 22)
    (K0 : (atv co kd nm pl i).1 = 0 → ∀ M' c t, RX co c t M' → SV M' 14 ((atv co kd nm pl i).2 :: vs) → FE M M' → post (f_count, f_place, f_operators, nI (vs.length + 1), f_fault, f_found, f_factored, f_pieces, f_kernel, a_kind, a_with, c, t, a_product, a_there, a_waiting, a_powers, a_matrix, a_basis))
    (K1 : (atv co kd nm pl i).1 ≠ 0 → post (f_count, nI i, f_operators, nI (vs.length + 1), nI (atv co kd nm pl i).1, f_found, f_factored, f_pieces, f_kernel, a_kind, a_with, a_c, a_top, a_product, a_there, a_waiting, a_powers, a_matrix, a_basis)) : wpX_operand post (f_count, f_place, f_operators, nI vs.length, f_fault, f_found, f_factored, f_pieces, f_kernel, a_kind, a_with, a_c, a_top, a_product, a_there, a_waiting, a_powers, a_matrix, a_basis) (nI (kd i)) (nm i) (nI i) := by
  unfold wpX_operand
  have e4 : 14 + 2 * nI vs.length = nI (14 + 2 * vs.length) := by rw [tw_2]; exact nI_add 14 _
  refine nm_r (nI_1 _) (nm_r e4 ?_)
  by_cases c2 : kd i = 2
  · obtain ⟨v, hv5, ev⟩ := (hk i hi).1 c2
    refine br_t (by rw [c2]; rfl) ?_
    rw [ev, nI_clamp (by omega)]
    refine ⟨vp_in_nI (by omega) (by omega), ?_⟩
    have ea : atv co kd nm pl i = match pl v with | some x => (0, x) | none => (2, (0, 0)) := by
      unfold atv
      rw [if_neg (by omega), if_neg (by omega), ev, nI_clamp (by omega)]
      rfl
    rcases hpl v (by omega) with ⟨q1, q2⟩ | ⟨p, q, q1, q2, q3, q4, q5⟩
    · rw [q1] at ea
      have ea' : atv co kd nm pl i = (2, (0, 0)) := ea
      have := K1 (by rw [ea']; simp)
      rw [ea'] at this
      exact br_t q2 this
    · rw [q1] at ea
      have ea' : atv co kd nm pl i = (0, (p, q)) := ea
      rw [Nat.zero_add] at q3 q4
      refine br_f (by rw [q2]; decide) ?_
      unfold wX_operand_41
      refine br_t (by rw [c2]; rfl) ?_
      rw [tw_2, nI_1, nI_1]
      refine x_copy H h (by omega) (by omega) q3 (fun c1 t1 x1 => ?_)
      refine x_copy H x1 (by omega) (by omega) (by (repeat rw [uo_n (by omega)]) <;> exact q4) (fun c2 t2 x2 => ?_)
      rw [ea'] at K0
      exact K0 rfl _ c2 t2 x2 ⟨(by (repeat rw [uo_n (by omega)]) <;> exact uo_s), uo_s, sv_fr vs hv (fun r w1 w2 => (by (repeat rw [uo_n (by omega)]) <;> exact rfl))⟩ (fun r hr => (by (repeat rw [uo_n (by omega)]) <;> exact rfl))
  · refine br_f (by rw [show (2 : Int32) = nI 2 from rfl, nI_eq (by omega) (by omega)]; exact c2) ?_
    unfold wX_operand_41
    refine br_f (by rw [show (2 : Int32) = nI 2 from rfl, nI_eq (by omega) (by omega)]; exact c2) ?_
    by_cases c1 : kd i = 1
    · have ea : atv co kd nm pl i = (0, (mo co 1 1, 1)) := by
        unfold atv
        rw [if_neg (by omega), if_pos c1]
      refine br_t (by rw [c1]; rfl) ?_
      unfold wX_operand_84
      refine br_t (by rw [c1]; rfl) ?_
      unfold wX_operand_94
      rw [nI_1]
      refine x_only H (k := 1) (x := 1) h (by omega) (by omega) (by decide) (fun c1 t1 x1 => ?_)
      refine x_only H (k := 0) (x := 1) x1 (by omega) (by omega) (by decide) (fun c2 t2 x2 => ?_)
      rw [ea] at K0
      rw [mo_1 H] at x2
      exact K0 rfl _ c2 t2 x2 ⟨(by (repeat rw [uo_n (by omega)]) <;> exact uo_s), uo_s, sv_fr vs hv (fun r w1 w2 => (by (repeat rw [uo_n (by omega)]) <;> exact rfl))⟩ (fun r hr => (by (repeat rw [uo_n (by omega)]) <;> exact rfl))
    · have c0 : kd i = 0 := by omega
      have ea : atv co kd nm pl i = (0, (mo co (fi (nm i)) 0, 1)) := by
        unfold atv
        rw [if_pos c0]
      refine br_f (by rw [c0]; decide) ?_
      unfold wX_operand_84
      refine br_f (by rw [c0]; decide) ?_
      unfold wX_operand_94
      rw [nI_1]
      refine x_only H (k := 0) (x := fi (nm i)) h (by omega) (by omega) (fi_e _) (fun c1 t1 x1 => ?_)
      refine x_only H (k := 0) (x := 1) x1 (by omega) (by omega) (by decide) (fun c2 t2 x2 => ?_)
      rw [ea] at K0
      rw [mo_1 H] at x2
      exact K0 rfl _ c2 t2 x2 ⟨(by (repeat rw [uo_n (by omega)]) <;> exact uo_s), uo_s, sv_fr vs hv (fun r w1 w2 => (by (repeat rw [uo_n (by omega)]) <;> exact rfl))⟩ (fun r hr => (by (repeat rw [uo_n (by omega)]) <;> exact rfl))
theorem x_lst36 {R : Type} [Lean.Grind.CommRing R] {co : R → Nat → Fin 5} (H : PL co) {M : Nat → Option R} {z : R × R} {a i : Nat} {post : SX → Prop} (h : RX co a_c a_top M) (ha : a + 1 < 76) (h1 : M a = some z.1) (h2 : M (a + 1) = some z.2) (K0 : (big co z).1 = 0 → post (f_count, f_place, f_operators, f_values, 0, f_found, f_factored, f_pieces, f_kernel, a_kind, a_with, a_c, a_top, a_product, a_there, a_waiting, a_powers, a_matrix, a_basis)) (K1 : (big co z).1 = 4 → post (f_count, nI i, f_operators, f_values, 4, f_found, f_factored, f_pieces, f_kernel, a_kind, a_with, a_c, a_top, a_product, a_there, a_waiting, a_powers, a_matrix, a_basis)) : wX_last_36 post (nI i) (nI a) f_count f_place f_operators f_values 0 f_found f_factored f_pieces f_kernel a_kind a_with a_c a_top a_product a_there a_waiting a_powers a_matrix a_basis := by
  unfold wX_last_36
  refine br_t rfl ?_
  have l1 := (h a (by omega) _ h1).1
  have l2 := (h (a + 1) ha _ h2).1
  refine x_size H h ha h1 h2 ?_
  by_cases c : sz co z.1 z.2 ≤ 8
  · exact br_t (nI_le (b := 8) c (by decide)) (K0 (by rw [big_1 c]))
  · exact br_f (nI_ge (a := 8) (by omega) (by unfold sz; omega)) (K1 (by rw [big_2 c]))
/-- the last step of a power or a derivative -/
noncomputable def lsv {R : Type} [Lean.Grind.CommRing R] (co : R → Nat → Fin 5) (k : Nat) (n : Int32) (v : R × R) : Nat × (R × R) := if k = 9 then pw_ co n v else der co v
theorem x_last {R : Type} [Lean.Grind.CommRing R] {co : R → Nat → Fin 5} (H : PL co) {M : Nat → Option R} {v : R × R} {vs : List (R × R)} {k i : Nat} {nmi : Int32} {post : SX → Prop} (h : RX co a_c a_top M) (hk : k = 9 ∨ k = 10) (hn : k = 9 → ∃ j, j ≤ 8 ∧ (nmi = nI j ∨ (1 ≤ j ∧ nmi = -nI j))) (hv : SV M 14 (v :: vs)) (va : Vv co v) (hl : 2 * vs.length ≤ 22)
    (K0 : (lsv co k nmi v).1 = 0 → ∀ M' c t pr, RX co c t M' → SV M' 14 ((lsv co k nmi v).2 :: vs) → FE M M' → post (f_count, f_place, f_operators, nI (vs.length + 1), 0, f_found, f_factored, f_pieces, f_kernel, a_kind, a_with, c, t, pr, a_there, a_waiting, a_powers, a_matrix, a_basis))
    (K1 : (lsv co k nmi v).1 ≠ 0 → ∀ M' c t pr, RX co c t M' → FE M M' → post (f_count, nI i, f_operators, nI (vs.length + 1), nI (lsv co k nmi v).1, f_found, f_factored, f_pieces, f_kernel, a_kind, a_with, c, t, pr, a_there, a_waiting, a_powers, a_matrix, a_basis)) : wpX_last post (f_count, f_place, f_operators, nI (vs.length + 1), 0, f_found, f_factored, f_pieces, f_kernel, a_kind, a_with, a_c, a_top, a_product, a_there, a_waiting, a_powers, a_matrix, a_basis) (nI k) nmi (nI i) := by
  unfold wpX_last
  have e2 : 14 + 2 * nI (vs.length + 1) - 2 = nI (14 + 2 * vs.length) := by
    rw [tw_2, show (14 : Int32) + nI (2 * (vs.length + 1)) = nI (14 + 2 * (vs.length + 1)) from nI_add 14 _, show (2 : Int32) = nI 2 from rfl, pk_sub (by omega)]
    congr 1
  have fe : ∀ M', FX M M' (14 + 2 * vs.length) → FE M M' := fun M' fx r hr => fx r (by omega) (by omega) (by omega)
  have svv : ∀ M', FX M M' (14 + 2 * vs.length) → SV M' 14 vs := fun M' fx => sv_fr vs hv.2.2 (fun r q1 q2 => fx r (by omega) (by omega) (by omega))
  have bz : ∀ z : R × R, (big co z).2 = z := fun z => by unfold big; split <;> rfl
  refine nm_r e2 ?_
  rcases hk with k9 | k10
  · subst k9
    refine br_f (by decide) ?_
    have el : lsv co 9 nmi v = pw_ co nmi v := by unfold lsv; rw [if_pos rfl]
    obtain ⟨j, hj, hor⟩ := hn rfl
    -- a fault
    have flt : ∀ c : Nat, c = 3 ∨ c = 4 → (lsv co 9 nmi v).1 = c → wX_last_36 post (nI i) (nI (14 + 2 * vs.length)) f_count (nI i) f_operators (nI (vs.length + 1)) (nI c) f_found f_factored f_pieces f_kernel a_kind a_with a_c a_top a_product a_there a_waiting a_powers a_matrix a_basis := by
      intro c hc ec
      have := K1 (by rw [ec]; omega) M a_c a_top a_product h (fun _ _ => rfl)
      rw [ec] at this
      unfold wX_last_36
      exact br_f (nI_ne0 (by omega) (by omega)) this
    rcases hor with en | ⟨j1, en⟩
    · rw [en] at el K0 K1 flt ⊢
      rw [pw_p hj] at el
      refine x_rai_p H h (by omega) hj hv.1 hv.2.1 va (fun l => ?_) (fun l M' c t pr hx m1 m2 fx => ?_)
      · exact flt 4 (Or.inr rfl) (by rw [el]; unfold pwp; rw [if_pos l])
      · have e0 : lsv co 9 (nI j) v = (0, (rwP co v.1 v.2 j, rwQ co v.1 v.2 j)) := by rw [el]; unfold pwp; rw [if_neg (by omega)]
        refine x_lst36 H (z := (rwP co v.1 v.2 j, rwQ co v.1 v.2 j)) hx (by omega) m1 m2 (fun _ => K0 (by rw [e0]) M' c t pr hx (by rw [e0]; exact ⟨m1, m2, svv M' fx⟩) (fe M' fx)) (fun b4 => ?_)
        rw [big_1 (by show sz co (rwP co v.1 v.2 j) (rwQ co v.1 v.2 j) ≤ 8; rw [sz_pow H va.1 va.2.1]; exact l)] at b4
        simp at b4
    · rw [en] at el K0 K1 flt ⊢
      rw [pw_n j1 hj] at el
      refine x_rai_n H h (by omega) j1 hj hv.1 hv.2.1 va (fun z => ?_) (fun nz l => ?_) (fun nz l M' c t pr hx m1 m2 fx => ?_)
      · exact flt 3 (Or.inl rfl) (by rw [el]; unfold pwn; rw [cif_t z])
      · exact flt 4 (Or.inr rfl) (by rw [el]; unfold pwn; rw [cif_f nz, if_pos l])
      · have e0 : lsv co 9 (-nI j) v = (0, (rwP co v.2 v.1 j, rwQ co v.2 v.1 j)) := by rw [el]; unfold pwn; rw [cif_f nz, if_neg (by omega)]
        refine x_lst36 H (z := (rwP co v.2 v.1 j, rwQ co v.2 v.1 j)) hx (by omega) m1 m2 (fun _ => K0 (by rw [e0]) M' c t pr hx (by rw [e0]; exact ⟨m1, m2, svv M' fx⟩) (fe M' fx)) (fun b4 => ?_)
        rw [big_1 (by show sz co (rwP co v.2 v.1 j) (rwQ co v.2 v.1 j) ≤ 8; rw [sz_neg H va.1 nz va.2.1]; exact l)] at b4
        simp at b4
  · subst k10
    refine br_t (by decide) ?_
    have el : lsv co 10 nmi v = der co v := by unfold lsv; rw [if_neg (by decide)]
    refine x_derivative H h (by omega) hv.1 hv.2.1 va.2.2.1 va.2.2.2 (mo_ne H va.2.1) (fun M' c t pr hx m1 m2 fx => ?_)
    have ed : der co v = big co (rd2 co (de co v.1 * v.2 + mo co 4 0 * (v.1 * de co v.2)) (v.2 * v.2)) := rfl
    refine x_lst36 H (z := rd2 co (de co v.1 * v.2 + mo co 4 0 * (v.1 * de co v.2)) (v.2 * v.2)) hx (by omega) m1 m2 (fun b0 => K0 (by rw [el, ed]; exact b0) M' c t pr hx (by rw [el, ed, bz]; exact ⟨m1, m2, svv M' fx⟩) (fe M' fx)) (fun b4 => ?_)
    have := K1 (by rw [el, ed, b4]; decide) M' c t pr hx (fe M' fx)
    rw [el, ed, b4] at this
    exact this
end
end
section
/-! the component's loop over the tokens -/
/-- the answer from a state in which an @ may wait at the top -/
noncomputable def rE {R : Type} [Lean.Grind.CommRing R] (co : R → Nat → Fin 5) (kd : Nat → Nat) (nm : Nat → Int32) (pl : Nat → Option (R × R)) (d : Nat) (st : List (Option Nat)) (vs : List (R × R)) (i : Nat) : Nat × Nat × (R × R) :=
  if (egr co kd st vs).1 = 0 then run co kd nm pl d false (egr co kd st vs).2.2.1 (egr co kd st vs).2.2.2 i else ((egr co kd st vs).1, (egr co kd st vs).2.1, (0, 0))
theorem rE_f {R : Type} [Lean.Grind.CommRing R] {co : R → Nat → Fin 5} {kd : Nat → Nat} {nm : Nat → Int32} {pl : Nat → Option (R × R)} {d i b : Nat} {st : List (Option Nat)} {vs : List (R × R)} (hb : b ≤ 3) (na : NA kd st) (h : (drn co kd 3 st vs).1 ≠ 0) : rE co kd nm pl d st vs i = ((drn co kd b st vs).1, (drn co kd b st vs).2.1, (0, 0)) ∧ (drn co kd b st vs).1 ≠ 0 := by
  have e := egr_drn (co := co) (vs := vs) na
  have f := drn_flt (co := co) hb st vs h
  have n0 : (egr co kd st vs).1 ≠ 0 := by rw [e.1]; exact h
  unfold rE
  rw [if_neg n0, e.1, e.2.1 n0, f.1, f.2]
  exact ⟨rfl, h⟩
theorem rE_k {R : Type} [Lean.Grind.CommRing R] {co : R → Nat → Fin 5} {kd : Nat → Nat} {nm : Nat → Int32} {pl : Nat → Option (R × R)} {d i : Nat} {st : List (Option Nat)} {vs : List (R × R)} (na : NA kd st) (h : (drn co kd 3 st vs).1 = 0) : rE co kd nm pl d st vs i = run co kd nm pl d false (drn co kd 3 st vs).2.2.1 (drn co kd 3 st vs).2.2.2 i := by
  have e := egr_drn (co := co) (vs := vs) na
  have e0 : (egr co kd st vs).1 = 0 := by rw [e.1]; exact h
  unfold rE
  rw [if_pos e0, e.2.2 e0]
/-- where the top binds less than @, nothing waits -/
theorem rE_n {R : Type} [Lean.Grind.CommRing R] {co : R → Nat → Fin 5} {kd : Nat → Nat} {nm : Nat → Int32} {pl : Nat → Option (R × R)} {d i : Nat} {st : List (Option Nat)} {vs : List (R × R)} (h : ∀ s st', st = s :: st' → lev kd s < 3) : rE co kd nm pl d st vs i = run co kd nm pl d false st vs i := by
  have e : egr co kd st vs = (0, 0, st, vs) := by
    match st with
    | [] => rfl
    | s :: st =>
      show (if lev kd s = 3 then _ else _) = _
      rw [if_neg (by have := h s st rfl; omega)]
  unfold rE
  rw [e]
  exact if_pos rfl
section
variable {f_count f_place f_operators f_values f_fault f_found f_factored f_pieces f_kernel : Int32} {a_kind a_with a_c a_top a_product a_there a_waiting a_powers a_matrix a_basis : Nat → Int32}
theorem x_flt44 {c m : Nat} {x1 x2 : Int32} {post : Int32 → SX → Prop} (hc : 1 ≤ c) (hc9 : c < 100) (K : post (nI c) (f_count, f_place, f_operators, f_values, nI c, f_found, f_factored, f_pieces, f_kernel, a_kind, a_with, a_c, a_top, a_product, a_there, a_waiting, a_powers, a_matrix, a_basis)) : wX_evaluate_44 post (m + 1) x1 x2 f_count f_place f_operators f_values (nI c) f_found f_factored f_pieces f_kernel a_kind a_with a_c a_top a_product a_there a_waiting a_powers a_matrix a_basis := by
  have nz : ¬ nI c = 0 := nI_ne0 (by omega) (by omega)
  have k1 : wX_evaluate_108 post f_count f_place f_operators f_values (nI c) f_found f_factored f_pieces f_kernel a_kind a_with a_c a_top a_product a_there a_waiting a_powers a_matrix a_basis := br_f nz K
  have k2 : ∃ n87, wX_evaluate_87 post n87 f_count f_place f_operators f_values (nI c) f_found f_factored f_pieces f_kernel a_kind a_with a_c a_top a_product a_there a_waiting a_powers a_matrix a_basis := ⟨1, br_c (fun _ => k1) (fun _ => br_f nz k1)⟩
  exact br_c (fun _ => k2) (fun _ => br_f nz k2)
theorem x_cont {kd : Nat → Nat} {n i m : Nat} {post : Int32 → SX → Prop} (hk : KD a_kind kd n) (hi : i < n) (W : wX_evaluate_44 post m (bI (decide (kd i = 3))) (nI (i + 1)) f_count f_place f_operators f_values f_fault f_found f_factored f_pieces f_kernel a_kind a_with a_c a_top a_product a_there a_waiting a_powers a_matrix a_basis) : vp_in (nI i) 24 ∧ ((a_kind (nI i).toNatClampNeg = 3 → ∀ x2, x2 = nI i + 1 → wX_evaluate_44 post m 1 x2 f_count f_place f_operators f_values f_fault f_found f_factored f_pieces f_kernel a_kind a_with a_c a_top a_product a_there a_waiting a_powers a_matrix a_basis) ∧ (¬ a_kind (nI i).toNatClampNeg = 3 → ∀ x2, x2 = nI i + 1 → wX_evaluate_44 post m 0 x2 f_count f_place f_operators f_values f_fault f_found f_factored f_pieces f_kernel a_kind a_with a_c a_top a_product a_there a_waiting a_powers a_matrix a_basis)) := by
  have h24 := hk.1
  have ki := hk.2 i hi
  refine ⟨vp_in_nI (by omega) (by omega), ?_⟩
  rw [nI_clamp (by omega), ki.1]
  by_cases c : kd i = 3
  · rw [c] at W ⊢
    exact br_t (by decide) (nm_r (nI_1 i) W)
  · have : decide (kd i = 3) = false := decide_eq_false c
    rw [this] at W
    exact br_f (by rw [show (3 : Int32) = nI 3 from rfl, nI_eq (by omega) (by omega)]; exact c) (nm_r (nI_1 i) W)
theorem x_cont2 {kd : Nat → Nat} {n i m : Nat} {post : Int32 → SX → Prop} (hk : KD a_kind kd n) (hi : i < n) (W : wX_evaluate_44 post m (bI (decide (kd i = 3))) (nI (i + 1)) f_count f_place f_operators f_values f_fault f_found f_factored f_pieces f_kernel a_kind a_with a_c a_top a_product a_there a_waiting a_powers a_matrix a_basis) : vp_in (nI i) 24 ∧ ((a_kind i = 3 → ∀ x2, x2 = nI i + 1 → wX_evaluate_44 post m 1 x2 f_count f_place f_operators f_values f_fault f_found f_factored f_pieces f_kernel a_kind a_with a_c a_top a_product a_there a_waiting a_powers a_matrix a_basis) ∧ (¬ a_kind i = 3 → ∀ x2, x2 = nI i + 1 → wX_evaluate_44 post m 0 x2 f_count f_place f_operators f_values f_fault f_found f_factored f_pieces f_kernel a_kind a_with a_c a_top a_product a_there a_waiting a_powers a_matrix a_basis)) := by
  have := x_cont hk hi W
  rw [nI_clamp (by have := hk.1; omega)] at this
  exact this
/-- all that holds at the head of the loop -/
def XI {R : Type} [Lean.Grind.CommRing R] (co : R → Nat → Fin 5) (kd : Nat → Nat) (n : Nat) (pl : Nat → Option (R × R)) (ak aw th : Nat → Int32) (M0 M : Nat → Option R) (op : Bool) (st : List (Option Nat)) (vs : List (R × R)) (dep i : Nat) : Prop :=
  XM co kd n ak aw M st vs ∧ NA kd st ∧ brk kd st = dep ∧ vs.length = bin kd st + (if op = true then 0 else 1) ∧ st.length ≤ i ∧ 2 * vs.length ≤ i + (if op = true then 0 else 1) ∧ PA co M th 0 pl 6 ∧ FE M0 M
theorem pa_fe {R : Type} [Lean.Grind.CommRing R] {co : R → Nat → Fin 5} {M M' : Nat → Option R} {th : Nat → Int32} {pl : Nat → Option (R × R)} (h : PA co M th 0 pl 6) (fe : FE M M') : PA co M' th 0 pl 6 := pa_fr h (fun r _ h2 => fe r (by omega))
theorem x_44 {R : Type} [Lean.Grind.CommRing R] {co : R → Nat → Fin 5} (H : PL co) {kd : Nat → Nat} {nm : Nat → Int32} {pl : Nat → Option (R × R)} {n : Nat} {M0 : Nat → Option R} {post : Int32 → SX → Prop} {Rz : Nat × Nat × (R × R)} (hk : KD a_kind kd n) (htk : TK kd nm n) (hnm : ∀ i, i < n → a_with i = nm i) (hpv : ∀ v x, v ≤ 5 → pl v = some x → Vv co x)
    (K0 : Rz.1 = 0 → Vv co Rz.2.2 → ∀ M c t pr wt ops vals, RX co c t M → M 12 = some Rz.2.2.1 → M 13 = some Rz.2.2.2 → (∀ r, (r < 12 ∨ 52 ≤ r) → M r = M0 r) → post 0 (nI n, f_place, ops, vals, 0, f_found, f_factored, f_pieces, f_kernel, a_kind, a_with, c, t, pr, upd a_there 6 1, wt, a_powers, a_matrix, a_basis))
    (K1 : Rz.1 ≠ 0 → ∀ M c t pr wt ops vals, RX co c t M → FE M0 M → post (nI Rz.1) (nI n, nI Rz.2.1, ops, vals, nI Rz.1, f_found, f_factored, f_pieces, f_kernel, a_kind, a_with, c, t, pr, a_there, wt, a_powers, a_matrix, a_basis)) (hR5 : Rz.1 < 100) :
    ∀ d i op fst dep st vs M c t pr wt, i + d = n → (op = false → fst = false) → wr kd n d op fst dep i = none → Rz = (if op = true then run co kd nm pl d true st vs i else rE co kd nm pl d st vs i) → RX co c t M → XI co kd n pl a_kind wt a_there M0 M op st vs dep i →
      ∀ m, d + 1 < m → wX_evaluate_44 post m (bI fst) (nI i) (nI n) f_place (nI st.length) (nI vs.length) 0 f_found f_factored f_pieces f_kernel a_kind a_with c t pr a_there wt a_powers a_matrix a_basis := by
  have h24 := hk.1
  intro d
  induction d with
  | zero =>
    intro i op fst dep st vs M c t pr wt hd hof hw hR hx hI m hm
    obtain ⟨m, rfl⟩ : ∃ k, m = k + 1 := ⟨m - 1, by omega⟩
    obtain ⟨xm, na, hb, hl, h1, h2, pa, fe⟩ := hI
    have hw' : (if op = true ∨ dep ≠ 0 then some n else none) = none := by
      match op with
      | true => exact hw
      | false => exact hw
    have hop : op = false ∧ dep = 0 := by
      by_cases q : op = true ∨ dep ≠ 0
      · rw [if_pos q] at hw'; cases hw'
      · refine ⟨?_, Classical.byContradiction (fun z => q (Or.inr z))⟩
        match op with
        | true => exact absurd (Or.inl rfl) q
        | false => rfl
    rw [hop.1] at hR hl
    rw [if_neg (by decide)] at hR hl
    have lt := (xm_xk xm).2.2.2.2
    have dk := drn_ok H (b := 1) (Nat.le_refl 1) st vs xm.2.2.2.1 xm.2.2.2.2.1 hl
    have eR : ((drn co kd 1 st vs).1 = 0 → Rz = (0, 0, (drn co kd 1 st vs).2.2.2.headD (0, 0))) ∧ ((drn co kd 1 st vs).1 ≠ 0 → Rz = ((drn co kd 1 st vs).1, (drn co kd 1 st vs).2.1, (0, 0))) := by
      by_cases z3 : (drn co kd 3 st vs).1 = 0
      · have e1 := rE_k (nm := nm) (pl := pl) (d := 0) (i := i) na z3
        have e2 := drn_drn (co := co) (b := 1) (by omega) st vs z3
        have e3 : run co kd nm pl 0 false (drn co kd 3 st vs).2.2.1 (drn co kd 3 st vs).2.2.2 i = if (drn co kd 1 st vs).1 = 0 then (0, 0, (drn co kd 1 st vs).2.2.2.headD (0, 0)) else ((drn co kd 1 st vs).1, (drn co kd 1 st vs).2.1, (0, 0)) := by
          rw [← e2]
          rfl
        rw [hR, e1, e3]
        exact ⟨fun q => by rw [if_pos q], fun q => by rw [if_neg q]⟩
      · have e1 := rE_f (nm := nm) (pl := pl) (d := 0) (i := i) (b := 1) (by omega) na z3
        rw [hR, e1.1]
        exact ⟨fun q => absurd q e1.2, fun _ => rfl⟩
    refine br_t (nI_le (by omega) (by omega)) ⟨30, ?_⟩
    refine x_d87 H (M0 := M0) (st0 := st) (vs0 := vs) (a_waiting := wt) (fun z M' c' t' pr' hx' xm' fe' => ?_) (fun z M' c' t' pr' vl hh hx' fe' => ?_) st vs M c t pr rfl (by rw [hb]; exact hop.2) hx xm hl fe 30 (by omega)
    · have dk' := dk z
      rw [eR.1 z] at K0
      have st0 : (drn co kd 1 st vs).2.2.1 = [] := by
        match e : (drn co kd 1 st vs).2.2.1 with
        | [] => rfl
        | s :: st' =>
          exfalso
          have l := dk'.2.2.2.2.2.2 s st' e
          have en := dk'.1
          rw [e] at en
          obtain ⟨j, ej, _, kj⟩ := lev_0 (ents_h en) (by omega)
          have b := dk'.2.2.2.1
          rw [e, ej, hb, hop.2] at b
          have b' : (if kd j = 3 then 1 else 0) + brk kd st' = 0 := b
          rw [if_pos kj] at b'
          omega
      have ln := dk'.2.2.1
      rw [st0] at ln
      have ln' : (drn co kd 1 st vs).2.2.2.length = 1 := ln
      match ev : (drn co kd 1 st vs).2.2.2 with
      | [] => rw [ev] at ln'; cases ln'
      | v :: v' :: vs' =>
        rw [ev] at ln'
        have : vs'.length + 2 = 1 := ln'
        omega
      | [v] =>
        rw [ev] at xm' K0
        have va := dk'.2.1
        rw [ev] at va
        have sv := xm'.2.2.1
        unfold wX_evaluate_108
        refine br_t rfl ?_
        refine x_copy H (a := 14) (b := 12) hx' (by omega) (by omega) sv.1 (fun c2 t2 x2 => ?_)
        refine x_copy H (a := 15) (b := 13) x2 (by omega) (by omega) (by (repeat rw [uo_n (by omega)]) <;> exact sv.2.1) (fun c3 t3 x3 => ?_)
        refine nm_r (e' := upd a_there 6 1) rfl (K0 rfl (vals_h va) _ c3 t3 _ _ _ _ x3 (by (repeat rw [uo_n (by omega)]) <;> exact uo_s) uo_s (fun r hr => ?_))
        rw [uo_n (by omega), uo_n (by omega)]
        exact fe' r (by omega)
    · rw [eR.2 z] at K1
      exact K1 z M' c' t' pr' wt hh vl hx' fe'
  | succ d ih =>
    intro i op fst dep st vs M c t pr wt hd hof hw hR hx hI m hm
    obtain ⟨m, rfl⟩ : ∃ k, m = k + 1 := ⟨m - 1, by omega⟩
    obtain ⟨m, rfl⟩ : ∃ k, m = k + 1 := ⟨m - 1, by omega⟩
    obtain ⟨xm, na, hb, hl, h1, h2, pa, fe⟩ := hI
    have hi : i < n := by omega
    have ki := hk.2 i hi
    refine br_f (nI_ge (by omega) (by omega)) (br_t rfl ?_)
    have lt := (xm_xk xm).2.2.2.2
    match op, hof, hw, hR, hl, h2 with
    | true, hof, hw, hR, hl, h2 =>
      have hl' : vs.length = bin kd st := by rw [if_pos rfl] at hl; omega
      have h2' : 2 * vs.length ≤ i := by rw [if_pos rfl] at h2; omega
      rw [if_pos rfl] at hR
      have hw' : (if kd i ≤ 3 ∨ (kd i = 6 ∧ fst = true) then wr kd n d (decide (3 ≤ kd i)) (decide (kd i = 3)) (if kd i = 3 then dep + 1 else dep) (i + 1) else some i) = none := hw
      by_cases cc : kd i ≤ 3 ∨ (kd i = 6 ∧ fst = true)
      · rw [if_pos cc] at hw'
        by_cases c6 : kd i = 6
        · -- a sign
          have hfst : fst = true := by
            rcases cc with q | q
            · omega
            · exact q.2
          have eR : Rz = run co kd nm pl d true (none :: st) vs (i + 1) := by
            rw [hR]
            show (if kd i = 6 then _ else _) = _
            rw [if_pos c6]
          rw [show decide (3 ≤ kd i) = true from decide_eq_true (by omega), show decide (kd i = 3) = false from decide_eq_false (by omega), if_neg (by omega : ¬ kd i = 3)] at hw'
          refine x_tkB (c := 6) (by omega) (by omega) (by rw [ki.1, c6]) ?_
          rw [hfst]
          refine x_t174 (fst := true) (by omega) ⟨1, ?_⟩
          refine br_f (by decide) (x_push (sg := true) (by omega) (by omega) ?_)
          refine x_cont hk hi ?_
          rw [show decide (kd i = 3) = false from decide_eq_false (by omega)]
          refine ih (i + 1) true false dep (none :: st) vs M c t pr _ (by omega) (fun q => by cases q) hw' (by rw [if_pos rfl]; exact eR) hx ⟨⟨hk, ⟨pk_us, sw_up st xm.2.1 (Nat.le_refl _)⟩, xm.2.2.1, ents_c (Or.inl rfl) xm.2.2.2.1, xm.2.2.2.2.1, fun j hj => ?_, ?_, xm.2.2.2.2.2.2.2⟩, na_c na (Or.inl (show (1 : Nat) < 3 by decide)), hb, ?_, ?_, ?_, pa, fe⟩ (m + 1) (by omega)
          · rcases List.mem_cons.mp hj with q | q
            · cases q
            · exact xm.2.2.2.2.2.1 j q
          · show st.length + 1 ≤ 24
            omega
          · rw [if_pos rfl]; exact hl'
          · show st.length + 1 ≤ i + 1
            omega
          · rw [if_pos rfl]; omega
        · have c3' : kd i ≤ 3 := by
            rcases cc with q | q
            · exact q
            · omega
          by_cases c3 : kd i = 3
          · -- a bracket
            have eR : Rz = run co kd nm pl d true (some i :: st) vs (i + 1) := by
              rw [hR]
              show (if kd i = 6 then _ else if kd i = 3 then _ else _) = _
              rw [if_neg c6, if_pos c3]
            rw [show decide (3 ≤ kd i) = true from decide_eq_true (by omega), show decide (kd i = 3) = true from decide_eq_true c3, if_pos c3] at hw'
            refine x_tk3 (by omega) (by omega) (by rw [ki.1, c3]) ?_
            refine x_cont hk hi ?_
            rw [show decide (kd i = 3) = true from decide_eq_true c3]
            refine ih (i + 1) true true (dep + 1) (some i :: st) vs M c t pr _ (by omega) (fun q => by cases q) hw' (by rw [if_pos rfl]; exact eR) hx ⟨⟨hk, ⟨pk_us, sw_up st xm.2.1 (Nat.le_refl _)⟩, xm.2.2.1, ents_c (Or.inr ⟨i, rfl, by omega, Or.inl c3⟩) xm.2.2.2.1, xm.2.2.2.2.1, fun j hj => ?_, ?_, xm.2.2.2.2.2.2.2⟩, na_c na (Or.inl ?_), ?_, ?_, ?_, ?_, pa, fe⟩ (m + 1) (by omega)
            · rcases List.mem_cons.mp hj with q | q
              · cases q; exact hi
              · exact xm.2.2.2.2.2.1 j q
            · show st.length + 1 ≤ 24
              omega
            · unfold lev
              dsimp only
              rw [if_neg (by omega), if_neg (by omega), if_neg (by omega)]
              omega
            · show (if kd i = 3 then 1 else 0) + brk kd st = dep + 1
              rw [if_pos c3]; omega
            · rw [if_pos rfl]
              show vs.length = (if kd i = 3 then 0 else 1) + bin kd st + 0
              rw [if_pos c3]; omega
            · show st.length + 1 ≤ i + 1
              omega
            · rw [if_pos rfl]; omega
          · -- an operand
            have c2 : kd i ≤ 2 := by omega
            rw [show decide (3 ≤ kd i) = false from decide_eq_false (by omega), show decide (kd i = 3) = false from decide_eq_false c3, if_neg c3] at hw'
            have eR : Rz = if (atv co kd nm pl i).1 = 0 then rE co kd nm pl d st ((atv co kd nm pl i).2 :: vs) (i + 1) else ((atv co kd nm pl i).1, i, (0, 0)) := by
              rw [hR]
              show (if kd i = 6 then _ else if kd i = 3 then _ else _) = _
              rw [if_neg c6, if_neg c3]
              rfl
            refine x_tkA (by omega) c2 ki.1 ?_
            unfold wX_take_68
            rw [nI_clamp (by omega), hnm i hi]
            refine ⟨vp_in_nI (by omega) (by omega), ?_⟩
            refine x_operand H hx htk hi h24 c2 pa xm.2.2.1 (by omega) (fun z M' c' t' hx' sv' fe' => ?_) (fun z => ?_)
            · rw [if_pos z] at eR
              refine x_cont2 hk hi ?_
              rw [show decide (kd i = 3) = false from decide_eq_false c3]
              refine ih (i + 1) false false dep st ((atv co kd nm pl i).2 :: vs) M' c' t' pr wt (by omega) (fun _ => rfl) hw' (by rw [if_neg (by decide)]; exact eR) hx' ⟨⟨hk, xm.2.1, sv', xm.2.2.2.1, vals_c (atv_va H hpv htk hi c2 z) xm.2.2.2.2.1, xm.2.2.2.2.2.1, lt, ?_⟩, na, hb, ?_, by omega, ?_, pa_fe pa fe', fe_tr fe fe'⟩ (m + 1) (by omega)
              · show 2 * (vs.length + 1) ≤ 24
                omega
              · rw [if_neg (by decide)]
                show vs.length + 1 = _
                omega
              · rw [if_neg (by decide)]
                show 2 * (vs.length + 1) ≤ _
                omega
            · rw [if_neg z] at eR
              rw [eR] at K1 hR5
              refine x_cont2 hk hi ?_
              exact x_flt44 (by omega) hR5 (K1 z M c t pr wt _ _ hx fe)
      · rw [if_neg cc] at hw'
        cases hw'
    | false, hof, hw, hR, hl, h2 =>
      have hfst := hof rfl
      have hl' : vs.length = bin kd st + 1 := by rw [if_neg (by decide)] at hl; omega
      have h2' : 2 * vs.length ≤ i + 1 := by rw [if_neg (by decide)] at h2; omega
      rw [if_neg (by decide)] at hR
      rw [hfst]
      have hw' : (if kd i < 4 ∨ (kd i = 4 ∧ dep = 0) then some i else wr kd n d (decide ((5 ≤ kd i ∧ kd i ≤ 8) ∨ kd i = 11)) false (if kd i = 4 then dep - 1 else dep) (i + 1)) = none := hw
      by_cases cc : kd i < 4 ∨ (kd i = 4 ∧ dep = 0)
      · rw [if_pos cc] at hw'
        cases hw'
      · rw [if_neg cc] at hw'
        have c3 : ¬ kd i = 3 := by omega
        -- what the machine does, by what the component does
        have key : ∀ b, b ≤ 3 → ((drn co kd 3 st vs).1 ≠ 0 → Rz = ((drn co kd b st vs).1, (drn co kd b st vs).2.1, (0, 0)) ∧ (drn co kd b st vs).1 ≠ 0) ∧ ((drn co kd 3 st vs).1 = 0 → Rz = run co kd nm pl (d + 1) false (drn co kd 3 st vs).2.2.1 (drn co kd 3 st vs).2.2.2 i ∧ drn co kd b (drn co kd 3 st vs).2.2.1 (drn co kd 3 st vs).2.2.2 = drn co kd b st vs) := by
          intro b hb3
          refine ⟨fun z => ?_, fun z => ?_⟩
          · have e := rE_f (nm := nm) (pl := pl) (d := d + 1) (i := i) hb3 na z
            rw [hR, e.1]
            exact ⟨rfl, e.2⟩
          · rw [hR, rE_k na z]
            exact ⟨rfl, drn_drn hb3 st vs z⟩
        by_cases c4 : kd i = 4
        · -- a closing bracket
          have hdep : dep ≠ 0 := fun q => cc (Or.inr ⟨c4, q⟩)
          rw [show decide ((5 ≤ kd i ∧ kd i ≤ 8) ∨ kd i = 11) = false from decide_eq_false (by omega), if_pos c4] at hw'
          have eR : ((drn co kd 1 st vs).1 = 0 → Rz = rE co kd nm pl d (drn co kd 1 st vs).2.2.1.tail (drn co kd 1 st vs).2.2.2 (i + 1)) ∧ ((drn co kd 1 st vs).1 ≠ 0 → Rz = ((drn co kd 1 st vs).1, (drn co kd 1 st vs).2.1, (0, 0))) := by
            have k1 := key 1 (by omega)
            by_cases z3 : (drn co kd 3 st vs).1 = 0
            · have e := k1.2 z3
              have e3 : run co kd nm pl (d + 1) false (drn co kd 3 st vs).2.2.1 (drn co kd 3 st vs).2.2.2 i = if (drn co kd 1 st vs).1 = 0 then rE co kd nm pl d (drn co kd 1 st vs).2.2.1.tail (drn co kd 1 st vs).2.2.2 (i + 1) else ((drn co kd 1 st vs).1, (drn co kd 1 st vs).2.1, (0, 0)) := by
                rw [← e.2]
                show (if kd i = 4 then _ else _) = _
                rw [if_pos c4]
                rfl
              rw [e.1, e3]
              exact ⟨fun q => by rw [if_pos q], fun q => by rw [if_neg q]⟩
            · have e := k1.1 z3
              exact ⟨fun q => absurd q e.2, fun _ => e.1⟩
          refine x_tk4 (by omega) (by rw [ki.1, c4]) ⟨30, ?_⟩
          refine x_d100 H (M0 := M0) (st0 := st) (vs0 := vs) (a_waiting := wt) (fun z M' c' t' pr' hx' xm' fe' => ?_) (fun z M' c' t' pr' vl hh hx' fe' => ?_) st vs M c t pr rfl hx xm hl' fe 30 (by omega)
          · have dk := drn_ok H (b := 1) (Nat.le_refl 1) st vs xm.2.2.2.1 xm.2.2.2.2.1 hl' z
            have nad := drn_na (co := co) (b := 1) st vs na
            have e1 := eR.1 z
            match ed : (drn co kd 1 st vs).2.2.1 with
            | [] =>
              exfalso
              have b := dk.2.2.2.1
              rw [ed, hb] at b
              exact hdep b.symm
            | s :: st' =>
              have l := dk.2.2.2.2.2.2 s st' ed
              have en := dk.1
              rw [ed] at en xm' e1 nad
              obtain ⟨j, ej, _, kj⟩ := lev_0 (ents_h en) (by omega)
              have b := dk.2.2.2.1
              rw [ed, ej, hb] at b
              have b' : (if kd j = 3 then 1 else 0) + brk kd st' = dep := b
              rw [if_pos kj] at b'
              have ln := dk.2.2.1
              rw [ed, ej] at ln
              have ln' : (drn co kd 1 st vs).2.2.2.length = (if kd j = 3 then 0 else 1) + bin kd st' + 1 := ln
              rw [if_pos kj] at ln'
              have l5 := dk.2.2.2.2.1
              rw [ed] at l5
              have l5' : st'.length + 1 ≤ st.length := l5
              have l6 := dk.2.2.2.2.2.1
              rw [show (s :: st').length = st'.length + 1 from rfl, nI_pred]
              refine x_cont hk hi ?_
              rw [show decide (kd i = 3) = false from decide_eq_false c3]
              refine ih (i + 1) false false (dep - 1) st' (drn co kd 1 st vs).2.2.2 M' c' t' pr' wt (by omega) (fun _ => rfl) hw' (by rw [if_neg (by decide)]; exact e1) hx' ⟨⟨hk, xm'.2.1.2, xm'.2.2.1, ents_t en, xm'.2.2.2.2.1, fun j hj => xm'.2.2.2.2.2.1 j (List.mem_cons_of_mem _ hj), by omega, xm'.2.2.2.2.2.2.2⟩, na_t nad, by omega, ?_, by omega, ?_, pa_fe (pa_fr (M := M) pa (fun _ _ _ => rfl)) (fun r hr => by rw [fe' r hr]; exact (fe r hr).symm), fe'⟩ (m + 1) (by omega)
              · rw [if_neg (by decide)]; omega
              · rw [if_neg (by decide)]; omega
          · have e1 := eR.2 z
            rw [e1] at K1 hR5
            refine x_cont hk hi ?_
            exact x_flt44 (by omega) hR5 (K1 z M' c' t' pr' wt hh vl hx' fe')
        · by_cases c9 : kd i = 9 ∨ kd i = 10
          · -- a power or a derivative
            rw [show decide ((5 ≤ kd i ∧ kd i ≤ 8) ∨ kd i = 11) = false from decide_eq_false (by omega), if_neg c4] at hw'
            refine x_tkC (c := kd i) (by omega) c9 ki.1 ⟨30, ?_⟩
            refine x_d132 H (M0 := M0) (st0 := st) (vs0 := vs) (a_waiting := wt) (fun z M' c' t' pr' hx' xm' fe' => ?_) (fun z M' c' t' pr' vl hh hx' fe' => ?_) st vs M c t pr rfl hx xm hl' fe 30 (by omega)
            · have dk := drn_ok H (b := 3) (by omega) st vs xm.2.2.2.1 xm.2.2.2.2.1 hl' z
              have nad := drn_na (co := co) (b := 3) st vs na
              have e1 := ((key 3 (by omega)).2 z).1
              have l5 := dk.2.2.2.2.1
              have l6 := dk.2.2.2.2.2.1
              have ln := dk.2.2.1
              match ev : (drn co kd 3 st vs).2.2.2 with
              | [] =>
                rw [ev] at ln
                have : 0 = bin kd (drn co kd 3 st vs).2.2.1 + 1 := ln
                omega
              | v :: vs' =>
                rw [ev] at xm' e1 ln l6
                have l6' : vs'.length + 1 ≤ vs.length := l6
                have ln' : vs'.length + 1 = bin kd (drn co kd 3 st vs).2.2.1 + 1 := ln
                have eR : Rz = if (lsv co (kd i) (nm i) v).1 = 0 then run co kd nm pl d false (drn co kd 3 st vs).2.2.1 ((lsv co (kd i) (nm i) v).2 :: vs') (i + 1) else ((lsv co (kd i) (nm i) v).1, i, (0, 0)) := by
                  rw [e1]
                  show (if kd i = 4 then _ else if kd i = 9 then _ else if kd i = 10 then _ else _) = _
                  rw [if_neg c4]
                  unfold lsv
                  by_cases z9 : kd i = 9
                  · rw [if_pos z9, if_pos z9]; rfl
                  · rw [if_neg z9, if_neg z9, if_pos (by omega)]; rfl
                unfold wX_take_154
                refine br_t rfl ⟨vp_in_nI (by omega) (by omega), ?_⟩
                rw [nI_clamp (by omega), hnm i hi]
                have va := vals_h xm'.2.2.2.2.1
                refine x_last H (i := i) hx' c9 (htk i hi).2 xm'.2.2.1 va (by omega) (fun z2 M2 c2 t2 pr2 hx2 sv2 fe2 => ?_) (fun z2 M2 c2 t2 pr2 hx2 fe2 => ?_)
                · rw [if_pos z2] at eR
                  have vz : Vv co (lsv co (kd i) (nm i) v).2 := by
                    unfold lsv at z2 ⊢
                    by_cases z9 : kd i = 9
                    · rw [if_pos z9] at z2 ⊢
                      obtain ⟨j, hj, hor⟩ := (htk i hi).2 z9
                      rcases hor with q | ⟨j1, q⟩
                      · rw [q, pw_p hj] at z2 ⊢; exact (pwp_va H va z2).1
                      · rw [q, pw_n j1 hj] at z2 ⊢; exact (pwn_va H va z2).1
                    · rw [if_neg z9] at z2 ⊢; exact der_va H va z2
                  refine x_cont2 hk hi ?_
                  rw [show decide (kd i = 3) = false from decide_eq_false c3]
                  refine ih (i + 1) false false dep (drn co kd 3 st vs).2.2.1 ((lsv co (kd i) (nm i) v).2 :: vs') M2 c2 t2 pr2 wt (by omega) (fun _ => rfl) hw' (by rw [if_neg (by decide), rE_n dk.2.2.2.2.2.2]; exact eR) hx2 ⟨⟨hk, xm'.2.1, sv2, xm'.2.2.2.1, vals_c vz (vals_t xm'.2.2.2.2.1), xm'.2.2.2.2.2.1, by omega, ?_⟩, nad, by rw [dk.2.2.2.1, hb], ?_, by omega, ?_, pa_fe (pa_fe pa (fun r hr => by rw [fe' r hr]; exact (fe r hr).symm)) fe2, fe_tr fe' fe2⟩ (m + 1) (by omega)
                  · show 2 * (vs'.length + 1) ≤ 24
                    omega
                  · rw [if_neg (by decide)]
                    show vs'.length + 1 = _
                    omega
                  · rw [if_neg (by decide)]
                    show 2 * (vs'.length + 1) ≤ _
                    omega
                · rw [if_neg z2] at eR
                  rw [eR] at K1 hR5
                  refine x_cont2 hk hi ?_
                  exact x_flt44 (by omega) hR5 (K1 z2 M2 c2 t2 pr2 wt _ _ hx2 (fe_tr fe' fe2))
            · have e1 := (key 3 (by omega)).1 z
              rw [e1.1] at K1 hR5
              refine x_cont hk hi ?_
              exact x_flt44 (by omega) hR5 (K1 z M' c' t' pr' wt hh vl hx' fe')
          · -- a binary operator
            have cB : (5 ≤ kd i ∧ kd i ≤ 8) ∨ kd i = 11 := by omega
            have bn : 1 ≤ bnd (kd i) ∧ bnd (kd i) ≤ 3 := by
              unfold bnd
              split
              · omega
              · split <;> omega
            rw [show decide ((5 ≤ kd i ∧ kd i ≤ 8) ∨ kd i = 11) = true from decide_eq_true cB, if_neg c4] at hw'
            have eR : ((drn co kd (bnd (kd i)) st vs).1 = 0 → Rz = run co kd nm pl d true (some i :: (drn co kd (bnd (kd i)) st vs).2.2.1) (drn co kd (bnd (kd i)) st vs).2.2.2 (i + 1)) ∧ ((drn co kd (bnd (kd i)) st vs).1 ≠ 0 → Rz = ((drn co kd (bnd (kd i)) st vs).1, (drn co kd (bnd (kd i)) st vs).2.1, (0, 0))) := by
              have k1 := key (bnd (kd i)) bn.2
              by_cases z3 : (drn co kd 3 st vs).1 = 0
              · have e := k1.2 z3
                have e3 : run co kd nm pl (d + 1) false (drn co kd 3 st vs).2.2.1 (drn co kd 3 st vs).2.2.2 i = if (drn co kd (bnd (kd i)) st vs).1 = 0 then run co kd nm pl d true (some i :: (drn co kd (bnd (kd i)) st vs).2.2.1) (drn co kd (bnd (kd i)) st vs).2.2.2 (i + 1) else ((drn co kd (bnd (kd i)) st vs).1, (drn co kd (bnd (kd i)) st vs).2.1, (0, 0)) := by
                  rw [← e.2]
                  show (if kd i = 4 then _ else if kd i = 9 then _ else if kd i = 10 then _ else _) = _
                  rw [if_neg c4, if_neg (by omega), if_neg (by omega)]
                rw [e.1, e3]
                exact ⟨fun q => by rw [if_pos q], fun q => by rw [if_neg q]⟩
              · have e := k1.1 z3
                exact ⟨fun q => absurd q e.2, fun _ => e.1⟩
            refine x_tkB (c := kd i) (by omega) cB ki.1 (x_t174 (fst := false) cB ⟨30, ?_⟩)
            rw [Bool.and_false]
            refine x_d197 H (M0 := M0) (st0 := st) (vs0 := vs) (a_waiting := wt) bn.1 bn.2 (fun z M' c' t' pr' hx' xm' fe' => ?_) (fun z M' c' t' pr' vl hh hh24 hx' fe' => ?_) st vs M c t pr rfl hx xm hl' fe 30 (by omega)
            · have dk := drn_ok H (b := bnd (kd i)) bn.1 st vs xm.2.2.2.1 xm.2.2.2.2.1 hl' z
              have nad := drn_na (co := co) (b := bnd (kd i)) st vs na
              have l5 := dk.2.2.2.2.1
              have l6 := dk.2.2.2.2.2.1
              have ln := dk.2.2.1
              refine x_push (sg := false) (by omega) (by omega) ?_
              refine x_cont hk hi ?_
              rw [show decide (kd i = 3) = false from decide_eq_false c3]
              refine ih (i + 1) true false dep (some i :: (drn co kd (bnd (kd i)) st vs).2.2.1) (drn co kd (bnd (kd i)) st vs).2.2.2 M' c' t' pr' _ (by omega) (fun q => by cases q) hw' (by rw [if_pos rfl]; exact eR.1 z) hx' ⟨⟨hk, ⟨pk_us, sw_up _ xm'.2.1 (Nat.le_refl _)⟩, xm'.2.2.1, ents_c (Or.inr ⟨i, rfl, by omega, Or.inr cB⟩) xm'.2.2.2.1, xm'.2.2.2.2.1, fun j hj => ?_, ?_, xm'.2.2.2.2.2.2.2⟩, na_c nad ?_, ?_, ?_, ?_, ?_, pa_fe pa (fun r hr => by rw [fe' r hr]; exact (fe r hr).symm), fe'⟩ (m + 1) (by omega)
              · rcases List.mem_cons.mp hj with q | q
                · cases q; exact hi
                · exact xm'.2.2.2.2.2.1 j q
              · show (drn co kd (bnd (kd i)) st vs).2.2.1.length + 1 ≤ 24
                omega
              · by_cases z11 : kd i = 11
                · refine Or.inr (fun s' st' q => ?_)
                  have := dk.2.2.2.2.2.2 s' st' q
                  unfold bnd at this
                  rw [if_pos z11] at this
                  exact this
                · refine Or.inl ?_
                  unfold lev
                  dsimp only
                  rw [if_neg z11]
                  split
                  · omega
                  · split <;> omega
              · show (if kd i = 3 then 1 else 0) + brk kd _ = dep
                rw [if_neg c3, dk.2.2.2.1, hb]; omega
              · rw [if_pos rfl]
                show _ = (if kd i = 3 then 0 else 1) + bin kd _ + 0
                rw [if_neg c3]; omega
              · show (drn co kd (bnd (kd i)) st vs).2.2.1.length + 1 ≤ i + 1
                omega
              · rw [if_pos rfl]; omega
            · have e1 := eR.2 z
              rw [e1] at K1 hR5
              refine x_push (sg := false) (by omega) (by omega) ?_
              refine x_cont hk hi ?_
              exact x_flt44 (by omega) hR5 (K1 z M' c' t' pr' _ _ vl hx' fe')
end
end
section
/-! which token does not fit: the component -/
def rI : Option Nat → Int32
  | none => -1
  | some i => nI i
theorem wr_b {kd : Nat → Nat} {n : Nat} : ∀ d op fst dep i j, i + d = n → wr kd n d op fst dep i = some j → j ≤ n := by
  intro d
  induction d with
  | zero =>
    intro op fst dep i j hd h
    have h' : (if op = true ∨ dep ≠ 0 then some n else none) = some j := by
      match op with
      | true => exact h
      | false => exact h
    split at h'
    · cases h'; exact Nat.le_refl _
    · cases h'
  | succ d ih =>
    intro op fst dep i j hd h
    match op with
    | true =>
      have h' : (if kd i ≤ 3 ∨ (kd i = 6 ∧ fst = true) then wr kd n d (decide (3 ≤ kd i)) (decide (kd i = 3)) (if kd i = 3 then dep + 1 else dep) (i + 1) else some i) = some j := h
      split at h'
      · exact ih _ _ _ _ _ (by omega) h'
      · cases h'; omega
    | false =>
      have h' : (if kd i < 4 ∨ (kd i = 4 ∧ dep = 0) then some i else wr kd n d (decide ((5 ≤ kd i ∧ kd i ≤ 8) ∨ kd i = 11)) false (if kd i = 4 then dep - 1 else dep) (i + 1)) = some j := h
      split at h'
      · cases h'; omega
      · exact ih _ _ _ _ _ (by omega) h'
section
variable {f_count f_place f_operators f_values f_fault f_found f_factored f_pieces f_kernel : Int32} {a_kind a_with a_c a_top a_product a_there a_waiting a_powers a_matrix a_basis : Nat → Int32}
theorem x_wr {kd : Nat → Nat} {n : Nat} {post : Int32 → Prop} (hk : KD a_kind kd n) : ∀ d op fst dep i, i + d = n → dep ≤ i → (op = false → fst = false) → post (rI (wr kd n d op fst dep i)) → ∀ m, d < m → wX_wrong_9 post (nI n) f_place f_operators f_values f_fault f_found f_factored f_pieces f_kernel a_kind a_with a_c a_top a_product a_there a_waiting a_powers a_matrix a_basis m (bI op) (bI fst) (nI dep) (nI i) := by
  have h24 := hk.1
  intro d
  induction d with
  | zero =>
    intro op fst dep i hd hdep hof K m hm
    obtain ⟨m, rfl⟩ : ∃ k, m = k + 1 := ⟨m - 1, by omega⟩
    refine br_t (nI_le (by omega) (by omega)) ?_
    match op with
    | true =>
      have K' : post (rI (if true = true ∨ dep ≠ 0 then some n else none)) := K
      rw [if_pos (Or.inl rfl)] at K'
      exact br_f (by decide) K'
    | false =>
      have K' : post (rI (if false = true ∨ dep ≠ 0 then some n else none)) := K
      refine br_t rfl ?_
      by_cases z : dep = 0
      · rw [if_neg (fun q => by rcases q with w | w; cases w; exact w z)] at K'
        exact br_t (by rw [z]; decide) K'
      · rw [if_pos (Or.inr z)] at K'
        exact br_f (nI_nle (by omega) (by omega)) K'
  | succ d ih =>
    intro op fst dep i hd hdep hof K m hm
    obtain ⟨m, rfl⟩ : ∃ k, m = k + 1 := ⟨m - 1, by omega⟩
    have hi : i < n := by omega
    have ki := hk.2 i hi
    refine br_f (nI_ge (by omega) (by omega)) ⟨vp_in_nI (by omega) (by omega), nm_r (e' := nI (kd i)) (by rw [nI_clamp (by omega)]; exact ki.1) ?_⟩
    have lit : ∀ c : Nat, c < 2 ^ 31 → (nI (kd i) = nI c ↔ kd i = c) := fun c hc => nI_eq (by omega) hc
    match op, hof with
    | true, _ =>
      have K' : post (rI (if kd i ≤ 3 ∨ (kd i = 6 ∧ fst = true) then wr kd n d (decide (3 ≤ kd i)) (decide (kd i = 3)) (if kd i = 3 then dep + 1 else dep) (i + 1) else some i)) := K
      refine br_f (by decide) ?_
      -- the token is taken
      have go : (kd i ≤ 3 ∨ kd i = 6) → post (rI (wr kd n d (decide (3 ≤ kd i)) (decide (kd i = 3)) (if kd i = 3 then dep + 1 else dep) (i + 1))) → wX_wrong_51 post (wX_wrong_9 post (nI n) f_place f_operators f_values f_fault f_found f_factored f_pieces f_kernel a_kind a_with a_c a_top a_product a_there a_waiting a_powers a_matrix a_basis m) (nI dep) (nI i) (nI (kd i)) (nI n) f_place f_operators f_values f_fault f_found f_factored f_pieces f_kernel a_kind a_with a_c a_top a_product a_there a_waiting a_powers a_matrix a_basis := by
        intro hc K2
        unfold wX_wrong_51
        by_cases c3 : kd i = 3
        · rw [show decide (3 ≤ kd i) = true from decide_eq_true (by omega), show decide (kd i = 3) = true from decide_eq_true c3, if_pos c3] at K2
          refine br_t ((lit 3 (by decide)).mpr c3) (nm_r (nI_1 dep) ?_)
          unfold wX_wrong_60
          refine br_t ((lit 3 (by decide)).mpr c3) ?_
          unfold wX_wrong_71
          exact br_f (by rw [c3]; decide) (nm_r (nI_1 i) (ih true true (dep + 1) (i + 1) (by omega) (by omega) (fun q => by cases q) K2 m (by omega)))
        · rw [show decide (kd i = 3) = false from decide_eq_false c3, if_neg c3] at K2
          refine br_f (fun z => c3 ((lit 3 (by decide)).mp z)) ?_
          unfold wX_wrong_60
          refine br_f (fun z => c3 ((lit 3 (by decide)).mp z)) ?_
          unfold wX_wrong_71
          by_cases c2 : kd i ≤ 2
          · rw [show decide (3 ≤ kd i) = false from decide_eq_false (by omega)] at K2
            exact br_t (nI_le (b := 2) c2 (by decide)) (nm_r (nI_1 i) (ih false false dep (i + 1) (by omega) (by omega) (fun _ => rfl) K2 m (by omega)))
          · rw [show decide (3 ≤ kd i) = true from decide_eq_true (by omega)] at K2
            exact br_f (nI_ge (a := 2) (by omega) (by omega)) (nm_r (nI_1 i) (ih true false dep (i + 1) (by omega) (by omega) (fun q => by cases q) K2 m (by omega)))
      by_cases c3 : kd i ≤ 3
      · rw [if_pos (Or.inl c3)] at K'
        exact br_t (nI_le (b := 3) c3 (by decide)) (go (Or.inl c3) K')
      · refine br_f (nI_ge (a := 3) (by omega) (by omega)) ?_
        by_cases c6 : kd i = 6
        · refine br_t ((lit 6 (by decide)).mpr c6) ?_
          match fst with
          | true =>
            rw [if_pos (Or.inr ⟨c6, rfl⟩)] at K'
            exact br_f (by decide) (go (Or.inr c6) K')
          | false =>
            rw [if_neg (fun q => by rcases q with w | w; exact c3 w; cases w.2)] at K'
            exact br_t rfl K'
        · rw [if_neg (fun q => by rcases q with w | w; exact c3 w; exact c6 w.1)] at K'
          exact br_f (fun z => c6 ((lit 6 (by decide)).mp z)) K'
    | false, hof =>
      have hf := hof rfl
      rw [hf] at K ⊢
      have K' : post (rI (if kd i < 4 ∨ (kd i = 4 ∧ dep = 0) then some i else wr kd n d (decide ((5 ≤ kd i ∧ kd i ≤ 8) ∨ kd i = 11)) false (if kd i = 4 then dep - 1 else dep) (i + 1))) := K
      refine br_t rfl ?_
      by_cases c4 : kd i < 4
      · rw [if_pos (Or.inl c4)] at K'
        exact br_t (nI_lt (b := 4) c4 (by decide)) K'
      · refine br_f (nI_nlt (b := 4) (by omega) (by omega)) ?_
        have go : ∀ dp, dp ≤ i + 1 → post (rI (wr kd n d (decide ((5 ≤ kd i ∧ kd i ≤ 8) ∨ kd i = 11)) false dp (i + 1))) → wX_wrong_115 post (wX_wrong_9 post (nI n) f_place f_operators f_values f_fault f_found f_factored f_pieces f_kernel a_kind a_with a_c a_top a_product a_there a_waiting a_powers a_matrix a_basis m) (bI false) (nI dp) (nI i) (nI (kd i)) (nI n) f_place f_operators f_values f_fault f_found f_factored f_pieces f_kernel a_kind a_with a_c a_top a_product a_there a_waiting a_powers a_matrix a_basis := by
          intro dp hdp K2
          have k128 : ¬ (5 ≤ kd i ∧ kd i ≤ 8) → wX_wrong_128 post (wX_wrong_9 post (nI n) f_place f_operators f_values f_fault f_found f_factored f_pieces f_kernel a_kind a_with a_c a_top a_product a_there a_waiting a_powers a_matrix a_basis m) (bI false) (nI dp) (nI i) (nI (kd i)) (nI n) f_place f_operators f_values f_fault f_found f_factored f_pieces f_kernel a_kind a_with a_c a_top a_product a_there a_waiting a_powers a_matrix a_basis := by
            intro hn
            unfold wX_wrong_128
            by_cases c11 : kd i = 11
            · rw [show decide ((5 ≤ kd i ∧ kd i ≤ 8) ∨ kd i = 11) = true from decide_eq_true (Or.inr c11)] at K2
              exact br_t ((lit 11 (by decide)).mpr c11) (nm_r (nI_1 i) (ih true false dp (i + 1) (by omega) hdp (fun q => by cases q) K2 m (by omega)))
            · rw [show decide ((5 ≤ kd i ∧ kd i ≤ 8) ∨ kd i = 11) = false from decide_eq_false (fun q => by rcases q with w | w; exact hn w; exact c11 w)] at K2
              exact br_f (fun z => c11 ((lit 11 (by decide)).mp z)) (nm_r (nI_1 i) (ih false false dp (i + 1) (by omega) hdp (fun _ => rfl) K2 m (by omega)))
          unfold wX_wrong_115
          by_cases c5 : kd i ≤ 4
          · exact br_t (nI_le (b := 4) c5 (by decide)) (k128 (by omega))
          · refine br_f (nI_ge (a := 4) (by omega) (by omega)) ?_
            by_cases c9 : kd i < 9
            · rw [show decide ((5 ≤ kd i ∧ kd i ≤ 8) ∨ kd i = 11) = true from decide_eq_true (Or.inl (by omega))] at K2
              exact br_t (nI_lt (b := 9) c9 (by decide)) (nm_r (nI_1 i) (ih true false dp (i + 1) (by omega) hdp (fun q => by cases q) K2 m (by omega)))
            · exact br_f (nI_nlt (b := 9) (by omega) (by omega)) (k128 (by omega))
        by_cases e4 : kd i = 4
        · refine br_t ((lit 4 (by decide)).mpr e4) ?_
          by_cases z : dep = 0
          · rw [if_pos (Or.inr ⟨e4, z⟩)] at K'
            exact br_t (by rw [z]; rfl) K'
          · rw [if_neg (fun q => by rcases q with w | w; exact c4 w; exact z w.2), if_pos e4] at K'
            refine br_f (nI_ne0 (by omega) (by omega)) ?_
            unfold wX_wrong_106
            obtain ⟨dp, edp⟩ : ∃ dp, dep = dp + 1 := ⟨dep - 1, by omega⟩
            rw [edp, Nat.add_sub_cancel] at K'
            refine br_t ((lit 4 (by decide)).mpr e4) (nm_r (e' := nI dp) (by rw [edp]; exact pk_m1 dp) (go dp (by omega) K'))
        · rw [if_neg (fun q => by rcases q with w | w; exact c4 w; exact e4 w.1), if_neg e4] at K'
          refine br_f (fun z => e4 ((lit 4 (by decide)).mp z)) ?_
          unfold wX_wrong_106
          exact br_f (fun z => e4 ((lit 4 (by decide)).mp z)) (go dep (by omega) K')
theorem x_wrong {kd : Nat → Nat} {n : Nat} {post : Int32 → Prop} (hk : KD a_kind kd n) (K : post (rI (wr kd n n true true 0 0))) : wpX_wrong post (nI n, f_place, f_operators, f_values, f_fault, f_found, f_factored, f_pieces, f_kernel, a_kind, a_with, a_c, a_top, a_product, a_there, a_waiting, a_powers, a_matrix, a_basis) := by
  unfold wpX_wrong
  exact ⟨n + 1, x_wr hk n true true 0 0 (by omega) (by omega) (fun q => by cases q) K (n + 1) (by omega)⟩
end
end
section
/-! the reference's pass when nothing is reckoned (dry, or after a fault) -/
def oI (kd : Nat → Nat) : Option Nat → Int32
  | none => 12
  | some i => nI (kd i)
def SO (kd : Nat → Nat) (op oa : Nat → Int32) : List (Option Nat) → Prop
  | [] => True
  | s :: st => op st.length = oI kd s ∧ (∀ i, s = some i → oa st.length = nI i) ∧ SO kd op oa st
theorem so_up {kd : Nat → Nat} {op oa : Nat → Int32} {k : Nat} {x y : Int32} : ∀ (st : List (Option Nat)), SO kd op oa st → st.length ≤ k → SO kd (upd op k x) (upd oa k y) st := by
  intro st
  induction st with
  | nil => intro _ _; trivial
  | cons s st ih =>
    intro h hk
    have hk' : st.length + 1 ≤ k := hk
    exact ⟨by rw [pk_un (by omega)]; exact h.1, fun i hi => by rw [pk_un (by omega)]; exact h.2.1 i hi, ih h.2.2 (by omega)⟩
/-- the stack when what binds as tightly as b is taken off -/
def idr (kd : Nat → Nat) (b : Nat) : List (Option Nat) → List (Option Nat)
  | [] => []
  | s :: st => if b ≤ lev kd s then idr kd b st else s :: st
theorem idr_s {kd : Nat → Nat} {b : Nat} {s : Option Nat} {st : List (Option Nat)} (h : b ≤ lev kd s) : idr kd b (s :: st) = idr kd b st := if_pos h
theorem idr_n {kd : Nat → Nat} {b : Nat} {s : Option Nat} {st : List (Option Nat)} (h : ¬ b ≤ lev kd s) : idr kd b (s :: st) = s :: st := if_neg h
theorem idr_ok {kd : Nat → Nat} {b : Nat} (hb : 1 ≤ b) : ∀ (st : List (Option Nat)), Ents kd st → Ents kd (idr kd b st) ∧ brk kd (idr kd b st) = brk kd st ∧ (idr kd b st).length ≤ st.length ∧ (∀ s st', idr kd b st = s :: st' → lev kd s < b) := by
  intro st
  induction st with
  | nil => intro he; exact ⟨he, rfl, Nat.le_refl _, fun s st' q => by cases q⟩
  | cons s st ih =>
    intro he
    by_cases c : b ≤ lev kd s
    · rw [idr_s c]
      have i := ih (ents_t he)
      refine ⟨i.1, ?_, ?_, i.2.2.2⟩
      · rw [i.2.1]
        match s with
        | none => rfl
        | some j =>
          have nb := lev_nb rfl (show 1 ≤ lev kd (some j) by omega) (ents_h he)
          show brk kd st = (if kd j = 3 then 1 else 0) + brk kd st
          rw [if_neg (by omega)]; omega
      · have := i.2.2.1
        show _ ≤ st.length + 1
        omega
    · rw [idr_n c]
      refine ⟨he, rfl, Nat.le_refl _, fun s' st' q => ?_⟩
      cases q
      omega
theorem idr_so {kd : Nat → Nat} {b : Nat} {op oa : Nat → Int32} : ∀ (st : List (Option Nat)), SO kd op oa st → SO kd op oa (idr kd b st) := by
  intro st
  induction st with
  | nil => intro h; exact h
  | cons s st ih =>
    intro h
    by_cases c : b ≤ lev kd s
    · rw [idr_s c]; exact ih h.2.2
    · rw [idr_n c]; exact h
/-- the rank of the reference, by lev -/
def lst (b : Nat) : Nat := if b = 3 then 4 else if b = 2 then 3 else 1
section
variable {f_count f_place f_opens f_top f_fault f_faultAt f_dry f_found : Int32} {a_c a_there a_kind a_num a_open a_openAt a_power a_table : Nat → Int32}
theorem y_rank {kd : Nat → Nat} {s : Option Nat} {b : Nat} {A B : Prop} {post : Int32 → Prop} (hs : Ent kd s) (hb : b = 1 ∨ b = 2 ∨ b = 3) (K1 : b ≤ lev kd s → ∀ r, ¬ r < nI (lst b) → post r) (K0 : ¬ b ≤ lev kd s → ∀ r, r < nI (lst b) → post r) : wpY_rank post (f_count, f_place, f_opens, f_top, f_fault, f_faultAt, f_dry, f_found, a_c, a_there, a_kind, a_num, a_open, a_openAt, a_power, a_table) (oI kd s) := by
  unfold wpY_rank
  have fin : ∀ (l r : Nat), lev kd s = l → ((b ≤ l → ¬ nI r < nI (lst b)) ∧ (¬ b ≤ l → nI r < nI (lst b))) → post (nI r) := by
    intro l r el h
    by_cases c : b ≤ lev kd s
    · exact K1 c _ (h.1 (by omega))
    · exact K0 c _ (h.2 (by omega))
  have tab : ∀ l r : Nat, (l = 0 ∧ r = 0) ∨ (l = 1 ∧ r = 1) ∨ (l = 1 ∧ r = 2) ∨ (l = 2 ∧ r = 3) ∨ (l = 3 ∧ r = 4) → ((b ≤ l → ¬ nI r < nI (lst b)) ∧ (¬ b ≤ l → nI r < nI (lst b))) := by
    intro l r h
    have lb : lst b = if b = 3 then 4 else if b = 2 then 3 else 1 := rfl
    constructor
    · intro hbl
      refine nI_nlt ?_ (by omega)
      rcases hb with q | q | q <;> subst q <;> simp at lb <;> omega
    · intro hbl
      refine nI_lt ?_ (by rcases hb with q | q | q <;> subst q <;> simp at lb <;> omega)
      rcases hb with q | q | q <;> subst q <;> simp at lb <;> omega
  rcases hs with q | ⟨i, q, hi, hk⟩
  · subst q
    show (12 = 11 → post 4) ∧ _
    exact br_f (show ¬ (12 : Int32) = 11 by decide) (br_f (show ¬ (12 : Int32) = 7 by decide) (br_f (show ¬ (12 : Int32) = 8 by decide) (br_t (show (12 : Int32) = 12 by decide) (fin 1 2 rfl (tab 1 2 (by omega))))))
  · subst q
    show (nI (kd i) = 11 → post 4) ∧ _
    have lit : ∀ c : Nat, c < 2 ^ 31 → (nI (kd i) = nI c ↔ kd i = c) := fun c hc => nI_eq (by omega) hc
    have el : lev kd (some i) = if kd i = 11 then 3 else if kd i = 7 ∨ kd i = 8 then 2 else if kd i = 5 ∨ kd i = 6 then 1 else 0 := rfl
    by_cases c11 : kd i = 11
    · exact br_t ((lit 11 (by decide)).mpr c11) (fin 3 4 (by rw [el, if_pos c11]) (tab 3 4 (by omega)))
    · refine br_f (fun z => c11 ((lit 11 (by decide)).mp z)) ?_
      rw [if_neg c11] at el
      by_cases c7 : kd i = 7
      · exact br_t ((lit 7 (by decide)).mpr c7) (fin 2 3 (by rw [el, if_pos (Or.inl c7)]) (tab 2 3 (by omega)))
      · refine br_f (fun z => c7 ((lit 7 (by decide)).mp z)) ?_
        by_cases c8 : kd i = 8
        · exact br_t ((lit 8 (by decide)).mpr c8) (fin 2 3 (by rw [el, if_pos (Or.inr c8)]) (tab 2 3 (by omega)))
        · rw [if_neg (by omega)] at el
          refine br_f (fun z => c8 ((lit 8 (by decide)).mp z)) (br_f (fun z => by have := (lit 12 (by decide)).mp z; omega) ?_)
          by_cases c5 : kd i = 5
          · exact br_t ((lit 5 (by decide)).mpr c5) (fin 1 1 (by rw [el, if_pos (Or.inl c5)]) (tab 1 1 (by omega)))
          · refine br_f (fun z => c5 ((lit 5 (by decide)).mp z)) ?_
            by_cases c6 : kd i = 6
            · exact br_t ((lit 6 (by decide)).mpr c6) (fin 1 1 (by rw [el, if_pos (Or.inr c6)]) (tab 1 1 (by omega)))
            · exact br_f (fun z => c6 ((lit 6 (by decide)).mp z)) (fin 0 0 (by rw [el, if_neg (by omega)]) (tab 0 0 (by omega)))
def Idl (dry fault : Int32) : Prop := ¬ dry = 0 ∨ ¬ fault = 0
theorem y_car_i {h : Nat} {post : SY → Prop} (hi : Idl f_dry f_fault) (hh : h < 30) (K : ∀ tp, post (f_count, f_place, nI h, tp, f_fault, f_faultAt, f_dry, f_found, a_c, a_there, a_kind, a_num, a_open, a_openAt, a_power, a_table)) : wpY_carry post (f_count, f_place, nI (h + 1), f_top, f_fault, f_faultAt, f_dry, f_found, a_c, a_there, a_kind, a_num, a_open, a_openAt, a_power, a_table) := by
  unfold wpY_carry
  have k61 : ∀ (a b c d tp : Int32), wY_carry_61 post a b c d f_count f_place (nI h) tp f_fault f_faultAt f_dry f_found a_c a_there a_kind a_num a_open a_openAt a_power a_table := by
    intro a b c d tp
    unfold wY_carry_61
    rcases hi with q | q
    · exact br_f q (K tp)
    · exact br_c (fun _ => br_f q (K tp)) (fun _ => K tp)
  refine nm_r (nI_pred h) ⟨vp_in_nI hh (by omega), nm_e ⟨vp_in_nI hh (by omega), nm_e (nm_e (nm_e (br_c (fun _ => k61 _ _ _ _ _) (fun _ => nm_e (k61 _ _ _ _ _)))))⟩⟩
theorem y_cdn_i {kd : Nat → Nat} {b : Nat} {post : SY → Prop} (hi : Idl f_dry f_fault) (hb : b = 1 ∨ b = 2 ∨ b = 3) : ∀ (st : List (Option Nat)) (tp : Int32), Ents kd st → SO kd a_open a_openAt st → st.length ≤ 24 → (∀ tp, post (f_count, f_place, nI (idr kd b st).length, tp, f_fault, f_faultAt, f_dry, f_found, a_c, a_there, a_kind, a_num, a_open, a_openAt, a_power, a_table)) → ∀ m, st.length < m → wY_carryDown_0 post (nI (lst b)) m f_count f_place (nI st.length) tp f_fault f_faultAt f_dry f_found a_c a_there a_kind a_num a_open a_openAt a_power a_table := by
  intro st
  induction st with
  | nil =>
    intro tp he hs hl K m hm
    obtain ⟨m, rfl⟩ : ∃ k, m = k + 1 := ⟨m - 1, by omega⟩
    exact br_t (by decide) (K tp)
  | cons s st ih =>
    intro tp he hs hl K m hm
    obtain ⟨m, rfl⟩ : ∃ k, m = k + 1 := ⟨m - 1, by omega⟩
    have hl' : st.length + 1 ≤ 24 := hl
    have hm' : st.length + 1 < m + 1 := hm
    refine br_f (nI_nle (Nat.succ_pos _) (by show st.length + 1 < 2 ^ 31; omega)) ?_
    rw [show (s :: st).length = st.length + 1 from rfl, nI_pred, nI_clamp (by omega), hs.1]
    refine ⟨vp_in_nI (by omega) (by omega), ?_⟩
    refine y_rank (A := True) (B := True) (ents_h he) hb (fun c r hr => ?_) (fun c r hr => ?_)
    · refine br_f hr (y_car_i hi (by omega) (fun tp' => ?_))
      rw [idr_s c] at K
      exact ih tp' (ents_t he) hs.2.2 (by omega) K m (by omega)
    · rw [idr_n c] at K
      exact br_t hr (K tp)
theorem y_cdn {kd : Nat → Nat} {b : Nat} {st : List (Option Nat)} {post : SY → Prop} (hi : Idl f_dry f_fault) (hb : b = 1 ∨ b = 2 ∨ b = 3) (he : Ents kd st) (hs : SO kd a_open a_openAt st) (hl : st.length ≤ 24) (K : ∀ tp, post (f_count, f_place, nI (idr kd b st).length, tp, f_fault, f_faultAt, f_dry, f_found, a_c, a_there, a_kind, a_num, a_open, a_openAt, a_power, a_table)) : wpY_carryDown post (f_count, f_place, nI st.length, f_top, f_fault, f_faultAt, f_dry, f_found, a_c, a_there, a_kind, a_num, a_open, a_openAt, a_power, a_table) (nI (lst b)) := by
  unfold wpY_carryDown
  exact ⟨st.length + 1, y_cdn_i hi hb st f_top he hs hl K (st.length + 1) (by omega)⟩
/-- the top is an @ -/
theorem top_11 {kd : Nat → Nat} {s : Option Nat} (he : Ent kd s) : oI kd s = 11 ↔ lev kd s = 3 := by
  rcases he with q | ⟨i, q, hi, hk⟩
  · subst q
    exact ⟨fun z => absurd z (show ¬ (12 : Int32) = 11 by decide), fun z => absurd z (show ¬ (1 : Nat) = 3 by decide)⟩
  · subst q
    have e1 : (nI (kd i) = 11) ↔ kd i = 11 := nI_eq (b := 11) (by omega) (by decide)
    constructor
    · intro z
      have := e1.mp z
      show (if kd i = 11 then 3 else _) = 3
      rw [if_pos this]
    · intro z
      obtain ⟨j, ej, kj⟩ := lev_3 z
      cases ej
      exact e1.mpr kj
/-- the stack when an @ at the top is taken off -/
def pop3 (kd : Nat → Nat) : List (Option Nat) → List (Option Nat)
  | s :: st => if lev kd s = 3 then st else s :: st
  | [] => []
theorem pop3_ok {kd : Nat → Nat} {op oa : Nat → Int32} {st : List (Option Nat)} (he : Ents kd st) (hs : SO kd op oa st) : Ents kd (pop3 kd st) ∧ SO kd op oa (pop3 kd st) ∧ brk kd (pop3 kd st) = brk kd st ∧ (pop3 kd st).length ≤ st.length := by
  match st with
  | [] => exact ⟨he, hs, rfl, Nat.le_refl _⟩
  | s :: st =>
    by_cases c : lev kd s = 3
    · have e : pop3 kd (s :: st) = st := if_pos c
      rw [e]
      obtain ⟨i, es, ki⟩ := lev_3 c
      refine ⟨ents_t he, hs.2.2, ?_, Nat.le_succ _⟩
      rw [es]
      show brk kd st = (if kd i = 3 then 1 else 0) + brk kd st
      rw [if_neg (by omega)]; omega
    · have e : pop3 kd (s :: st) = s :: st := if_neg c
      rw [e]
      exact ⟨he, hs, rfl, Nat.le_refl _⟩
theorem y_pas_i {kd : Nat → Nat} {n : Nat} {post : Int32 → SY → Prop} (hi : Idl f_dry f_fault) (hk : KD a_kind kd n) :
    ∀ d i op fst dep st tp ao aa, i + d = n → (op = false → fst = false) → Ents kd st → SO kd ao aa st → st.length ≤ i → brk kd st = dep → (∀ h tp ao aa, post (rI (wr kd n d op fst dep i)) (nI n, f_place, h, tp, f_fault, f_faultAt, f_dry, f_found, a_c, a_there, a_kind, a_num, ao, aa, a_power, a_table)) → ∀ m, d < m → wY_pass_16 post m (bI op) (bI fst) (nI i) (nI n) f_place (nI st.length) tp f_fault f_faultAt f_dry f_found a_c a_there a_kind a_num ao aa a_power a_table := by
  have h24 := hk.1
  intro d
  induction d with
  | zero =>
    intro i op fst dep st tp ao aa hd hof he hs hl hb K m hm
    obtain ⟨m, rfl⟩ : ∃ k, m = k + 1 := ⟨m - 1, by omega⟩
    refine br_t (nI_le (by omega) (by omega)) ?_
    match op with
    | true =>
      have K' : ∀ h tp ao aa, post (rI (if true = true ∨ dep ≠ 0 then some n else none)) (nI n, f_place, h, tp, f_fault, f_faultAt, f_dry, f_found, a_c, a_there, a_kind, a_num, ao, aa, a_power, a_table) := K
      rw [if_pos (Or.inl rfl)] at K'
      exact br_f (by decide) (K' _ _ _ _)
    | false =>
      have K' : ∀ h tp ao aa, post (rI (if false = true ∨ dep ≠ 0 then some n else none)) (nI n, f_place, h, tp, f_fault, f_faultAt, f_dry, f_found, a_c, a_there, a_kind, a_num, ao, aa, a_power, a_table) := K
      refine br_t rfl ?_
      refine y_cdn (b := 1) hi (Or.inl rfl) he hs (by omega) (fun tp' => ?_)
      have ok := idr_ok (b := 1) (Nat.le_refl 1) st he
      match ed : idr kd 1 st with
      | [] =>
        have b := ok.2.1
        rw [ed, hb] at b
        have b' : 0 = dep := b
        rw [if_neg (fun q => by rcases q with w | w; cases w; exact w b'.symm)] at K'
        exact br_t (by decide) (K' _ _ _ _)
      | s :: st' =>
        have l := ok.2.2.2 s st' ed
        have en := ok.1
        rw [ed] at en
        obtain ⟨j, ej, _, kj⟩ := lev_0 (ents_h en) (by omega)
        have b := ok.2.1
        rw [ed, ej, hb] at b
        have b' : (if kd j = 3 then 1 else 0) + brk kd st' = dep := b
        rw [if_pos kj] at b'
        rw [if_pos (Or.inr (by omega))] at K'
        have l5 := ok.2.2.1
        rw [ed] at l5
        have l5' : st'.length + 1 ≤ st.length := l5
        exact br_f (nI_nle (Nat.succ_pos _) (by show st'.length + 1 < 2 ^ 31; omega)) (K' _ _ _ _)
  | succ d ih =>
    intro i op fst dep st tp ao aa hd hof he hs hl hb K m hm
    obtain ⟨m, rfl⟩ : ∃ k, m = k + 1 := ⟨m - 1, by omega⟩
    have hin : i < n := by omega
    have ki := hk.2 i hin
    have lit : ∀ c : Nat, c < 2 ^ 31 → (nI (kd i) = nI c ↔ kd i = c) := fun c hc => nI_eq (by omega) hc
    -- an @ at the top is taken off
    have pop : ∀ (st : List (Option Nat)) (tp : Int32) (pst : SY → Prop), Ents kd st → SO kd ao aa st → st.length ≤ 24 → (∀ tp, pst (nI n, f_place, nI (pop3 kd st).length, tp, f_fault, f_faultAt, f_dry, f_found, a_c, a_there, a_kind, a_num, ao, aa, a_power, a_table)) → (nI st.length ≤ 0 → pst (nI n, f_place, nI st.length, tp, f_fault, f_faultAt, f_dry, f_found, a_c, a_there, a_kind, a_num, ao, aa, a_power, a_table)) ∧ (¬ nI st.length ≤ 0 → vp_in (nI st.length - 1) 30 ∧ ((ao (nI st.length - 1).toNatClampNeg = 11 → wpY_carry pst (nI n, f_place, nI st.length, tp, f_fault, f_faultAt, f_dry, f_found, a_c, a_there, a_kind, a_num, ao, aa, a_power, a_table)) ∧ (¬ ao (nI st.length - 1).toNatClampNeg = 11 → pst (nI n, f_place, nI st.length, tp, f_fault, f_faultAt, f_dry, f_found, a_c, a_there, a_kind, a_num, ao, aa, a_power, a_table)))) := by
      intro st tp pst he hs hl kp
      match st with
      | [] => exact br_t (by decide) (kp tp)
      | s :: st =>
        have hl' : st.length + 1 ≤ 24 := hl
        refine br_f (nI_nle (Nat.succ_pos _) (by show st.length + 1 < 2 ^ 31; omega)) ?_
        rw [show (s :: st).length = st.length + 1 from rfl, nI_pred, nI_clamp (by omega), hs.1]
        refine ⟨vp_in_nI (by omega) (by omega), ?_⟩
        by_cases c : lev kd s = 3
        · have e : pop3 kd (s :: st) = st := if_pos c
          rw [e] at kp
          exact br_t ((top_11 (ents_h he)).mpr c) (y_car_i hi (by omega) kp)
        · have e : pop3 kd (s :: st) = s :: st := if_neg c
          rw [e] at kp
          exact br_f (fun z => c ((top_11 (ents_h he)).mp z)) (kp tp)
    refine br_f (nI_ge (by omega) (by omega)) ⟨vp_in_nI (by omega) (by omega), nm_r (e' := nI (kd i)) (by rw [nI_clamp (by omega)]; exact ki.1) ?_⟩
    match op, hof with
    | true, _ =>
      have K' : ∀ h tp ao aa, post (rI (if kd i ≤ 3 ∨ (kd i = 6 ∧ fst = true) then wr kd n d (decide (3 ≤ kd i)) (decide (kd i = 3)) (if kd i = 3 then dep + 1 else dep) (i + 1) else some i)) (nI n, f_place, h, tp, f_fault, f_faultAt, f_dry, f_found, a_c, a_there, a_kind, a_num, ao, aa, a_power, a_table) := K
      refine br_f (by decide) ?_
      have k57 : (kd i = 6 → fst = false) → wY_pass_57 post (wY_pass_16 post m) (bI true) (nI i) (nI (kd i)) (nI n) f_place (nI st.length) tp f_fault f_faultAt f_dry f_found a_c a_there a_kind a_num ao aa a_power a_table := by
        intro h6
        unfold wY_pass_57
        by_cases c3 : kd i = 3
        · rw [if_pos (Or.inl (by omega)), show decide (3 ≤ kd i) = true from decide_eq_true (by omega), show decide (kd i = 3) = true from decide_eq_true c3, if_pos c3] at K'
          refine br_t ((lit 3 (by decide)).mpr c3) ?_
          unfold wpY_push
          refine ⟨vp_in_nI (by omega) (by omega), nm_r (e' := upd ao st.length 3) (by rw [nI_clamp (by omega)]) ⟨vp_in_nI (by omega) (by omega), nm_r (e' := upd aa st.length (nI i)) (by rw [nI_clamp (by omega)]) (nm_r (nI_1 _) ?_)⟩⟩
          unfold wY_pass_125
          refine br_t ((lit 3 (by decide)).mpr c3) (nm_r (nI_1 i) ?_)
          refine ih (i + 1) true true (dep + 1) (some i :: st) tp _ _ (by omega) (fun q => by cases q) (ents_c (Or.inr ⟨i, rfl, by omega, Or.inl c3⟩) he) ⟨?_, fun j hj => ?_, so_up st hs (Nat.le_refl _)⟩ (by show st.length + 1 ≤ i + 1; omega) ?_ K' m (by omega)
          · rw [pk_us]
            show 3 = nI (kd i)
            rw [c3]; rfl
          · cases hj
            exact pk_us
          · show (if kd i = 3 then 1 else 0) + brk kd st = dep + 1
            rw [if_pos c3]; omega
        · refine br_f (fun z => c3 ((lit 3 (by decide)).mp z)) ?_
          by_cases c2 : kd i ≤ 2
          · rw [if_pos (Or.inl (by omega)), show decide (3 ≤ kd i) = false from decide_eq_false (by omega), show decide (kd i = 3) = false from decide_eq_false c3, if_neg c3] at K'
            refine br_f (nI_ge (b := 3) (by omega) (by decide)) ⟨vp_in_nI (by omega) (by omega), ?_⟩
            have go : wY_pass_125 post (wY_pass_16 post m) 0 (nI i) (nI (kd i)) (nI n) f_place (nI (pop3 kd st).length) tp f_fault f_faultAt f_dry f_found a_c a_there a_kind a_num ao aa a_power a_table → True := fun _ => trivial
            unfold wpY_atom
            refine nm_e ?_
            have aft : ∀ tp', (nI st.length ≤ 0 → wY_pass_125 post (wY_pass_16 post m) 0 (nI i) (nI (kd i)) (nI n) f_place (nI st.length) tp' f_fault f_faultAt f_dry f_found a_c a_there a_kind a_num ao aa a_power a_table) ∧ (¬ nI st.length ≤ 0 → vp_in (nI st.length - 1) 30 ∧ ((ao (nI st.length - 1).toNatClampNeg = 11 → wpY_carry (fun u => match u with | (z_f_count, z_f_place, z_f_opens, z_f_top, z_f_fault, z_f_faultAt, z_f_dry, z_f_found, z_a_c, z_a_there, z_a_kind, z_a_num, z_a_open, z_a_openAt, z_a_power, z_a_table) => wY_pass_125 post (wY_pass_16 post m) 0 (nI i) (nI (kd i)) z_f_count z_f_place z_f_opens z_f_top z_f_fault z_f_faultAt z_f_dry z_f_found z_a_c z_a_there z_a_kind z_a_num z_a_open z_a_openAt z_a_power z_a_table) (nI n, f_place, nI st.length, tp', f_fault, f_faultAt, f_dry, f_found, a_c, a_there, a_kind, a_num, ao, aa, a_power, a_table)) ∧ (¬ ao (nI st.length - 1).toNatClampNeg = 11 → wY_pass_125 post (wY_pass_16 post m) 0 (nI i) (nI (kd i)) (nI n) f_place (nI st.length) tp' f_fault f_faultAt f_dry f_found a_c a_there a_kind a_num ao aa a_power a_table))) := by
              intro tp'
              refine pop st tp' (fun u => match u with | (z_f_count, z_f_place, z_f_opens, z_f_top, z_f_fault, z_f_faultAt, z_f_dry, z_f_found, z_a_c, z_a_there, z_a_kind, z_a_num, z_a_open, z_a_openAt, z_a_power, z_a_table) => wY_pass_125 post (wY_pass_16 post m) 0 (nI i) (nI (kd i)) z_f_count z_f_place z_f_opens z_f_top z_f_fault z_f_faultAt z_f_dry z_f_found z_a_c z_a_there z_a_kind z_a_num z_a_open z_a_openAt z_a_power z_a_table) he hs (by omega) (fun tp'' => ?_)
              have pk := pop3_ok he hs
              show wY_pass_125 post (wY_pass_16 post m) 0 (nI i) (nI (kd i)) (nI n) f_place (nI (pop3 kd st).length) tp'' f_fault f_faultAt f_dry f_found a_c a_there a_kind a_num ao aa a_power a_table
              unfold wY_pass_125
              refine br_f (fun z => c3 ((lit 3 (by decide)).mp z)) (nm_r (nI_1 i) ?_)
              exact ih (i + 1) false false dep (pop3 kd st) tp'' ao aa (by omega) (fun _ => rfl) pk.1 pk.2.1 (by omega) (by rw [pk.2.2.1, hb]) K' m (by omega)
            rcases hi with q | q
            · exact br_f q (aft _)
            · exact br_c (fun _ => br_f q (aft _)) (fun _ => aft _)
          · rw [if_neg (fun q => by rcases q with w | w; omega; rw [h6 w.1] at w; cases w.2)] at K'
            exact br_t (nI_le (a := 3) (by omega) (by omega)) (K' _ _ _ _)
      by_cases c6 : kd i = 6
      · refine br_t ((lit 6 (by decide)).mpr c6) ?_
        match fst with
        | true =>
          rw [if_pos (Or.inr ⟨c6, rfl⟩), show decide (3 ≤ kd i) = true from decide_eq_true (by omega), show decide (kd i = 3) = false from decide_eq_false (by omega), if_neg (by omega : ¬ kd i = 3)] at K'
          refine br_f (by decide) ?_
          unfold wpY_push
          refine ⟨vp_in_nI (by omega) (by omega), nm_r (e' := upd ao st.length 12) (by rw [nI_clamp (by omega)]) ⟨vp_in_nI (by omega) (by omega), nm_r (e' := upd aa st.length (nI i)) (by rw [nI_clamp (by omega)]) (nm_r (nI_1 _) ?_)⟩⟩
          unfold wY_pass_125
          refine br_f (fun z => by have := (lit 3 (by decide)).mp z; omega) (nm_r (nI_1 i) ?_)
          refine ih (i + 1) true false dep (none :: st) tp _ _ (by omega) (fun q => by cases q) (ents_c (Or.inl rfl) he) ⟨pk_us, (fun j hj => by cases hj), so_up st hs (Nat.le_refl _)⟩ (by show st.length + 1 ≤ i + 1; omega) hb K' m (by omega)
        | false => exact br_t rfl (k57 (fun _ => rfl))
      · exact br_f (fun z => c6 ((lit 6 (by decide)).mp z)) (k57 (fun q => absurd q c6))
    | false, hof =>
      have hf := hof rfl
      rw [hf] at K ⊢
      have K' : ∀ h tp ao aa, post (rI (if kd i < 4 ∨ (kd i = 4 ∧ dep = 0) then some i else wr kd n d (decide ((5 ≤ kd i ∧ kd i ≤ 8) ∨ kd i = 11)) false (if kd i = 4 then dep - 1 else dep) (i + 1))) (nI n, f_place, h, tp, f_fault, f_faultAt, f_dry, f_found, a_c, a_there, a_kind, a_num, ao, aa, a_power, a_table) := K
      refine br_t rfl ?_
      by_cases c4 : kd i = 4
      · refine br_t ((lit 4 (by decide)).mpr c4) ?_
        refine y_cdn (b := 1) hi (Or.inl rfl) he hs (by omega) (fun tp' => ?_)
        have ok := idr_ok (b := 1) (Nat.le_refl 1) st he
        have so := idr_so (b := 1) st hs
        match ed : idr kd 1 st with
        | [] =>
          have b := ok.2.1
          rw [ed, hb] at b
          have b' : 0 = dep := b
          rw [if_pos (Or.inr ⟨c4, b'.symm⟩)] at K'
          exact br_t rfl (K' _ _ _ _)
        | s :: st' =>
          have l := ok.2.2.2 s st' ed
          have en := ok.1
          rw [ed] at en so
          obtain ⟨j, ej, _, kj⟩ := lev_0 (ents_h en) (by omega)
          have b := ok.2.1
          rw [ed, ej, hb] at b
          have b' : (if kd j = 3 then 1 else 0) + brk kd st' = dep := b
          rw [if_pos kj] at b'
          have l5 := ok.2.2.1
          rw [ed] at l5
          have l5' : st'.length + 1 ≤ st.length := l5
          rw [if_neg (fun q => by rcases q with w | w <;> omega), show decide ((5 ≤ kd i ∧ kd i ≤ 8) ∨ kd i = 11) = false from decide_eq_false (by omega), if_pos c4] at K'
          refine br_f (nI_ne0 (Nat.succ_pos _) (by show st'.length + 1 < 2 ^ 31; omega)) (nm_r (e' := nI st'.length) (nI_pred _) ?_)
          refine pop st' tp' (fun u => match u with | (z_f_count, z_f_place, z_f_opens, z_f_top, z_f_fault, z_f_faultAt, z_f_dry, z_f_found, z_a_c, z_a_there, z_a_kind, z_a_num, z_a_open, z_a_openAt, z_a_power, z_a_table) => (∀ (x3_130 : Int32), x3_130 = nI i + 1 → wY_pass_16 post m (bI false) (bI false) x3_130 z_f_count z_f_place z_f_opens z_f_top z_f_fault z_f_faultAt z_f_dry z_f_found z_a_c z_a_there z_a_kind z_a_num z_a_open z_a_openAt z_a_power z_a_table)) (ents_t en) so.2.2 (by omega) (fun tp'' => ?_)
          have pk := pop3_ok (ents_t en) so.2.2
          exact nm_r (nI_1 i) (ih (i + 1) false false (dep - 1) (pop3 kd st') tp'' ao aa (by omega) (fun _ => rfl) pk.1 pk.2.1 (by omega) (by rw [pk.2.2.1]; omega) K' m (by omega))
      · refine br_f (fun z => c4 ((lit 4 (by decide)).mp z)) ?_
        -- powers and derivatives: nothing
        have k214 : (kd i = 9 ∨ kd i = 10) → wY_pass_214 post (wY_pass_16 post m) (bI false) (bI false) (nI i) (nI (kd i)) (nI n) f_place (nI st.length) tp f_fault f_faultAt f_dry f_found a_c a_there a_kind a_num ao aa a_power a_table := by
          intro h9
          rw [if_neg (by omega), show decide ((5 ≤ kd i ∧ kd i ≤ 8) ∨ kd i = 11) = false from decide_eq_false (by omega), if_neg c4] at K'
          have nx := ih (i + 1) false false dep st tp ao aa (by omega) (fun _ => rfl) he hs (by omega) hb K' m (by omega)
          have k252 : wY_pass_252 post (wY_pass_16 post m) (bI false) (bI false) (nI i) (nI (kd i)) (nI n) f_place (nI st.length) tp f_fault f_faultAt f_dry f_found a_c a_there a_kind a_num ao aa a_power a_table := by
            unfold wY_pass_252
            rcases hi with q | q
            · exact br_f q (nm_r (nI_1 i) nx)
            · exact br_c (fun _ => br_f q (nm_r (nI_1 i) nx)) (fun _ => nm_r (nI_1 i) nx)
          unfold wY_pass_214
          rcases hi with q | q
          · exact br_f q k252
          · exact br_c (fun _ => br_f q k252) (fun _ => k252)
        by_cases c9 : kd i = 9
        · exact br_t ((lit 9 (by decide)).mpr c9) (k214 (Or.inl c9))
        · refine br_f (fun z => c9 ((lit 9 (by decide)).mp z)) ?_
          by_cases c10 : kd i = 10
          · exact br_t ((lit 10 (by decide)).mpr c10) (k214 (Or.inr c10))
          · refine br_f (fun z => c10 ((lit 10 (by decide)).mp z)) ?_
            by_cases c5 : kd i < 4
            · rw [if_pos (Or.inl c5)] at K'
              exact br_t (nI_le (b := 4) (by omega) (by decide)) (K' _ _ _ _)
            · refine br_f (nI_ge (a := 4) (by omega) (by omega)) ?_
              have cB : (5 ≤ kd i ∧ kd i ≤ 8) ∨ kd i = 11 := by omega
              rw [if_neg (by omega), show decide ((5 ≤ kd i ∧ kd i ≤ 8) ∨ kd i = 11) = true from decide_eq_true cB, if_neg c4] at K'
              have bn : bnd (kd i) = 1 ∨ bnd (kd i) = 2 ∨ bnd (kd i) = 3 := by
                unfold bnd
                split
                · exact Or.inr (Or.inr rfl)
                · split
                  · exact Or.inr (Or.inl rfl)
                  · exact Or.inl rfl
              have k317 : wY_pass_317 post (wY_pass_16 post m) (nI i) (nI (kd i)) (nI (lst (bnd (kd i)))) (nI n) f_place (nI st.length) tp f_fault f_faultAt f_dry f_found a_c a_there a_kind a_num ao aa a_power a_table := by
                unfold wY_pass_317
                refine y_cdn hi bn he hs (by omega) (fun tp' => ?_)
                have ok := idr_ok (b := bnd (kd i)) (by omega) st he
                have so := idr_so (b := bnd (kd i)) st hs
                have l5 := ok.2.2.1
                unfold wpY_push
                refine ⟨vp_in_nI (by omega) (by omega), nm_r (e' := upd ao (idr kd (bnd (kd i)) st).length (nI (kd i))) (by rw [nI_clamp (by omega)]) ⟨vp_in_nI (by omega) (by omega), nm_r (e' := upd aa (idr kd (bnd (kd i)) st).length (nI i)) (by rw [nI_clamp (by omega)]) (nm_r (nI_1 _) (nm_r (nI_1 i) ?_))⟩⟩
                refine ih (i + 1) true false dep (some i :: idr kd (bnd (kd i)) st) tp' _ _ (by omega) (fun q => by cases q) (ents_c (Or.inr ⟨i, rfl, by omega, Or.inr cB⟩) ok.1) ⟨pk_us, fun j hj => ?_, so_up _ so (Nat.le_refl _)⟩ (by show (idr kd (bnd (kd i)) st).length + 1 ≤ i + 1; omega) ?_ K' m (by omega)
                · cases hj
                  exact pk_us
                · show (if kd i = 3 then 1 else 0) + brk kd _ = dep
                  rw [if_neg (by omega), ok.2.1, hb]; omega
              by_cases c11 : kd i = 11
              · have e : lst (bnd (kd i)) = 4 := by rw [c11]; rfl
                rw [e] at k317
                exact br_t ((lit 11 (by decide)).mpr c11) k317
              · refine br_f (fun z => c11 ((lit 11 (by decide)).mp z)) ?_
                by_cases c6 : kd i ≤ 6
                · have e : lst (bnd (kd i)) = 1 := by
                    unfold bnd
                    rw [if_neg c11, if_neg (by omega)]; rfl
                  rw [e] at k317
                  exact br_t (nI_le (b := 6) c6 (by decide)) k317
                · have e : lst (bnd (kd i)) = 3 := by
                    unfold bnd
                    rw [if_neg c11, if_pos (by omega)]; rfl
                  rw [e] at k317
                  exact br_f (nI_ge (a := 6) (by omega) (by omega)) k317
end
end
section
/-! the reference's pass that reckons -/
def FG {R : Type} (M M' : Nat → Option R) : Prop := ∀ r, 26 ≤ r → r < 66 → M' r = M r
theorem fg_tr {R : Type} {M M' M'' : Nat → Option R} (h : FG M M') (g : FG M' M'') : FG M M'' := fun r h1 h2 => by rw [g r h1 h2]; exact h r h1 h2
def YM {R : Type} [Lean.Grind.CommRing R] (co : R → Nat → Fin 5) (kd : Nat → Nat) (n : Nat) (ak ao aa : Nat → Int32) (M : Nat → Option R) (st : List (Option Nat)) (vs : List (R × R)) : Prop :=
  KD ak kd n ∧ SO kd ao aa st ∧ SV M 0 vs ∧ Ents kd st ∧ Vals co vs ∧ st.length ≤ 24 ∧ 2 * vs.length ≤ 24
section
variable {f_count f_place f_opens f_top f_fault f_faultAt f_dry f_found : Int32} {a_c a_there a_kind a_num a_open a_openAt a_power a_table : Nat → Int32}
theorem y_copy_u {R : Type} {co : R → Nat → Fin 5} {M : Nat → Option R} {a b : Nat} {post : SY → Prop} (h : RY co a_c M) (ha : a < 90) (hb : b < 90) (hab : a ≠ b)
    (K : ∀ c, RY co c (un M b) → post (f_count, f_place, f_opens, f_top, f_fault, f_faultAt, f_dry, f_found, c, a_there, a_kind, a_num, a_open, a_openAt, a_power, a_table)) : wpY_copy post (f_count, f_place, f_opens, f_top, f_fault, f_faultAt, f_dry, f_found, a_c, a_there, a_kind, a_num, a_open, a_openAt, a_power, a_table) (nI a) (nI b) := by
  unfold wpY_copy
  refine ⟨21, st_loop (fun n i c => wY_copy_2 post (nI a) (nI b) f_count f_place f_opens f_top f_fault f_faultAt f_dry f_found n (nI i) c a_there a_kind a_num a_open a_openAt a_power a_table) a_c (20 * b) 20 (fun i => a_c (20 * a + i)) ?_ ?_ 21 (by omega)⟩
  · intro n
    refine br_t (nI_le (a := 20) (b := 20) (by decide) (by decide)) (K _ (fun r hr p hp => ?_))
    by_cases q : r = b
    · rw [q, un_s] at hp; cases hp
    · rw [un_n q] at hp
      have g := h r hr p hp
      refine ⟨g.1, fun k hk => ?_⟩
      rw [stR_out (by omega)]; exact g.2 k hk
  · intro n i hi hn
    refine br_f (nI_ge (b := 20) hi (by decide)) ⟨in20 ha hi, in20 hb hi, nm_r (e' := upd (stR a_c (20 * b) i (fun i => a_c (20 * a + i))) (20 * b + i) (a_c (20 * a + i))) ?_ (nm_r (nI_1 i) hn)⟩
    rw [cl20 ha hi, cl20 hb hi, stR_out (by omega)]
theorem y_car191 {R : Type} [Lean.Grind.CommRing R] {co : R → Nat → Fin 5} (H : PL co) {M : Nat → Option R} {z : R × R} {v i : Nat} {x1 : Int32} {post : SY → Prop} (h : RY co a_c M) (hx : ¬ x1 = 12) (hv : 2 * v + 1 < 90) (h1 : M (2 * v) = some z.1) (h2 : M (2 * v + 1) = some z.2) (K0 : (big co z).1 = 0 → post (f_count, f_place, f_opens, f_top, 0, f_faultAt, f_dry, f_found, a_c, a_there, a_kind, a_num, a_open, a_openAt, a_power, a_table)) (K1 : (big co z).1 = 4 → post (f_count, f_place, f_opens, f_top, 4, nI i, f_dry, f_found, a_c, a_there, a_kind, a_num, a_open, a_openAt, a_power, a_table)) : wY_carry_191 post x1 (nI i) (nI v) f_count f_place f_opens f_top 0 f_faultAt f_dry f_found a_c a_there a_kind a_num a_open a_openAt a_power a_table := by
  unfold wY_carry_191
  refine br_f hx (br_t rfl (y_large H h hv h1 h2 (fun s => K0 (by rw [big_1 s])) (fun s => K1 (by rw [big_2 (by omega)]))))
theorem y_car_s {R : Type} [Lean.Grind.CommRing R] {co : R → Nat → Fin 5} (H : PL co) {M : Nat → Option R} {w : R × R} {vs : List (R × R)} {h : Nat} {post : SY → Prop} (hy : RY co a_c M) (hh : h < 30) (ho : a_open h = 12) (hvs : 2 * vs.length < 24) (hv : SV M 0 (w :: vs))
    (K : ∀ M' c, RY co c M' → SV M' 0 (ngv co w :: vs) → FG M M' → post (f_count, f_place, nI h, nI (vs.length + 1), 0, f_faultAt, 0, f_found, c, a_there, a_kind, a_num, a_open, a_openAt, a_power, a_table)) : wpY_carry post (f_count, f_place, nI (h + 1), nI (vs.length + 1), 0, f_faultAt, 0, f_found, a_c, a_there, a_kind, a_num, a_open, a_openAt, a_power, a_table) := by
  unfold wpY_carry
  refine nm_r (nI_pred h) ⟨vp_in_nI hh (by omega), nm_r (e' := 12) (by rw [nI_clamp (by omega)]; exact ho) ⟨vp_in_nI hh (by omega), nm_e (nm_e (nm_r (nI_pred _) (br_t rfl ?_)))⟩⟩
  unfold wY_carry_61
  refine br_t rfl (br_t rfl (br_t rfl ?_))
  rw [tw_2]
  have v1 := hv.1
  rw [Nat.zero_add] at v1
  refine y_scale H (x := 4) hy (by omega) v1 (fun c hx => ?_)
  unfold wY_carry_191
  refine br_t rfl (K _ c hx ⟨by rw [Nat.zero_add]; exact uo_s, by rw [uo_n (by omega)]; exact hv.2.1, sv_fr vs hv.2.2 (fun r q1 q2 => uo_n (by omega))⟩ (fun r q1 q2 => uo_n (by omega)))
theorem y_car_b {R : Type} [Lean.Grind.CommRing R] {co : R → Nat → Fin 5} (H : PL co) {M : Nat → Option R} {v w : R × R} {vs : List (R × R)} {h k i : Nat} {post : SY → Prop} (hy : RY co a_c M) (hh : h < 30) (hk : (5 ≤ k ∧ k ≤ 8) ∨ k = 11) (ho : a_open h = nI k) (hoa : a_openAt h = nI i) (hvs : 2 * (vs.length + 1) < 24) (hv : SV M 0 (w :: v :: vs)) (vv' : Vv co v) (vw : Vv co w)
    (K0 : (bop co k v w).1 = 0 → ∀ M' c n pw, RY co c M' → SV M' 0 ((bop co k v w).2 :: vs) → FG M M' → post (f_count, f_place, nI h, nI (vs.length + 1), 0, f_faultAt, 0, n, c, a_there, a_kind, a_num, a_open, a_openAt, pw, a_table))
    (K1 : (bop co k v w).1 ≠ 0 → ∀ M' c n pw, RY co c M' → FG M M' → post (f_count, f_place, nI h, nI (vs.length + 1), nI (bop co k v w).1, nI i, 0, n, c, a_there, a_kind, a_num, a_open, a_openAt, pw, a_table)) : wpY_carry post (f_count, f_place, nI (h + 1), nI (vs.length + 2), 0, f_faultAt, 0, f_found, a_c, a_there, a_kind, a_num, a_open, a_openAt, a_power, a_table) := by
  unfold wpY_carry
  have e2 : nI (vs.length + 2) - 2 = nI vs.length := by
    rw [show (2 : Int32) = nI 2 from rfl, pk_sub (by omega), Nat.add_sub_cancel]
  have n12 : ¬ nI k = 12 := by
    rw [show (12 : Int32) = nI 12 from rfl, nI_eq (by omega) (by omega)]; omega
  refine nm_r (nI_pred h) ⟨vp_in_nI hh (by omega), nm_r (e' := nI k) (by rw [nI_clamp (by omega)]; exact ho) ⟨vp_in_nI hh (by omega), nm_r (e' := nI i) (by rw [nI_clamp (by omega)]; exact hoa) (nm_r e2 (nm_r (nI_pred (vs.length + 1)) (br_f n12 (nm_r (nI_pred (vs.length + 1)) ?_))))⟩⟩
  have w1 := hv.1
  have w2 := hv.2.1
  have v1 := hv.2.2.1
  have v2 := hv.2.2.2.1
  rw [show (v :: vs).length = vs.length + 1 from rfl, Nat.zero_add] at w1 w2
  rw [Nat.zero_add] at v1 v2
  have nv := mo_ne H vv'.2.1
  have nw := mo_ne H vw.2.1
  have fg : ∀ M', FV M M' vs.length → FG M M' := fun M' fx r q1 q2 => fx r (by omega) (by omega) q2
  have svv : ∀ M', FV M M' vs.length → SV M' 0 vs := fun M' fx => sv_fr vs hv.2.2.2.2 (fun r q1 q2 => fx r (by omega) (by omega) (by omega))
  have after : ∀ (z : R × R) M' c n pw, bop co k v w = big co z → RY co c M' → M' (2 * vs.length) = some z.1 → M' (2 * vs.length + 1) = some z.2 → FG M M' → SV M' 0 vs → wY_carry_191 post (nI k) (nI i) (nI vs.length) f_count f_place (nI h) (nI (vs.length + 1)) 0 f_faultAt 0 n c a_there a_kind a_num a_open a_openAt pw a_table := by
    intro z M' c n pw eb hx m1 m2 fx sx
    refine y_car191 H hx n12 (by omega) m1 m2 (fun b0 => ?_) (fun b4 => ?_)
    · have e22 : (big co z).2 = z := by unfold big; split <;> rfl
      refine K0 (by rw [eb]; exact b0) M' c n pw hx ?_ fx
      rw [eb, e22]
      exact ⟨by rw [Nat.zero_add]; exact m1, by rw [Nat.zero_add]; exact m2, sx⟩
    · have := K1 (by rw [eb, b4]; decide) M' c n pw hx fx
      rw [eb, b4] at this
      exact this
  have flt : ∀ c : Nat, c = 3 ∨ c = 4 → (bop co k v w).1 = c → wY_carry_191 post (nI k) (nI i) (nI vs.length) f_count f_place (nI h) (nI (vs.length + 1)) (nI c) (nI i) 0 f_found a_c a_there a_kind a_num a_open a_openAt a_power a_table := by
    intro c hc ec
    have := K1 (by rw [ec]; omega) M a_c f_found a_power hy (fun _ _ _ => rfl)
    rw [ec] at this
    unfold wY_carry_191
    exact br_f n12 (br_f (nI_ne0 (by omega) (by omega)) this)
  have lit : ∀ c : Nat, c < 2 ^ 31 → (nI k = nI c ↔ k = c) := fun c hc => nI_eq (by omega) hc
  unfold wY_carry_61
  refine br_t rfl (br_t rfl (br_f n12 ?_))
  by_cases c5 : k = 5
  · refine br_t ((lit 5 (by decide)).mpr c5) ?_
    exact y_sum H (f := 1) hy (by omega) (by omega) (by omega) v1 v2 w1 w2 vv'.2.2.1 vv'.2.2.2 vw.2.2.1 vw.2.2.2 nv nw (fun x y => c_addm x 1 y) (fun M' c n pw hx m1 m2 fx => after _ M' c n pw (by unfold bop; rw [if_pos c5]) hx m1 m2 (fg M' fx) (svv M' fx))
  · refine br_f (fun z => c5 ((lit 5 (by decide)).mp z)) ?_
    by_cases c6 : k = 6
    · refine br_t ((lit 6 (by decide)).mpr c6) ?_
      exact y_sum H (f := 4) hy (by omega) (by omega) (by omega) v1 v2 w1 w2 vv'.2.2.1 vv'.2.2.2 vw.2.2.1 vw.2.2.2 nv nw c_addn (fun M' c n pw hx m1 m2 fx => after _ M' c n pw (by unfold bop; rw [if_neg c5, if_pos c6]) hx m1 m2 (fg M' fx) (svv M' fx))
    · refine br_f (fun z => c6 ((lit 6 (by decide)).mp z)) ?_
      by_cases c7 : k = 7
      · refine br_t ((lit 7 (by decide)).mpr c7) ?_
        exact y_times H hy (by omega) (by omega) (by omega) v1 v2 w1 w2 vv'.2.2.1 vv'.2.2.2 vw.2.2.1 vw.2.2.2 nv nw (fun M' c n pw hx m1 m2 fx => after _ M' c n pw (by unfold bop; rw [if_neg c5, if_neg c6, if_pos c7]) hx m1 m2 (fg M' (fun r q1 q2 q3 => fx r q1 q2 (by omega))) (svv M' (fun r q1 q2 q3 => fx r q1 q2 (by omega))))
      · refine br_f (fun z => c7 ((lit 7 (by decide)).mp z)) ?_
        by_cases c11 : k = 11
        · have eb : bop co k v w = cif (sz co w.1 w.2 = 0 ∧ vv co v.2 (co w.1 0) = 0) (3, v) (if 8 < sz co v.1 v.2 * sz co w.1 w.2 then (4, v) else big co (rd2 co (PU co v.1 w.1 w.2 (sz co v.1 v.2)) (PU co v.2 w.1 w.2 (sz co v.1 v.2)))) := by
            unfold bop
            rw [if_neg c5, if_neg c6, if_neg c7, if_neg (by omega)]
          refine br_t ((lit 11 (by decide)).mpr c11) ?_
          refine y_inPlace H hy (by omega) (by omega) (by omega) v1 v2 w1 w2 vv' vw (fun z1 z2 => ?_) (fun nz l => ?_) (fun nz l M' c n pw hx m1 m2 fx => ?_)
          · exact flt 3 (Or.inl rfl) (by rw [eb, cif_t ⟨z1, z2⟩])
          · exact flt 4 (Or.inr rfl) (by rw [eb, cif_f nz, if_pos l])
          · exact after _ M' c n pw (by rw [eb, cif_f nz, if_neg (by omega)]) hx m1 m2 (fg M' fx) (svv M' fx)
        · have c8 : k = 8 := by omega
          have eb : bop co k v w = cif (w.1 = 0) (3, v) (big co (rd2 co (v.1 * w.2) (v.2 * w.1))) := by
            unfold bop
            rw [if_neg c5, if_neg c6, if_neg c7, if_pos c8]
          refine br_f (fun z => c11 ((lit 11 (by decide)).mp z)) ?_
          unfold wpY_isZero
          dsimp only
          rw [tw_2]
          refine y_deg H hy (by omega) w1 ?_
          have lw := vw.2.2.1
          by_cases z : w.1 = 0
          · refine br_f (by rw [z, dl_0 H]; decide) (br_f (by decide) ?_)
            unfold wpY_fail
            exact br_t rfl (flt 3 (Or.inl rfl) (by rw [eb, cif_t z]))
          · refine br_t (by rw [ti_nn (by omega)]; exact dl_ne H z) (br_t rfl ?_)
            have nx := f5_inv0 _ (ld_ne H z)
            have cn := mo_nz H (co := co) nx 0
            refine y_flip H hy (by omega) w1 w2 z nw (fun M1 c1 x1 n1 n2 f1 => ?_)
            have d1 := dl_unm H (b := w.2) (dl_mo H nx 0)
            have d2 := dl_unm H (b := w.1) (dl_mo H nx 0)
            refine y_times H x1 (by omega) (by omega) (by omega) (by rw [f1 _ (by omega) (by omega) (by omega)]; exact v1) (by rw [f1 _ (by omega) (by omega) (by omega)]; exact v2) n1 n2 vv'.2.2.1 vv'.2.2.2 (by rw [d1]; exact vw.2.2.2) (by rw [d2]; exact vw.2.2.1) nv (mul_nz H cn z) (fun M' c n pw hx m1 m2 fx => ?_)
            have sc := rd_sc H (p := v.1 * w.2) (q := v.2 * w.1) (mul_nz H nv z) cn
            rw [show v.1 * (mo co (ld co w.1 * ld co w.1 * ld co w.1) 0 * w.2) = mo co (ld co w.1 * ld co w.1 * ld co w.1) 0 * (v.1 * w.2) by grind, show v.2 * (mo co (ld co w.1 * ld co w.1 * ld co w.1) 0 * w.1) = mo co (ld co w.1 * ld co w.1 * ld co w.1) 0 * (v.2 * w.1) by grind] at m1 m2
            rw [sc.1] at m1
            rw [sc.2] at m2
            refine after _ M' c n pw (by rw [eb, cif_f z]) hx m1 m2 (fun r q1 q2 => ?_) (sv_fr vs hv.2.2.2.2 (fun r q1 q2 => ?_))
            · rw [fx r (by omega) (by omega) (by omega), f1 r (by omega) (by omega) (by omega)]
            · rw [fx r (by omega) (by omega) (by omega), f1 r (by omega) (by omega) (by omega)]
theorem y_ap {R : Type} [Lean.Grind.CommRing R] {co : R → Nat → Fin 5} (H : PL co) {kd : Nat → Nat} {n : Nat} {M : Nat → Option R} {s : Option Nat} {st : List (Option Nat)} {vs : List (R × R)} {post : SY → Prop} (h : RY co a_c M) (hm : YM co kd n a_kind a_open a_openAt M (s :: st) vs) (hl : 1 ≤ lev kd s) (hn : vs.length = bin kd (s :: st) + 1)
    (K0 : (ap1 co kd s vs).1 = 0 → ∀ M' c n' pw, RY co c M' → YM co kd n a_kind a_open a_openAt M' st (ap1 co kd s vs).2.2 → FG M M' → post (f_count, f_place, nI st.length, nI (ap1 co kd s vs).2.2.length, 0, f_faultAt, 0, n', c, a_there, a_kind, a_num, a_open, a_openAt, pw, a_table))
    (K1 : (ap1 co kd s vs).1 ≠ 0 → ∀ M' c n' pw tp, RY co c M' → FG M M' → post (f_count, f_place, nI st.length, tp, nI (ap1 co kd s vs).1, nI (ap1 co kd s vs).2.1, 0, n', c, a_there, a_kind, a_num, a_open, a_openAt, pw, a_table)) : wpY_carry post (f_count, f_place, nI (s :: st).length, nI vs.length, 0, f_faultAt, 0, f_found, a_c, a_there, a_kind, a_num, a_open, a_openAt, a_power, a_table) := by
  obtain ⟨hk, hs, hv, he, hva, hl24, hl2⟩ := hm
  have hst : st.length + 1 ≤ 24 := hl24
  match s, vs with
  | none, [] => exact absurd hn (by show ¬ 0 = bin kd st + 1; omega)
  | none, w :: vs =>
    have hvl : 2 * (vs.length + 1) ≤ 24 := hl2
    exact y_car_s H h (by omega) hs.1 (by omega) hv (fun M' c hx sv fe => K0 rfl M' c f_found a_power hx ⟨hk, hs.2.2, sv, ents_t he, vals_c (ngv_va H (vals_h hva)) (vals_t hva), by omega, hvl⟩ fe)
  | some i, vs =>
    have nb := lev_nb rfl hl (ents_h he)
    have b1 : bin kd (some i :: st) = 1 + bin kd st := by
      show (if kd i = 3 then 0 else 1) + bin kd st = _
      rw [if_neg (by omega)]
    rw [b1] at hn
    match vs with
    | [] => exact absurd hn (by show ¬ 0 = _; omega)
    | [w] => exact absurd hn (by show ¬ 1 = _; omega)
    | w :: v :: vs =>
      have hvl : 2 * (vs.length + 2) ≤ 24 := hl2
      exact y_car_b H h (by omega) nb hs.1 (hs.2.1 i rfl) (by omega) hv (vals_h (vals_t hva)) (vals_h hva) (fun b0 M' c n' pw hx sv fe => K0 b0 M' c n' pw hx ⟨hk, hs.2.2, sv, ents_t he, vals_c (bop_va H (vals_h (vals_t hva)) (vals_h hva) b0) (vals_t (vals_t hva)), by omega, by show 2 * (vs.length + 1) ≤ 24; omega⟩ fe) (fun b1 M' c n' pw hx fe => K1 b1 M' c n' pw _ hx fe)
theorem drn_idr {R : Type} [Lean.Grind.CommRing R] {co : R → Nat → Fin 5} {kd : Nat → Nat} {b : Nat} : ∀ (st : List (Option Nat)) (vs : List (R × R)), (drn co kd b st vs).1 = 0 → (drn co kd b st vs).2.2.1 = idr kd b st := by
  intro st
  induction st with
  | nil => intro vs _; rfl
  | cons s st ih =>
    intro vs h
    by_cases c : b ≤ lev kd s
    · by_cases z : (ap1 co kd s vs).1 = 0
      · rw [drn_s1 c z] at h ⊢
        rw [idr_s c]; exact ih _ h
      · rw [drn_s2 c z] at h
        exact absurd h z
    · rw [drn_s3 c, idr_n c]
theorem y_cdr_l {R : Type} [Lean.Grind.CommRing R] {co : R → Nat → Fin 5} (H : PL co) {kd : Nat → Nat} {n b : Nat} {post : SY → Prop} {M0 : Nat → Option R} (hb : b = 1 ∨ b = 2 ∨ b = 3) {st0 : List (Option Nat)} {vs0 : List (R × R)}
    (K0 : (drn co kd b st0 vs0).1 = 0 → ∀ M c n' pw, RY co c M → YM co kd n a_kind a_open a_openAt M (drn co kd b st0 vs0).2.2.1 (drn co kd b st0 vs0).2.2.2 → FG M0 M → post (f_count, f_place, nI (drn co kd b st0 vs0).2.2.1.length, nI (drn co kd b st0 vs0).2.2.2.length, 0, f_faultAt, 0, n', c, a_there, a_kind, a_num, a_open, a_openAt, pw, a_table))
    (K1 : (drn co kd b st0 vs0).1 ≠ 0 → ∀ M c n' pw tp, RY co c M → FG M0 M → post (f_count, f_place, nI (idr kd b st0).length, tp, nI (drn co kd b st0 vs0).1, nI (drn co kd b st0 vs0).2.1, 0, n', c, a_there, a_kind, a_num, a_open, a_openAt, pw, a_table)) :
    ∀ (st : List (Option Nat)) (vs : List (R × R)) M c n' pw, drn co kd b st vs = drn co kd b st0 vs0 → idr kd b st = idr kd b st0 → RY co c M → YM co kd n a_kind a_open a_openAt M st vs → vs.length = bin kd st + 1 → FG M0 M → ∀ m, st.length < m → wY_carryDown_0 post (nI (lst b)) m f_count f_place (nI st.length) (nI vs.length) 0 f_faultAt 0 n' c a_there a_kind a_num a_open a_openAt pw a_table := by
  intro st
  induction st with
  | nil =>
    intro vs M c n' pw e ei hx hm hn fg m hmm
    obtain ⟨m, rfl⟩ : ∃ k, m = k + 1 := ⟨m - 1, by omega⟩
    rw [← e] at K0
    exact br_t (by decide) (K0 rfl M c n' pw hx hm fg)
  | cons s st ih =>
    intro vs M c n' pw e ei hx hm hn fg m hmm
    obtain ⟨m, rfl⟩ : ∃ k, m = k + 1 := ⟨m - 1, by omega⟩
    have hmm' : st.length + 1 < m + 1 := hmm
    have hl' : st.length + 1 ≤ 24 := hm.2.2.2.2.2.1
    refine br_f (nI_nle (Nat.succ_pos _) (by show st.length + 1 < 2 ^ 31; omega)) ?_
    have eo : a_open (nI (s :: st).length - 1).toNatClampNeg = oI kd s := by
      rw [show (s :: st).length = st.length + 1 from rfl, nI_pred, nI_clamp (by omega)]
      exact hm.2.1.1
    rw [eo]
    refine ⟨by rw [show (s :: st).length = st.length + 1 from rfl, nI_pred]; exact vp_in_nI (by omega) (by omega), ?_⟩
    refine y_rank (A := True) (B := True) (ents_h hm.2.2.2.1) hb (fun c1 r hr => ?_) (fun c1 r hr => ?_)
    · refine br_f hr (y_ap H hx hm (by omega) hn (fun z M' c' n'' pw' hx' hm' fg' => ?_) (fun z M' c' n'' pw' tp hx' fg' => ?_))
      · rw [drn_s1 c1 z] at e
        rw [idr_s c1] at ei
        have a := ap1_ok H (x := 0) hm.2.2.2.1 hm.2.2.2.2.1 (by omega) hn z
        exact ih _ M' c' n'' pw' e ei hx' hm' a.2.1 (fg_tr fg fg') m (by omega)
      · rw [drn_s2 c1 z] at e
        rw [idr_s c1] at ei
        rw [← e, ← ei] at K1
        exact y_cdn_i (Or.inr (ap1_n0 z)) hb st tp (ents_t hm.2.2.2.1) hm.2.1.2.2 (by omega) (fun tp' => K1 z M' c' n'' pw' tp' hx' (fg_tr fg fg')) m (by omega)
    · rw [drn_s3 c1] at e
      rw [← e] at K0
      exact br_t hr (K0 rfl M c n' pw hx hm fg)
theorem y_cdr {R : Type} [Lean.Grind.CommRing R] {co : R → Nat → Fin 5} (H : PL co) {kd : Nat → Nat} {n b : Nat} {post : SY → Prop} {M : Nat → Option R} {st : List (Option Nat)} {vs : List (R × R)} (hb : b = 1 ∨ b = 2 ∨ b = 3) (h : RY co a_c M) (hm : YM co kd n a_kind a_open a_openAt M st vs) (hn : vs.length = bin kd st + 1)
    (K0 : (drn co kd b st vs).1 = 0 → ∀ M' c n' pw, RY co c M' → YM co kd n a_kind a_open a_openAt M' (drn co kd b st vs).2.2.1 (drn co kd b st vs).2.2.2 → FG M M' → post (f_count, f_place, nI (drn co kd b st vs).2.2.1.length, nI (drn co kd b st vs).2.2.2.length, 0, f_faultAt, 0, n', c, a_there, a_kind, a_num, a_open, a_openAt, pw, a_table))
    (K1 : (drn co kd b st vs).1 ≠ 0 → ∀ M' c n' pw tp, RY co c M' → FG M M' → post (f_count, f_place, nI (idr kd b st).length, tp, nI (drn co kd b st vs).1, nI (drn co kd b st vs).2.1, 0, n', c, a_there, a_kind, a_num, a_open, a_openAt, pw, a_table)) : wpY_carryDown post (f_count, f_place, nI st.length, nI vs.length, 0, f_faultAt, 0, f_found, a_c, a_there, a_kind, a_num, a_open, a_openAt, a_power, a_table) (nI (lst b)) := by
  unfold wpY_carryDown
  exact ⟨st.length + 1, y_cdr_l H hb K0 K1 st vs M a_c f_found a_power rfl rfl h hm hn (fun _ _ _ => rfl) (st.length + 1) (by omega)⟩
theorem y_atom {R : Type} [Lean.Grind.CommRing R] {co : R → Nat → Fin 5} (H : PL co) {kd : Nat → Nat} {nm : Nat → Int32} {pl : Nat → Option (R × R)} {n i : Nat} {M : Nat → Option R} {vs : List (R × R)} {post : SY → Prop} (h : RY co a_c M) (hk : TK kd nm n) (hi : i < n) (h24 : n ≤ 24) (h2 : kd i ≤ 2) (hpl : PA co M a_there 52 pl 6) (hv : SV M 0 vs) (hl : 2 * vs.length ≤ 22)
    (K0 : (atv co kd nm pl i).1 = 0 → ∀ M' c, RY co c M' → SV M' 0 ((atv co kd nm pl i).2 :: vs) → FG M M' → post (f_count, f_place, f_opens, nI (vs.length + 1), 0, f_faultAt, 0, f_found, c, a_there, a_kind, a_num, a_open, a_openAt, a_power, a_table))
    (K1 : (atv co kd nm pl i).1 ≠ 0 → ∀ M' c, RY co c M' → FG M M' → post (f_count, f_place, f_opens, nI (vs.length + 1), nI (atv co kd nm pl i).1, nI i, 0, f_found, c, a_there, a_kind, a_num, a_open, a_openAt, a_power, a_table)) : wpY_atom post (f_count, f_place, f_opens, nI vs.length, 0, f_faultAt, 0, f_found, a_c, a_there, a_kind, a_num, a_open, a_openAt, a_power, a_table) (nI (kd i)) (nm i) (nI i) := by
  unfold wpY_atom
  have e4 : 2 * (nI (vs.length + 1) - 1) = nI (2 * vs.length) := by rw [nI_pred, tw_2]
  have lit : ∀ c : Nat, c < 2 ^ 31 → (nI (kd i) = nI c ↔ kd i = c) := fun c hc => nI_eq (by omega) hc
  refine nm_r (nI_1 _) (br_t rfl (br_t rfl (nm_r e4 ?_)))
  have a47 : ∀ (z : Int32) (x : Fin 5), md z = cI x → (kd i = 0 → x = fi (nm i)) → (kd i ≠ 0 → x = 0) → wY_atom_47 post (nI (kd i)) (nm i) (nI i) (nI (2 * vs.length)) z (nI (2 * vs.length)) f_count f_place f_opens (nI (vs.length + 1)) 0 f_faultAt 0 f_found a_c a_there a_kind a_num a_open a_openAt a_power a_table := by
    intro z x hz hx0 hx1
    unfold wY_atom_47
    rw [nI_1]
    refine y_become H h (by omega) hz (fun c1 x1 => ?_)
    refine y_become H (x := 1) x1 (by omega) (by decide) (fun c2 x2 => ?_)
    rw [mo_1 H] at x2
    by_cases c1' : kd i = 1
    · have ea : atv co kd nm pl i = (0, (mo co 1 1, 1)) := by
        unfold atv
        rw [if_neg (by omega), if_pos c1']
      have zx := hx1 (by omega)
      rw [zx, mo_0 H] at x2
      have ei : 20 * nI (2 * vs.length) + 1 = nI (20 * (2 * vs.length) + 1) := ix20 _ 1
      refine br_t ((lit 1 (by decide)).mpr c1') ?_
      rw [ei]
      refine ⟨vp_in_nI (by omega) (by omega), nm_r (e' := upd c2 (20 * (2 * vs.length) + 1) (cI 1)) (by rw [nI_clamp (by omega)]; rfl) ?_⟩
      unfold wY_atom_77
      have z2 := (x2 (2 * vs.length) (by omega) 0 (by (repeat rw [uo_n (by omega)]) <;> exact uo_s)).2
      have x3 := ry_up (a := 2 * vs.length) (c' := upd c2 (20 * (2 * vs.length) + 1) (cI 1)) (p := mo co 1 1) x2 (by rw [dl_mo H (by decide)]; omega) (fun k hk => ?_) (fun j hj => pk_un (by omega))
      · rw [ea] at K0
        refine br_f (fun q => by have := (lit 2 (by decide)).mp q; omega) (K0 rfl _ _ x3 ⟨by rw [Nat.zero_add]; exact uo_s, by rw [Nat.zero_add]; exact (by (repeat rw [uo_n (by omega)]) <;> exact uo_s), sv_fr vs hv (fun r q1 q2 => (by (repeat rw [uo_n (by omega)]) <;> exact rfl))⟩ (fun r q1 q2 => (by (repeat rw [uo_n (by omega)]) <;> exact rfl)))
      · rw [mo_co H]
        by_cases q : k = 1
        · rw [if_pos q, q]; exact pk_us
        · rw [if_neg q, pk_un (by omega), z2 k hk, pl_0 H]
    · refine br_f (fun q => c1' ((lit 1 (by decide)).mp q)) ?_
      unfold wY_atom_77
      by_cases c2' : kd i = 2
      · obtain ⟨v, hv5, ev⟩ := (hk i hi).1 c2'
        refine br_t ((lit 2 (by decide)).mpr c2') ?_
        rw [ev, nI_clamp (by omega)]
        refine ⟨vp_in_nI (by omega) (by omega), ?_⟩
        have ea : atv co kd nm pl i = match pl v with | some x => (0, x) | none => (2, (0, 0)) := by
          unfold atv
          rw [if_neg (by omega), if_neg (by omega), ev, nI_clamp (by omega)]
          rfl
        have e52 : (52 : Int32) + 2 * nI v = nI (52 + 2 * v) := by rw [tw_2]; exact nI_add 52 _
        have e53 : (53 : Int32) + 2 * nI v = nI (52 + 2 * v + 1) := by
          rw [tw_2, show (53 : Int32) + nI (2 * v) = nI (53 + 2 * v) from nI_add 53 _]
          congr 1
          omega
        rcases hpl v (by omega) with ⟨q1, q2⟩ | ⟨p, q, q1, q2, q3, q4, q5⟩
        · rw [q1] at ea
          have ea' : atv co kd nm pl i = (2, (0, 0)) := ea
          refine br_t q2 ?_
          unfold wpY_fail
          refine br_t rfl ?_
          show wY_atom_98 post (nI v) (nI (2 * vs.length)) f_count f_place f_opens (nI (vs.length + 1)) 2 (nI i) 0 f_found c2 a_there a_kind a_num a_open a_openAt a_power a_table
          unfold wY_atom_98
          rw [e52, e53, nI_1]
          refine y_copy_u x2 (by omega) (by omega) (by omega) (fun c3 x3 => ?_)
          refine y_copy_u x3 (by omega) (by omega) (by omega) (fun c4 x4 => ?_)
          have := K1 (by rw [ea']; simp) _ c4 x4 (fun r w1 w2 => by rw [un_n (by omega), un_n (by omega)]; exact (by (repeat rw [uo_n (by omega)]) <;> exact rfl))
          rw [ea'] at this
          exact this
        · rw [q1] at ea
          have ea' : atv co kd nm pl i = (0, (p, q)) := ea
          refine br_f (by rw [q2]; decide) ?_
          unfold wY_atom_98
          rw [e52, e53, nI_1]
          refine y_copy H x2 (by omega) (by omega) (by (repeat rw [uo_n (by omega)]) <;> exact q3) (fun c3 x3 => ?_)
          refine y_copy H x3 (by omega) (by omega) (by (repeat rw [uo_n (by omega)]) <;> exact q4) (fun c4 x4 => ?_)
          rw [ea'] at K0
          exact K0 rfl _ c4 x4 ⟨by rw [Nat.zero_add]; exact (by (repeat rw [uo_n (by omega)]) <;> exact uo_s), by rw [Nat.zero_add]; exact uo_s, sv_fr vs hv (fun r w1 w2 => (by (repeat rw [uo_n (by omega)]) <;> exact rfl))⟩ (fun r w1 w2 => (by (repeat rw [uo_n (by omega)]) <;> exact rfl))
      · have c0 : kd i = 0 := by omega
        have ea : atv co kd nm pl i = (0, (mo co (fi (nm i)) 0, 1)) := by
          unfold atv
          rw [if_pos c0]
        rw [hx0 c0] at x2
        rw [ea] at K0
        exact br_f (fun q => c2' ((lit 2 (by decide)).mp q)) (K0 rfl _ c2 x2 ⟨by rw [Nat.zero_add]; exact (by (repeat rw [uo_n (by omega)]) <;> exact uo_s), by rw [Nat.zero_add]; exact uo_s, sv_fr vs hv (fun r w1 w2 => (by (repeat rw [uo_n (by omega)]) <;> exact rfl))⟩ (fun r w1 w2 => (by (repeat rw [uo_n (by omega)]) <;> exact rfl)))
  by_cases c0 : kd i = 0
  · exact br_t ((lit 0 (by decide)).mpr c0) (a47 _ _ (fi_e _) (fun _ => rfl) (fun q => absurd c0 q))
  · exact br_f (fun q => c0 ((lit 0 (by decide)).mp q)) (a47 0 0 (by decide) (fun q => absurd q c0) (fun _ => rfl))
end
end
section
/-! the reference's loop over the tokens -/
theorem egr_s {R : Type} [Lean.Grind.CommRing R] {co : R → Nat → Fin 5} {kd : Nat → Nat} {s : Option Nat} {st : List (Option Nat)} {vs : List (R × R)} (h : lev kd s = 3) : egr co kd (s :: st) vs = ((ap1 co kd s vs).1, (ap1 co kd s vs).2.1, st, (ap1 co kd s vs).2.2) := if_pos h
theorem egr_n {R : Type} [Lean.Grind.CommRing R] {co : R → Nat → Fin 5} {kd : Nat → Nat} {s : Option Nat} {st : List (Option Nat)} {vs : List (R × R)} (h : ¬ lev kd s = 3) : egr co kd (s :: st) vs = (0, 0, s :: st, vs) := if_neg h
section
variable {f_count f_place f_opens f_top f_fault f_faultAt f_dry f_found : Int32} {a_c a_there a_kind a_num a_open a_openAt a_power a_table : Nat → Int32}
theorem y_pop {R : Type} [Lean.Grind.CommRing R] {co : R → Nat → Fin 5} (H : PL co) {kd : Nat → Nat} {n : Nat} {M : Nat → Option R} {st : List (Option Nat)} {vs : List (R × R)} {pst : SY → Prop} (h : RY co a_c M) (hm : YM co kd n a_kind a_open a_openAt M st vs) (hn : vs.length = bin kd st + 1)
    (K0 : (egr co kd st vs).1 = 0 → ∀ M' c n' pw, RY co c M' → YM co kd n a_kind a_open a_openAt M' (egr co kd st vs).2.2.1 (egr co kd st vs).2.2.2 → FG M M' → pst (f_count, f_place, nI (egr co kd st vs).2.2.1.length, nI (egr co kd st vs).2.2.2.length, 0, f_faultAt, 0, n', c, a_there, a_kind, a_num, a_open, a_openAt, pw, a_table))
    (K1 : (egr co kd st vs).1 ≠ 0 → ∀ M' c n' pw tp, RY co c M' → FG M M' → pst (f_count, f_place, nI (pop3 kd st).length, tp, nI (egr co kd st vs).1, nI (egr co kd st vs).2.1, 0, n', c, a_there, a_kind, a_num, a_open, a_openAt, pw, a_table)) :
    (nI st.length ≤ 0 → pst (f_count, f_place, nI st.length, nI vs.length, 0, f_faultAt, 0, f_found, a_c, a_there, a_kind, a_num, a_open, a_openAt, a_power, a_table)) ∧ (¬ nI st.length ≤ 0 → vp_in (nI st.length - 1) 30 ∧ ((a_open (nI st.length - 1).toNatClampNeg = 11 → wpY_carry pst (f_count, f_place, nI st.length, nI vs.length, 0, f_faultAt, 0, f_found, a_c, a_there, a_kind, a_num, a_open, a_openAt, a_power, a_table)) ∧ (¬ a_open (nI st.length - 1).toNatClampNeg = 11 → pst (f_count, f_place, nI st.length, nI vs.length, 0, f_faultAt, 0, f_found, a_c, a_there, a_kind, a_num, a_open, a_openAt, a_power, a_table)))) := by
  match st with
  | [] => exact br_t (by decide) (K0 rfl M a_c f_found a_power h hm (fun _ _ _ => rfl))
  | s :: st =>
    have hl' : st.length + 1 ≤ 24 := hm.2.2.2.2.2.1
    have eo : a_open (nI (s :: st).length - 1).toNatClampNeg = oI kd s := by
      rw [show (s :: st).length = st.length + 1 from rfl, nI_pred, nI_clamp (by omega)]
      exact hm.2.1.1
    refine br_f (nI_nle (Nat.succ_pos _) (by show st.length + 1 < 2 ^ 31; omega)) ?_
    rw [eo]
    refine ⟨by rw [show (s :: st).length = st.length + 1 from rfl, nI_pred]; exact vp_in_nI (by omega) (by omega), ?_⟩
    by_cases c : lev kd s = 3
    · rw [egr_s c] at K0 K1
      have e : pop3 kd (s :: st) = st := if_pos c
      rw [e] at K1
      exact br_t ((top_11 (ents_h hm.2.2.2.1)).mpr c) (y_ap H h hm (by omega) hn K0 K1)
    · rw [egr_n c] at K0
      exact br_f (fun z => c ((top_11 (ents_h hm.2.2.2.1)).mp z)) (K0 rfl M a_c f_found a_power h hm (fun _ _ _ => rfl))
theorem egr_ok {R : Type} [Lean.Grind.CommRing R] {co : R → Nat → Fin 5} (H : PL co) {kd : Nat → Nat} {st : List (Option Nat)} {vs : List (R × R)} (he : Ents kd st) (hv : Vals co vs) (hn : vs.length = bin kd st + 1) (h0 : (egr co kd st vs).1 = 0) : (egr co kd st vs).2.2.2.length = bin kd (egr co kd st vs).2.2.1 + 1 ∧ brk kd (egr co kd st vs).2.2.1 = brk kd st ∧ (egr co kd st vs).2.2.1.length ≤ st.length ∧ (egr co kd st vs).2.2.2.length ≤ vs.length := by
  match st with
  | [] => exact ⟨hn, rfl, Nat.le_refl _, Nat.le_refl _⟩
  | s :: st =>
    by_cases c : lev kd s = 3
    · rw [egr_s c] at h0 ⊢
      have a := ap1_ok H (x := 0) he hv (by omega) hn h0
      exact ⟨a.2.1, a.2.2.1.symm, Nat.le_succ _, a.2.2.2⟩
    · rw [egr_n c]
      exact ⟨hn, rfl, Nat.le_refl _, Nat.le_refl _⟩
theorem y_lst {R : Type} [Lean.Grind.CommRing R] {co : R → Nat → Fin 5} (H : PL co) {M : Nat → Option R} {v : R × R} {vs : List (R × R)} {k i : Nat} {x1 x2 : Int32} {post : Int32 → SY → Prop} {J : Int32 → Int32 → Int32 → Int32 → Int32 → Int32 → Int32 → Int32 → Int32 → Int32 → Int32 → (Nat → Int32) → (Nat → Int32) → (Nat → Int32) → (Nat → Int32) → (Nat → Int32) → (Nat → Int32) → (Nat → Int32) → (Nat → Int32) → Prop} (h : RY co a_c M) (hi : i < 24) (hk : k = 9 ∨ k = 10) (hn : k = 9 → ∃ j, j ≤ 8 ∧ (a_num i = nI j ∨ (1 ≤ j ∧ a_num i = -nI j))) (hv : SV M 0 (v :: vs)) (va : Vv co v) (hl : 2 * vs.length ≤ 22)
    (K0 : (lsv co k (a_num i) v).1 = 0 → ∀ M' c n pw, RY co c M' → SV M' 0 ((lsv co k (a_num i) v).2 :: vs) → FG M M' → J x1 x2 (nI (i + 1)) f_count f_place f_opens (nI (vs.length + 1)) 0 f_faultAt 0 n c a_there a_kind a_num a_open a_openAt pw a_table)
    (K1 : (lsv co k (a_num i) v).1 ≠ 0 → ∀ M' c n pw, RY co c M' → FG M M' → J x1 x2 (nI (i + 1)) f_count f_place f_opens (nI (vs.length + 1)) (nI (lsv co k (a_num i) v).1) (nI i) 0 n c a_there a_kind a_num a_open a_openAt pw a_table) : wY_pass_214 post J x1 x2 (nI i) (nI k) f_count f_place f_opens (nI (vs.length + 1)) 0 f_faultAt 0 f_found a_c a_there a_kind a_num a_open a_openAt a_power a_table := by
  have fg : ∀ M', FV M M' vs.length → FG M M' := fun M' fx r q1 q2 => fx r (by omega) (by omega) q2
  have svv : ∀ M', FV M M' vs.length → SV M' 0 vs := fun M' fx => sv_fr vs hv.2.2 (fun r q1 q2 => fx r (by omega) (by omega) (by omega))
  have v1 := hv.1
  have v2 := hv.2.1
  rw [Nat.zero_add] at v1 v2
  have bz : ∀ z : R × R, (big co z).2 = z := fun z => by unfold big; split <;> rfl
  unfold wY_pass_214
  refine br_t rfl (br_t rfl ?_)
  rcases hk with k9 | k10
  · subst k9
    refine br_t (by decide) ⟨vp_in_nI hi (by omega), ?_⟩
    rw [nI_clamp (by omega), nI_pred]
    have el : lsv co 9 (a_num i) v = pw_ co (a_num i) v := by unfold lsv; rw [if_pos rfl]
    obtain ⟨j, hj, hor⟩ := hn rfl
    have ok : ∀ M' c n pw, (lsv co 9 (a_num i) v).1 = 0 → RY co c M' → M' (2 * vs.length) = some (lsv co 9 (a_num i) v).2.1 → M' (2 * vs.length + 1) = some (lsv co 9 (a_num i) v).2.2 → FV M M' vs.length → wY_pass_252 post J x1 x2 (nI i) (nI 9) f_count f_place f_opens (nI (vs.length + 1)) 0 f_faultAt 0 n c a_there a_kind a_num a_open a_openAt pw a_table := by
      intro M' c n pw z hx m1 m2 fx
      unfold wY_pass_252
      exact br_t rfl (br_t rfl (br_f (by decide) (nm_r (nI_1 i) (K0 z M' c n pw hx ⟨by rw [Nat.zero_add]; exact m1, by rw [Nat.zero_add]; exact m2, svv M' fx⟩ (fg M' fx)))))
    have flt : ∀ c : Nat, c = 3 ∨ c = 4 → (lsv co 9 (a_num i) v).1 = c → ∀ M' c' n pw, RY co c' M' → FV M M' vs.length → wY_pass_252 post J x1 x2 (nI i) (nI 9) f_count f_place f_opens (nI (vs.length + 1)) (nI c) (nI i) 0 n c' a_there a_kind a_num a_open a_openAt pw a_table := by
      intro c hc ec M' c' n pw hx fx
      have := K1 (by rw [ec]; omega) M' c' n pw hx (fg M' fx)
      rw [ec] at this
      unfold wY_pass_252
      exact br_t rfl (br_f (nI_ne0 (by omega) (by omega)) (nm_r (nI_1 i) this))
    rcases hor with en | ⟨j1, en⟩
    · rw [en] at el flt ok ⊢
      rw [pw_p hj] at el
      refine y_rai_p H h (by omega) hj v1 v2 va (fun l M' c n pw hx fx => ?_) (fun l M' c n pw hx m1 m2 fx => ?_)
      · exact flt 4 (Or.inr rfl) (by rw [el]; unfold pwp; rw [if_pos l]) M' c n pw hx fx
      · have e0 : lsv co 9 (nI j) v = (0, (rwP co v.1 v.2 j, rwQ co v.1 v.2 j)) := by rw [el]; unfold pwp; rw [if_neg (by omega)]
        exact ok M' c n pw (by rw [e0]) hx (by rw [e0]; exact m1) (by rw [e0]; exact m2) fx
    · rw [en] at el flt ok ⊢
      rw [pw_n j1 hj] at el
      refine y_rai_n H h (by omega) j1 hj v1 v2 va (fun z => ?_) (fun nz l M' c n pw hx fx => ?_) (fun nz l M' c n pw hx m1 m2 fx => ?_)
      · exact flt 3 (Or.inl rfl) (by rw [el]; unfold pwn; rw [cif_t z]) M a_c f_found a_power h (fun _ _ _ _ => rfl)
      · exact flt 4 (Or.inr rfl) (by rw [el]; unfold pwn; rw [cif_f nz, if_pos l]) M' c n pw hx fx
      · have e0 : lsv co 9 (-nI j) v = (0, (rwP co v.2 v.1 j, rwQ co v.2 v.1 j)) := by rw [el]; unfold pwn; rw [cif_f nz, if_neg (by omega)]
        exact ok M' c n pw (by rw [e0]) hx (by rw [e0]; exact m1) (by rw [e0]; exact m2) fx
  · subst k10
    refine br_f (by decide) ?_
    have el : lsv co 10 (a_num i) v = big co (rd2 co (de co v.1 * v.2 + mo co 4 0 * (v.1 * de co v.2)) (v.2 * v.2)) := by
      unfold lsv
      rw [if_neg (by decide)]
      rfl
    unfold wY_pass_252
    refine br_t rfl (br_t rfl (br_t (by decide) ?_))
    rw [nI_pred]
    refine y_slope H h (by omega) v1 v2 va.2.2.1 va.2.2.2 (mo_ne H va.2.1) (fun s M' c n pw hx m1 m2 fx => ?_) (fun s M' c n pw hx fx => ?_)
    · have eb : lsv co 10 (a_num i) v = (0, rd2 co (de co v.1 * v.2 + mo co 4 0 * (v.1 * de co v.2)) (v.2 * v.2)) := by rw [el]; exact big_1 s
      refine nm_r (nI_1 i) (K0 (by rw [eb]) M' c n pw hx ?_ (fg M' fx))
      rw [eb]
      exact ⟨by rw [Nat.zero_add]; exact m1, by rw [Nat.zero_add]; exact m2, svv M' fx⟩
    · have eb : (lsv co 10 (a_num i) v).1 = 4 := by
        rw [el, big_2 (by
          show ¬ sz co (rdP co (de co v.1 * v.2 + mo co 4 0 * (v.1 * de co v.2)) (v.2 * v.2)) (rdQ co (de co v.1 * v.2 + mo co 4 0 * (v.1 * de co v.2)) (v.2 * v.2)) ≤ 8
          omega)]
      have := K1 (by rw [eb]; decide) M' c n pw hx (fg M' fx)
      rw [eb] at this
      exact nm_r (nI_1 i) this
/-- all that holds at the head of the reference's loop -/
def YI {R : Type} [Lean.Grind.CommRing R] (co : R → Nat → Fin 5) (kd : Nat → Nat) (n : Nat) (pl : Nat → Option (R × R)) (ak ao aa th : Nat → Int32) (M0 M : Nat → Option R) (op : Bool) (st : List (Option Nat)) (vs : List (R × R)) (dep i : Nat) : Prop :=
  YM co kd n ak ao aa M st vs ∧ brk kd st = dep ∧ vs.length = bin kd st + (if op = true then 0 else 1) ∧ st.length ≤ i ∧ 2 * vs.length ≤ i + (if op = true then 0 else 1) ∧ PA co M th 52 pl 6 ∧ FG M0 M
theorem pa_fg {R : Type} [Lean.Grind.CommRing R] {co : R → Nat → Fin 5} {M M' : Nat → Option R} {th : Nat → Int32} {pl : Nat → Option (R × R)} (h : PA co M th 52 pl 6) (fg : FG M M') : PA co M' th 52 pl 6 := pa_fr h (fun r _ h2 => fg r (by omega) (by omega))
theorem y_16 {R : Type} [Lean.Grind.CommRing R] {co : R → Nat → Fin 5} (H : PL co) {kd : Nat → Nat} {nm : Nat → Int32} {pl : Nat → Option (R × R)} {n : Nat} {M0 : Nat → Option R} {post : Int32 → SY → Prop} {Rz : Nat × Nat × (R × R)} (hk : KD a_kind kd n) (htk : TK kd nm n) (hnm : ∀ i, i < n → a_num i = nm i) (hpv : ∀ v x, v ≤ 5 → pl v = some x → Vv co x)
    (K0 : Rz.1 = 0 → ∀ x M c n' pw h tp ao aa, RY co c M → M 0 = some Rz.2.2.1 → M 1 = some Rz.2.2.2 → FG M0 M → post x (nI n, f_place, h, tp, 0, f_faultAt, 0, n', c, a_there, a_kind, a_num, ao, aa, pw, a_table))
    (K1 : Rz.1 ≠ 0 → ∀ x M c n' pw h tp ao aa, RY co c M → FG M0 M → post x (nI n, f_place, h, tp, nI Rz.1, nI Rz.2.1, 0, n', c, a_there, a_kind, a_num, ao, aa, pw, a_table)) (hR5 : Rz.1 < 100) :
    ∀ d i op fst dep st vs M c n' pw ao aa, i + d = n → (op = false → fst = false) → wr kd n d op fst dep i = none → Rz = run co kd nm pl d op st vs i → RY co c M → YI co kd n pl a_kind ao aa a_there M0 M op st vs dep i →
      ∀ m, d < m → wY_pass_16 post m (bI op) (bI fst) (nI i) (nI n) f_place (nI st.length) (nI vs.length) 0 f_faultAt 0 n' c a_there a_kind a_num ao aa pw a_table := by
  have h24 := hk.1
  have nzc : Rz.1 ≠ 0 → ¬ nI Rz.1 = 0 := fun z => nI_ne0 (by omega) (by omega)
  intro d
  induction d with
  | zero =>
    intro i op fst dep st vs M c n' pw ao aa hd hof hw hR hx hI m hm
    obtain ⟨m, rfl⟩ : ∃ k, m = k + 1 := ⟨m - 1, by omega⟩
    obtain ⟨ym, hb, hl, h1, h2, pa, fg⟩ := hI
    have hw' : (if op = true ∨ dep ≠ 0 then some n else none) = none := by
      match op with
      | true => exact hw
      | false => exact hw
    have hop : op = false ∧ dep = 0 := by
      by_cases q : op = true ∨ dep ≠ 0
      · rw [if_pos q] at hw'; cases hw'
      · refine ⟨?_, Classical.byContradiction (fun z => q (Or.inr z))⟩
        match op with
        | true => exact absurd (Or.inl rfl) q
        | false => rfl
    rw [hop.1] at hR hl ⊢
    rw [if_neg (by decide)] at hl
    have hR' : Rz = if (drn co kd 1 st vs).1 = 0 then (0, 0, (drn co kd 1 st vs).2.2.2.headD (0, 0)) else ((drn co kd 1 st vs).1, (drn co kd 1 st vs).2.1, (0, 0)) := hR
    refine br_t (nI_le (by omega) (by omega)) (br_t rfl ?_)
    refine y_cdr H (b := 1) (a_open := ao) (a_openAt := aa) (Or.inl rfl) hx ym hl (fun z M' c' n'' pw' hx' ym' fg' => ?_) (fun z M' c' n'' pw' tp hx' fg' => ?_)
    · rw [if_pos z] at hR'
      have dk := drn_ok H (b := 1) (Nat.le_refl 1) st vs ym.2.2.2.1 ym.2.2.2.2.1 hl z
      have st0 : (drn co kd 1 st vs).2.2.1 = [] := by
        match e : (drn co kd 1 st vs).2.2.1 with
        | [] => rfl
        | s :: st' =>
          exfalso
          have l := dk.2.2.2.2.2.2 s st' e
          have en := dk.1
          rw [e] at en
          obtain ⟨j, ej, _, kj⟩ := lev_0 (ents_h en) (by omega)
          have b := dk.2.2.2.1
          rw [e, ej, hb, hop.2] at b
          have b' : (if kd j = 3 then 1 else 0) + brk kd st' = 0 := b
          rw [if_pos kj] at b'
          omega
      have ln := dk.2.2.1
      rw [st0] at ln
      have ln' : (drn co kd 1 st vs).2.2.2.length = 1 := ln
      rw [hR'] at K0
      match ev : (drn co kd 1 st vs).2.2.2 with
      | [] => rw [ev] at ln'; cases ln'
      | v :: v' :: vs' =>
        rw [ev] at ln'
        have : vs'.length + 2 = 1 := ln'
        omega
      | [v] =>
        rw [ev] at ym' K0
        have sv := ym'.2.2.1
        exact br_c (fun _ => K0 rfl _ M' c' n'' pw' _ _ ao aa hx' sv.1 sv.2.1 (fg_tr fg fg')) (fun _ => K0 rfl _ M' c' n'' pw' _ _ ao aa hx' sv.1 sv.2.1 (fg_tr fg fg'))
    · rw [if_neg z] at hR'
      rw [hR'] at K1
      exact br_c (fun _ => K1 z _ M' c' n'' pw' _ _ ao aa hx' (fg_tr fg fg')) (fun _ => K1 z _ M' c' n'' pw' _ _ ao aa hx' (fg_tr fg fg'))
  | succ d ih =>
    intro i op fst dep st vs M c n' pw ao aa hd hof hw hR hx hI m hm
    obtain ⟨m, rfl⟩ : ∃ k, m = k + 1 := ⟨m - 1, by omega⟩
    obtain ⟨ym, hb, hl, h1, h2, pa, fg⟩ := hI
    have hin : i < n := by omega
    have ki := hk.2 i hin
    have lit : ∀ c : Nat, c < 2 ^ 31 → (nI (kd i) = nI c ↔ kd i = c) := fun c hc => nI_eq (by omega) hc
    have lt := ym.2.2.2.2.2.1
    refine br_f (nI_ge (by omega) (by omega)) ⟨vp_in_nI (by omega) (by omega), nm_r (e' := nI (kd i)) (by rw [nI_clamp (by omega)]; exact ki.1) ?_⟩
    match op, hof, hw, hR, hl, h2 with
    | true, _, hw, hR, hl, h2 =>
      have hl' : vs.length = bin kd st := by rw [if_pos rfl] at hl; omega
      have h2' : 2 * vs.length ≤ i := by rw [if_pos rfl] at h2; omega
      have hw' : (if kd i ≤ 3 ∨ (kd i = 6 ∧ fst = true) then wr kd n d (decide (3 ≤ kd i)) (decide (kd i = 3)) (if kd i = 3 then dep + 1 else dep) (i + 1) else some i) = none := hw
      have cc : kd i ≤ 3 ∨ (kd i = 6 ∧ fst = true) := by
        by_cases q : kd i ≤ 3 ∨ (kd i = 6 ∧ fst = true)
        · exact q
        · rw [if_neg q] at hw'; cases hw'
      rw [if_pos cc] at hw'
      refine br_f (by decide) ?_
      by_cases c6 : kd i = 6
      · have hfst : fst = true := by
          rcases cc with q | q
          · omega
          · exact q.2
        have eR : Rz = run co kd nm pl d true (none :: st) vs (i + 1) := by
          rw [hR]
          show (if kd i = 6 then _ else _) = _
          rw [if_pos c6]
        rw [show decide (3 ≤ kd i) = true from decide_eq_true (by omega), show decide (kd i = 3) = false from decide_eq_false (by omega), if_neg (by omega : ¬ kd i = 3)] at hw'
        rw [hfst]
        refine br_t ((lit 6 (by decide)).mpr c6) (br_f (by decide) ?_)
        unfold wpY_push
        refine ⟨vp_in_nI (by omega) (by omega), nm_r (e' := upd ao st.length 12) (by rw [nI_clamp (by omega)]) ⟨vp_in_nI (by omega) (by omega), nm_r (e' := upd aa st.length (nI i)) (by rw [nI_clamp (by omega)]) (nm_r (nI_1 _) ?_)⟩⟩
        unfold wY_pass_125
        refine br_f (fun z => by have := (lit 3 (by decide)).mp z; omega) (nm_r (nI_1 i) ?_)
        refine ih (i + 1) true false dep (none :: st) vs M c n' pw _ _ (by omega) (fun q => by cases q) hw' eR hx ⟨⟨hk, ⟨pk_us, (fun j hj => by cases hj), so_up st ym.2.1 (Nat.le_refl _)⟩, ym.2.2.1, ents_c (Or.inl rfl) ym.2.2.2.1, ym.2.2.2.2.1, ?_, ym.2.2.2.2.2.2⟩, hb, ?_, ?_, ?_, pa, fg⟩ m (by omega)
        · show st.length + 1 ≤ 24
          omega
        · rw [if_pos rfl]; exact hl'
        · show st.length + 1 ≤ i + 1
          omega
        · rw [if_pos rfl]; omega
      · have c3' : kd i ≤ 3 := by
          rcases cc with q | q
          · exact q
          · omega
        refine br_f (fun z => c6 ((lit 6 (by decide)).mp z)) ?_
        unfold wY_pass_57
        by_cases c3 : kd i = 3
        · have eR : Rz = run co kd nm pl d true (some i :: st) vs (i + 1) := by
            rw [hR]
            show (if kd i = 6 then _ else if kd i = 3 then _ else _) = _
            rw [if_neg c6, if_pos c3]
          rw [show decide (3 ≤ kd i) = true from decide_eq_true (by omega), show decide (kd i = 3) = true from decide_eq_true c3, if_pos c3] at hw'
          refine br_t ((lit 3 (by decide)).mpr c3) ?_
          unfold wpY_push
          refine ⟨vp_in_nI (by omega) (by omega), nm_r (e' := upd ao st.length 3) (by rw [nI_clamp (by omega)]) ⟨vp_in_nI (by omega) (by omega), nm_r (e' := upd aa st.length (nI i)) (by rw [nI_clamp (by omega)]) (nm_r (nI_1 _) ?_)⟩⟩
          unfold wY_pass_125
          refine br_t ((lit 3 (by decide)).mpr c3) (nm_r (nI_1 i) ?_)
          refine ih (i + 1) true true (dep + 1) (some i :: st) vs M c n' pw _ _ (by omega) (fun q => by cases q) hw' eR hx ⟨⟨hk, ⟨?_, (fun j hj => ?_), so_up st ym.2.1 (Nat.le_refl _)⟩, ym.2.2.1, ents_c (Or.inr ⟨i, rfl, by omega, Or.inl c3⟩) ym.2.2.2.1, ym.2.2.2.2.1, ?_, ym.2.2.2.2.2.2⟩, ?_, ?_, ?_, ?_, pa, fg⟩ m (by omega)
          · rw [pk_us]
            show 3 = nI (kd i)
            rw [c3]; rfl
          · cases hj
            exact pk_us
          · show st.length + 1 ≤ 24
            omega
          · show (if kd i = 3 then 1 else 0) + brk kd st = dep + 1
            rw [if_pos c3]; omega
          · rw [if_pos rfl]
            show vs.length = (if kd i = 3 then 0 else 1) + bin kd st + 0
            rw [if_pos c3]; omega
          · show st.length + 1 ≤ i + 1
            omega
          · rw [if_pos rfl]; omega
        · have c2 : kd i ≤ 2 := by omega
          rw [show decide (3 ≤ kd i) = false from decide_eq_false (by omega), show decide (kd i = 3) = false from decide_eq_false c3, if_neg c3] at hw'
          have eR : Rz = if (atv co kd nm pl i).1 = 0 then (if (egr co kd st ((atv co kd nm pl i).2 :: vs)).1 = 0 then run co kd nm pl d false (egr co kd st ((atv co kd nm pl i).2 :: vs)).2.2.1 (egr co kd st ((atv co kd nm pl i).2 :: vs)).2.2.2 (i + 1) else ((egr co kd st ((atv co kd nm pl i).2 :: vs)).1, (egr co kd st ((atv co kd nm pl i).2 :: vs)).2.1, (0, 0))) else ((atv co kd nm pl i).1, i, (0, 0)) := by
            rw [hR]
            show (if kd i = 6 then _ else if kd i = 3 then _ else _) = _
            rw [if_neg c6, if_neg c3]
          refine br_f (fun z => c3 ((lit 3 (by decide)).mp z)) (br_f (nI_ge (b := 3) (by omega) (by decide)) ⟨vp_in_nI (by omega) (by omega), ?_⟩)
          rw [nI_clamp (by omega), hnm i hin]
          refine y_atom H hx htk hin h24 c2 pa ym.2.2.1 (by omega) (fun z M' c' hx' sv' fg' => ?_) (fun z M' c' hx' fg' => ?_)
          · rw [if_pos z] at eR
            have va := atv_va H hpv htk hin c2 z
            have ym' : YM co kd n a_kind ao aa M' st ((atv co kd nm pl i).2 :: vs) := ⟨hk, ym.2.1, sv', ym.2.2.2.1, vals_c va ym.2.2.2.2.1, lt, by show 2 * (vs.length + 1) ≤ 24; omega⟩
            have ln : ((atv co kd nm pl i).2 :: vs).length = bin kd st + 1 := by show vs.length + 1 = _; omega
            refine y_pop H (a_open := ao) (a_openAt := aa) (pst := fun u => match u with | (z_f_count, z_f_place, z_f_opens, z_f_top, z_f_fault, z_f_faultAt, z_f_dry, z_f_found, z_a_c, z_a_there, z_a_kind, z_a_num, z_a_open, z_a_openAt, z_a_power, z_a_table) => wY_pass_125 post (wY_pass_16 post m) 0 (nI i) (nI (kd i)) z_f_count z_f_place z_f_opens z_f_top z_f_fault z_f_faultAt z_f_dry z_f_found z_a_c z_a_there z_a_kind z_a_num z_a_open z_a_openAt z_a_power z_a_table) hx' ym' ln (fun z2 M2 c2' n2 pw2 hx2 ym2 fg2 => ?_) (fun z2 M2 c2' n2 pw2 tp hx2 fg2 => ?_)
            · rw [if_pos z2] at eR
              have eo := egr_ok H ym'.2.2.2.1 ym'.2.2.2.2.1 ln z2
              have l2 : (egr co kd st ((atv co kd nm pl i).2 :: vs)).2.2.2.length ≤ vs.length + 1 := eo.2.2.2
              show wY_pass_125 post (wY_pass_16 post m) 0 (nI i) (nI (kd i)) (nI n) f_place (nI (egr co kd st ((atv co kd nm pl i).2 :: vs)).2.2.1.length) (nI (egr co kd st ((atv co kd nm pl i).2 :: vs)).2.2.2.length) 0 f_faultAt 0 n2 c2' a_there a_kind a_num ao aa pw2 a_table
              unfold wY_pass_125
              refine br_f (fun z => c3 ((lit 3 (by decide)).mp z)) (nm_r (nI_1 i) ?_)
              refine ih (i + 1) false false dep _ _ M2 c2' n2 pw2 ao aa (by omega) (fun _ => rfl) hw' eR hx2 ⟨ym2, by rw [eo.2.1, hb], ?_, by omega, ?_, pa_fg pa (fg_tr fg' fg2), fg_tr fg (fg_tr fg' fg2)⟩ m (by omega)
              · rw [if_neg (by decide)]; exact eo.1
              · rw [if_neg (by decide)]; omega
            · rw [if_neg z2] at eR
              rw [eR] at K1 nzc
              have pk := pop3_ok ym.2.2.2.1 ym.2.1
              show wY_pass_125 post (wY_pass_16 post m) 0 (nI i) (nI (kd i)) (nI n) f_place (nI (pop3 kd st).length) tp (nI (egr co kd st ((atv co kd nm pl i).2 :: vs)).1) (nI (egr co kd st ((atv co kd nm pl i).2 :: vs)).2.1) 0 n2 c2' a_there a_kind a_num ao aa pw2 a_table
              unfold wY_pass_125
              refine br_f (fun z => c3 ((lit 3 (by decide)).mp z)) (nm_r (nI_1 i) ?_)
              exact y_pas_i (Or.inr (nzc z2)) hk d (i + 1) false false dep (pop3 kd st) tp ao aa (by omega) (fun _ => rfl) pk.1 pk.2.1 (by omega) (by rw [pk.2.2.1, hb]) (fun h tp ao aa => K1 z2 _ M2 c2' n2 pw2 h tp ao aa hx2 (fg_tr fg (fg_tr fg' fg2))) m (by omega)
          · rw [if_neg z] at eR
            rw [eR] at K1 nzc
            have pk := pop3_ok ym.2.2.2.1 ym.2.1
            have fin : ∀ (st' : List (Option Nat)) tp, Ents kd st' → SO kd ao aa st' → st'.length ≤ i → brk kd st' = dep → wY_pass_125 post (wY_pass_16 post m) 0 (nI i) (nI (kd i)) (nI n) f_place (nI st'.length) tp (nI (atv co kd nm pl i).1) (nI i) 0 n' c' a_there a_kind a_num ao aa pw a_table := by
              intro st' tp e1 e2 e3 e4
              unfold wY_pass_125
              refine br_f (fun z => c3 ((lit 3 (by decide)).mp z)) (nm_r (nI_1 i) ?_)
              exact y_pas_i (Or.inr (nzc z)) hk d (i + 1) false false dep st' tp ao aa (by omega) (fun _ => rfl) e1 e2 (by omega) e4 (fun h tp ao aa => K1 z _ M' c' n' pw h tp ao aa hx' (fg_tr fg fg')) m (by omega)
            match st, pk, ym, fin with
            | [], pk, ym, fin => exact br_t (by decide) (fin [] _ ym.2.2.2.1 ym.2.1 (by show 0 ≤ i; omega) hb)
            | s :: st, pk, ym, fin =>
              have hl1 : st.length + 1 ≤ 24 := ym.2.2.2.2.2.1
              have eo : ao (nI (s :: st).length - 1).toNatClampNeg = oI kd s := by
                rw [show (s :: st).length = st.length + 1 from rfl, nI_pred, nI_clamp (by omega)]
                exact ym.2.1.1
              refine br_f (nI_nle (Nat.succ_pos _) (by show st.length + 1 < 2 ^ 31; omega)) ?_
              dsimp only
              rw [eo]
              refine ⟨by rw [show (s :: st).length = st.length + 1 from rfl, nI_pred]; exact vp_in_nI (by omega) (by omega), ?_⟩
              by_cases c : lev kd s = 3
              · have e : pop3 kd (s :: st) = st := if_pos c
                rw [e] at pk
                have h1' : st.length + 1 ≤ i := h1
                refine br_t ((top_11 (ents_h ym.2.2.2.1)).mpr c) (y_car_i (Or.inr (nzc z)) (by omega) (fun tp => ?_))
                exact fin st tp pk.1 pk.2.1 (by omega) (by rw [pk.2.2.1, hb])
              · exact br_f (fun q => c ((top_11 (ents_h ym.2.2.2.1)).mp q)) (fin (s :: st) _ ym.2.2.2.1 ym.2.1 h1 hb)
    | false, hof, hw, hR, hl, h2 =>
      have hf := hof rfl
      rw [hf]
      have hl' : vs.length = bin kd st + 1 := by rw [if_neg (by decide)] at hl; omega
      have h2' : 2 * vs.length ≤ i + 1 := by rw [if_neg (by decide)] at h2; omega
      have hw' : (if kd i < 4 ∨ (kd i = 4 ∧ dep = 0) then some i else wr kd n d (decide ((5 ≤ kd i ∧ kd i ≤ 8) ∨ kd i = 11)) false (if kd i = 4 then dep - 1 else dep) (i + 1)) = none := hw
      have cc : ¬ (kd i < 4 ∨ (kd i = 4 ∧ dep = 0)) := by
        intro q
        rw [if_pos q] at hw'; cases hw'
      rw [if_neg cc] at hw'
      refine br_t rfl ?_
      by_cases c4 : kd i = 4
      · have hdep : dep ≠ 0 := fun q => cc (Or.inr ⟨c4, q⟩)
        rw [show decide ((5 ≤ kd i ∧ kd i ≤ 8) ∨ kd i = 11) = false from decide_eq_false (by omega), if_pos c4] at hw'
        have eR : Rz = if (drn co kd 1 st vs).1 = 0 then (if (egr co kd (drn co kd 1 st vs).2.2.1.tail (drn co kd 1 st vs).2.2.2).1 = 0 then run co kd nm pl d false (egr co kd (drn co kd 1 st vs).2.2.1.tail (drn co kd 1 st vs).2.2.2).2.2.1 (egr co kd (drn co kd 1 st vs).2.2.1.tail (drn co kd 1 st vs).2.2.2).2.2.2 (i + 1) else ((egr co kd (drn co kd 1 st vs).2.2.1.tail (drn co kd 1 st vs).2.2.2).1, (egr co kd (drn co kd 1 st vs).2.2.1.tail (drn co kd 1 st vs).2.2.2).2.1, (0, 0))) else ((drn co kd 1 st vs).1, (drn co kd 1 st vs).2.1, (0, 0)) := by
          rw [hR]
          show (if kd i = 4 then _ else _) = _
          rw [if_pos c4]
        refine br_t ((lit 4 (by decide)).mpr c4) ?_
        have iok := idr_ok (b := 1) (Nat.le_refl 1) st ym.2.2.2.1
        have iso := idr_so (b := 1) st ym.2.1
        refine y_cdr H (b := 1) (a_open := ao) (a_openAt := aa) (Or.inl rfl) hx ym hl' (fun z M' c' n'' pw' hx' ym' fg' => ?_) (fun z M' c' n'' pw' tp hx' fg' => ?_)
        · rw [if_pos z] at eR
          have dk := drn_ok H (b := 1) (Nat.le_refl 1) st vs ym.2.2.2.1 ym.2.2.2.2.1 hl' z
          have l6 := dk.2.2.2.2.2.1
          match ed : (drn co kd 1 st vs).2.2.1 with
          | [] =>
            exfalso
            have b := dk.2.2.2.1
            rw [ed, hb] at b
            exact hdep b.symm
          | s :: st' =>
            have l := dk.2.2.2.2.2.2 s st' ed
            have en := dk.1
            rw [ed] at en ym' eR
            obtain ⟨j, ej, _, kj⟩ := lev_0 (ents_h en) (by omega)
            have b := dk.2.2.2.1
            rw [ed, ej, hb] at b
            have b' : (if kd j = 3 then 1 else 0) + brk kd st' = dep := b
            rw [if_pos kj] at b'
            have ln := dk.2.2.1
            rw [ed, ej] at ln
            have ln' : (drn co kd 1 st vs).2.2.2.length = (if kd j = 3 then 0 else 1) + bin kd st' + 1 := ln
            rw [if_pos kj, Nat.zero_add] at ln'
            have l5 := dk.2.2.2.2.1
            rw [ed] at l5
            have l5' : st'.length + 1 ≤ st.length := l5
            have eR' : Rz = if (egr co kd st' (drn co kd 1 st vs).2.2.2).1 = 0 then run co kd nm pl d false (egr co kd st' (drn co kd 1 st vs).2.2.2).2.2.1 (egr co kd st' (drn co kd 1 st vs).2.2.2).2.2.2 (i + 1) else ((egr co kd st' (drn co kd 1 st vs).2.2.2).1, (egr co kd st' (drn co kd 1 st vs).2.2.2).2.1, (0, 0)) := eR
            refine br_f (nI_ne0 (Nat.succ_pos _) (by show st'.length + 1 < 2 ^ 31; omega)) (nm_r (e' := nI st'.length) (nI_pred _) ?_)
            have ym2 : YM co kd n a_kind ao aa M' st' (drn co kd 1 st vs).2.2.2 := ⟨hk, ym'.2.1.2.2, ym'.2.2.1, ents_t en, ym'.2.2.2.2.1, by omega, ym'.2.2.2.2.2.2⟩
            refine y_pop H (a_open := ao) (a_openAt := aa) (pst := fun u => match u with | (z_f_count, z_f_place, z_f_opens, z_f_top, z_f_fault, z_f_faultAt, z_f_dry, z_f_found, z_a_c, z_a_there, z_a_kind, z_a_num, z_a_open, z_a_openAt, z_a_power, z_a_table) => (∀ (x3_130 : Int32), x3_130 = nI i + 1 → wY_pass_16 post m (bI false) (bI false) x3_130 z_f_count z_f_place z_f_opens z_f_top z_f_fault z_f_faultAt z_f_dry z_f_found z_a_c z_a_there z_a_kind z_a_num z_a_open z_a_openAt z_a_power z_a_table)) hx' ym2 ln' (fun z2 M2 c2' n2 pw2 hx2 ym3 fg2 => ?_) (fun z2 M2 c2' n2 pw2 tp hx2 fg2 => ?_)
            · rw [if_pos z2] at eR'
              have eo := egr_ok H ym2.2.2.2.1 ym2.2.2.2.2.1 ln' z2
              refine nm_r (nI_1 i) (ih (i + 1) false false (dep - 1) _ _ M2 c2' n2 pw2 ao aa (by omega) (fun _ => rfl) hw' eR' hx2 ⟨ym3, by rw [eo.2.1]; omega, ?_, by omega, ?_, pa_fg pa (fg_tr fg' fg2), fg_tr fg (fg_tr fg' fg2)⟩ m (by omega))
              · rw [if_neg (by decide)]; exact eo.1
              · rw [if_neg (by decide)]
                have := eo.2.2.2
                omega
            · rw [if_neg z2] at eR'
              rw [eR'] at K1 nzc
              have pk := pop3_ok ym2.2.2.2.1 ym2.2.1
              exact nm_r (nI_1 i) (y_pas_i (Or.inr (nzc z2)) hk d (i + 1) false false (dep - 1) (pop3 kd st') tp ao aa (by omega) (fun _ => rfl) pk.1 pk.2.1 (by omega) (by rw [pk.2.2.1]; omega) (fun h tp ao aa => K1 z2 _ M2 c2' n2 pw2 h tp ao aa hx2 (fg_tr fg (fg_tr fg' fg2))) m (by omega))
        · rw [if_neg z] at eR
          rw [eR] at K1 nzc
          match ed : idr kd 1 st with
          | [] =>
            exfalso
            have b := iok.2.1
            rw [ed, hb] at b
            exact hdep b.symm
          | s :: st' =>
            have l := iok.2.2.2 s st' ed
            have en := iok.1
            rw [ed] at en iso
            obtain ⟨j, ej, _, kj⟩ := lev_0 (ents_h en) (by omega)
            have b := iok.2.1
            rw [ed, ej, hb] at b
            have b' : (if kd j = 3 then 1 else 0) + brk kd st' = dep := b
            rw [if_pos kj] at b'
            have l5 := iok.2.2.1
            rw [ed] at l5
            have l5' : st'.length + 1 ≤ st.length := l5
            refine br_f (nI_ne0 (Nat.succ_pos _) (by show st'.length + 1 < 2 ^ 31; omega)) (nm_r (e' := nI st'.length) (nI_pred _) ?_)
            have pk := pop3_ok (ents_t en) iso.2.2
            have fin : ∀ (st'' : List (Option Nat)) tp', Ents kd st'' → SO kd ao aa st'' → st''.length ≤ i → brk kd st'' = dep - 1 → wY_pass_16 post m (bI false) (bI false) (nI (i + 1)) (nI n) f_place (nI st''.length) tp' (nI (drn co kd 1 st vs).1) (nI (drn co kd 1 st vs).2.1) 0 n'' c' a_there a_kind a_num ao aa pw' a_table := by
              intro st'' tp' e1 e2 e3 e4
              exact y_pas_i (Or.inr (nzc z)) hk d (i + 1) false false (dep - 1) st'' tp' ao aa (by omega) (fun _ => rfl) e1 e2 (by omega) e4 (fun h tp ao aa => K1 z _ M' c' n'' pw' h tp ao aa hx' (fg_tr fg fg')) m (by omega)
            match st', pk, en, iso, fin, b', l5' with
            | [], pk, en, iso, fin, b', l5' => exact br_t (by decide) (nm_r (nI_1 i) (fin [] _ (ents_t en) iso.2.2 (Nat.zero_le _) (by omega)))
            | s2 :: st2, pk, en, iso, fin, b', l5' =>
              have l52 : st2.length + 1 + 1 ≤ st.length := l5'
              have eo : ao (nI (s2 :: st2).length - 1).toNatClampNeg = oI kd s2 := by
                rw [show (s2 :: st2).length = st2.length + 1 from rfl, nI_pred, nI_clamp (by omega)]
                exact iso.2.2.1
              refine br_f (nI_nle (Nat.succ_pos _) (by show st2.length + 1 < 2 ^ 31; omega)) ?_
              dsimp only
              rw [eo]
              refine ⟨by rw [show (s2 :: st2).length = st2.length + 1 from rfl, nI_pred]; exact vp_in_nI (by omega) (by omega), ?_⟩
              by_cases c : lev kd s2 = 3
              · have e : pop3 kd (s2 :: st2) = st2 := if_pos c
                rw [e] at pk
                refine br_t ((top_11 (ents_h (ents_t en))).mpr c) (y_car_i (Or.inr (nzc z)) (by omega) (fun tp' => ?_))
                exact nm_r (nI_1 i) (fin st2 tp' pk.1 pk.2.1 (by omega) (by rw [pk.2.2.1]; omega))
              · exact br_f (fun q => c ((top_11 (ents_h (ents_t en))).mp q)) (nm_r (nI_1 i) (fin (s2 :: st2) _ (ents_t en) iso.2.2 (by show st2.length + 1 ≤ i; omega) (by omega)))
      · refine br_f (fun z => c4 ((lit 4 (by decide)).mp z)) ?_
        have k214 : (kd i = 9 ∨ kd i = 10) → wY_pass_214 post (wY_pass_16 post m) (bI false) (bI false) (nI i) (nI (kd i)) (nI n) f_place (nI st.length) (nI vs.length) 0 f_faultAt 0 n' c a_there a_kind a_num ao aa pw a_table := by
          intro h9
          rw [show decide ((5 ≤ kd i ∧ kd i ≤ 8) ∨ kd i = 11) = false from decide_eq_false (by omega), if_neg c4] at hw'
          match vs, ym, hl', h2', hR with
          | [], ym, hl', h2', hR => exact absurd hl' (by show ¬ 0 = _; omega)
          | v :: vs, ym, hl', h2', hR =>
            have hl1 : vs.length + 1 = bin kd st + 1 := hl'
            have h21 : 2 * (vs.length + 1) ≤ i + 1 := h2'
            have eR : Rz = if (lsv co (kd i) (nm i) v).1 = 0 then run co kd nm pl d false st ((lsv co (kd i) (nm i) v).2 :: vs) (i + 1) else ((lsv co (kd i) (nm i) v).1, i, (0, 0)) := by
              rw [hR]
              show (if kd i = 4 then _ else if kd i = 9 then _ else if kd i = 10 then _ else _) = _
              rw [if_neg c4]
              unfold lsv
              by_cases z9 : kd i = 9
              · rw [if_pos z9, if_pos z9]; rfl
              · rw [if_neg z9, if_neg z9, if_pos (by omega)]; rfl
            have va := vals_h ym.2.2.2.2.1
            rw [← hnm i hin] at eR
            refine y_lst H (a_open := ao) (a_openAt := aa) hx (by omega) h9 (by rw [hnm i hin]; exact (htk i hin).2) ym.2.2.1 va (by omega) (fun z M' c' n'' pw' hx' sv' fg' => ?_) (fun z M' c' n'' pw' hx' fg' => ?_)
            · rw [if_pos z] at eR
              have vz : Vv co (lsv co (kd i) (a_num i) v).2 := by
                unfold lsv at z ⊢
                by_cases z9 : kd i = 9
                · rw [if_pos z9] at z ⊢
                  obtain ⟨j, hj, hor⟩ := (htk i hin).2 z9
                  rw [hnm i hin] at z ⊢
                  rcases hor with q | ⟨j1, q⟩
                  · rw [q, pw_p hj] at z ⊢; exact (pwp_va H va z).1
                  · rw [q, pw_n j1 hj] at z ⊢; exact (pwn_va H va z).1
                · rw [if_neg z9] at z ⊢; exact der_va H va z
              refine ih (i + 1) false false dep st ((lsv co (kd i) (a_num i) v).2 :: vs) M' c' n'' pw' ao aa (by omega) (fun _ => rfl) hw' eR hx' ⟨⟨hk, ym.2.1, sv', ym.2.2.2.1, vals_c vz (vals_t ym.2.2.2.2.1), lt, by show 2 * (vs.length + 1) ≤ 24; omega⟩, hb, ?_, by omega, ?_, pa_fg pa fg', fg_tr fg fg'⟩ m (by omega)
              · rw [if_neg (by decide)]
                exact hl1
              · rw [if_neg (by decide)]
                show 2 * (vs.length + 1) ≤ _
                omega
            · rw [if_neg z] at eR
              rw [eR] at K1 nzc
              exact y_pas_i (Or.inr (nzc z)) hk d (i + 1) false false dep st _ ao aa (by omega) (fun _ => rfl) ym.2.2.2.1 ym.2.1 (by omega) hb (fun h tp ao aa => K1 z _ M' c' n'' pw' h tp ao aa hx' (fg_tr fg fg')) m (by omega)
        by_cases c9 : kd i = 9
        · exact br_t ((lit 9 (by decide)).mpr c9) (k214 (Or.inl c9))
        · refine br_f (fun z => c9 ((lit 9 (by decide)).mp z)) ?_
          by_cases c10 : kd i = 10
          · exact br_t ((lit 10 (by decide)).mpr c10) (k214 (Or.inr c10))
          · refine br_f (fun z => c10 ((lit 10 (by decide)).mp z)) (br_f (nI_ge (a := 4) (by omega) (by omega)) ?_)
            have cB : (5 ≤ kd i ∧ kd i ≤ 8) ∨ kd i = 11 := by omega
            rw [show decide ((5 ≤ kd i ∧ kd i ≤ 8) ∨ kd i = 11) = true from decide_eq_true cB, if_neg c4] at hw'
            have bn : bnd (kd i) = 1 ∨ bnd (kd i) = 2 ∨ bnd (kd i) = 3 := by
              unfold bnd
              split
              · exact Or.inr (Or.inr rfl)
              · split
                · exact Or.inr (Or.inl rfl)
                · exact Or.inl rfl
            have eR : Rz = if (drn co kd (bnd (kd i)) st vs).1 = 0 then run co kd nm pl d true (some i :: (drn co kd (bnd (kd i)) st vs).2.2.1) (drn co kd (bnd (kd i)) st vs).2.2.2 (i + 1) else ((drn co kd (bnd (kd i)) st vs).1, (drn co kd (bnd (kd i)) st vs).2.1, (0, 0)) := by
              rw [hR]
              show (if kd i = 4 then _ else if kd i = 9 then _ else if kd i = 10 then _ else _) = _
              rw [if_neg c4, if_neg c9, if_neg c10]
            have k317 : wY_pass_317 post (wY_pass_16 post m) (nI i) (nI (kd i)) (nI (lst (bnd (kd i)))) (nI n) f_place (nI st.length) (nI vs.length) 0 f_faultAt 0 n' c a_there a_kind a_num ao aa pw a_table := by
              unfold wY_pass_317
              refine y_cdr H (a_open := ao) (a_openAt := aa) bn hx ym hl' (fun z M' c' n'' pw' hx' ym' fg' => ?_) (fun z M' c' n'' pw' tp hx' fg' => ?_)
              · rw [if_pos z] at eR
                have dk := drn_ok H (b := bnd (kd i)) (by omega) st vs ym.2.2.2.1 ym.2.2.2.2.1 hl' z
                have l5 := dk.2.2.2.2.1
                have l6 := dk.2.2.2.2.2.1
                have ln := dk.2.2.1
                unfold wpY_push
                refine ⟨vp_in_nI (by omega) (by omega), nm_r (e' := upd ao (drn co kd (bnd (kd i)) st vs).2.2.1.length (nI (kd i))) (by rw [nI_clamp (by omega)]) ⟨vp_in_nI (by omega) (by omega), nm_r (e' := upd aa (drn co kd (bnd (kd i)) st vs).2.2.1.length (nI i)) (by rw [nI_clamp (by omega)]) (nm_r (nI_1 _) (nm_r (nI_1 i) ?_))⟩⟩
                refine ih (i + 1) true false dep (some i :: (drn co kd (bnd (kd i)) st vs).2.2.1) (drn co kd (bnd (kd i)) st vs).2.2.2 M' c' n'' pw' _ _ (by omega) (fun q => by cases q) hw' eR hx' ⟨⟨hk, ⟨pk_us, (fun j hj => ?_), so_up _ ym'.2.1 (Nat.le_refl _)⟩, ym'.2.2.1, ents_c (Or.inr ⟨i, rfl, by omega, Or.inr cB⟩) ym'.2.2.2.1, ym'.2.2.2.2.1, ?_, ym'.2.2.2.2.2.2⟩, ?_, ?_, ?_, ?_, pa_fg pa fg', fg_tr fg fg'⟩ m (by omega)
                · cases hj
                  exact pk_us
                · show (drn co kd (bnd (kd i)) st vs).2.2.1.length + 1 ≤ 24
                  omega
                · show (if kd i = 3 then 1 else 0) + brk kd _ = dep
                  rw [if_neg (by omega), dk.2.2.2.1, hb]; omega
                · rw [if_pos rfl]
                  show _ = (if kd i = 3 then 0 else 1) + bin kd _ + 0
                  rw [if_neg (by omega)]; omega
                · show (drn co kd (bnd (kd i)) st vs).2.2.1.length + 1 ≤ i + 1
                  omega
                · rw [if_pos rfl]; omega
              · rw [if_neg z] at eR
                rw [eR] at K1 nzc
                have ok := idr_ok (b := bnd (kd i)) (by omega) st ym.2.2.2.1
                have so := idr_so (b := bnd (kd i)) st ym.2.1
                have l5 := ok.2.2.1
                unfold wpY_push
                refine ⟨vp_in_nI (by omega) (by omega), nm_r (e' := upd ao (idr kd (bnd (kd i)) st).length (nI (kd i))) (by rw [nI_clamp (by omega)]) ⟨vp_in_nI (by omega) (by omega), nm_r (e' := upd aa (idr kd (bnd (kd i)) st).length (nI i)) (by rw [nI_clamp (by omega)]) (nm_r (nI_1 _) (nm_r (nI_1 i) ?_))⟩⟩
                refine y_pas_i (Or.inr (nzc z)) hk d (i + 1) true false dep (some i :: idr kd (bnd (kd i)) st) tp _ _ (by omega) (fun q => by cases q) (ents_c (Or.inr ⟨i, rfl, by omega, Or.inr cB⟩) ok.1) ⟨pk_us, (fun j hj => ?_), so_up _ so (Nat.le_refl _)⟩ (by show (idr kd (bnd (kd i)) st).length + 1 ≤ i + 1; omega) ?_ (fun h tp ao aa => K1 z _ M' c' n'' pw' h tp ao aa hx' (fg_tr fg fg')) m (by omega)
                · cases hj
                  exact pk_us
                · show (if kd i = 3 then 1 else 0) + brk kd _ = dep
                  rw [if_neg (by omega), ok.2.1, hb]; omega
            by_cases c11 : kd i = 11
            · have e : lst (bnd (kd i)) = 4 := by rw [c11]; rfl
              rw [e] at k317
              exact br_t ((lit 11 (by decide)).mpr c11) k317
            · refine br_f (fun z => c11 ((lit 11 (by decide)).mp z)) ?_
              by_cases c6 : kd i ≤ 6
              · have e : lst (bnd (kd i)) = 1 := by
                  unfold bnd
                  rw [if_neg c11, if_neg (by omega)]; rfl
                rw [e] at k317
                exact br_t (nI_le (b := 6) c6 (by decide)) k317
              · have e : lst (bnd (kd i)) = 3 := by
                  unfold bnd
                  rw [if_neg c11, if_pos (by omega)]; rfl
                rw [e] at k317
                exact br_f (nI_ge (a := 6) (by omega) (by omega)) k317
end
end
section
/-! the two objects' states -/
def Rl {R : Type} [Lean.Grind.CommRing R] (co : R → Nat → Fin 5) (u : SX) (v : SY) : Prop := match u with
  | (f_count, f_place, f_operators, f_values, f_fault, f_found, f_factored, f_pieces, f_kernel, a_kind, a_with, a_c, a_top, a_product, a_there, a_waiting, a_powers, a_matrix, a_basis) => match v with
    | (z_f_count, z_f_place, z_f_opens, z_f_top, z_f_fault, z_f_faultAt, z_f_dry, z_f_found, z_a_c, z_a_there, z_a_kind, z_a_num, z_a_open, z_a_openAt, z_a_power, z_a_table) => ∃ n kd nm pl MX MY, TK kd nm n ∧ f_count = nI n ∧ z_f_count = nI n ∧ f_place = z_f_place ∧ KD a_kind kd n ∧ KD z_a_kind kd n ∧ (∀ i, i < n → a_with i = nm i) ∧ (∀ i, i < n → z_a_num i = nm i) ∧ PA co MX a_there 0 pl 7 ∧ PA co MY z_a_there 52 pl 7 ∧ RX co a_c a_top MX ∧ RY co z_a_c MY ∧ Ca co MX a_powers f_found f_factored
section
variable {f_count f_place f_operators f_values f_fault f_found f_factored f_pieces f_kernel : Int32} {a_kind a_with a_c a_top a_product a_there a_waiting a_powers a_matrix a_basis : Nat → Int32} {z_f_count z_f_place z_f_opens z_f_top z_f_fault z_f_faultAt z_f_dry z_f_found : Int32} {z_a_c z_a_there z_a_kind z_a_num z_a_open z_a_openAt z_a_power z_a_table : Nat → Int32}
theorem rl_i {R : Type} [Lean.Grind.CommRing R] {co : R → Nat → Fin 5} {n : Nat} {kd : Nat → Nat} {nm : Nat → Int32} {pl : Nat → Option (R × R)} {MX MY : Nat → Option R} (tk : TK kd nm n) (x1 : f_count = nI n) (y1 : z_f_count = nI n) (pc : f_place = z_f_place) (kx : KD a_kind kd n) (ky : KD z_a_kind kd n) (wx : ∀ i, i < n → a_with i = nm i) (wy : ∀ i, i < n → z_a_num i = nm i) (px : PA co MX a_there 0 pl 7) (py : PA co MY z_a_there 52 pl 7) (rx : RX co a_c a_top MX) (ry : RY co z_a_c MY) (ca : Ca co MX a_powers f_found f_factored) : Rl co (f_count, f_place, f_operators, f_values, f_fault, f_found, f_factored, f_pieces, f_kernel, a_kind, a_with, a_c, a_top, a_product, a_there, a_waiting, a_powers, a_matrix, a_basis) (z_f_count, z_f_place, z_f_opens, z_f_top, z_f_fault, z_f_faultAt, z_f_dry, z_f_found, z_a_c, z_a_there, z_a_kind, z_a_num, z_a_open, z_a_openAt, z_a_power, z_a_table) := ⟨n, kd, nm, pl, MX, MY, tk, x1, y1, pc, kx, ky, wx, wy, px, py, rx, ry, ca⟩
end
theorem i_ix (x : Int32) (N : Nat) (h : N < 1000) : x < 0 ∨ (¬ x < 0 ∧ nI N < x) ∨ ∃ j : Nat, j ≤ N ∧ x = nI j := by
  by_cases c : x < 0
  · exact Or.inl c
  · obtain ⟨j, hj, rfl⟩ := nI_of c
    by_cases h2 : j ≤ N
    · exact Or.inr (Or.inr ⟨j, h2, rfl⟩)
    · exact Or.inr (Or.inl ⟨c, nI_lt (by omega) hj⟩)
theorem i_7 {x : Int32} (h : 6 < x) : 7 ≤ x := by
  rw [Int32.lt_iff_toInt_lt, show (6 : Int32).toInt = 6 from by decide] at h
  rw [Int32.le_iff_toInt_le, show (7 : Int32).toInt = 7 from by decide]
  omega
theorem i_pm {x : Int32} (h1 : ¬ x < -8) (h2 : ¬ 8 < x) : ∃ k, k ≤ 8 ∧ (x = nI k ∨ (1 ≤ k ∧ x = -nI k)) := by
  rw [Int32.lt_iff_toInt_lt, show (-8 : Int32).toInt = -8 from by decide] at h1
  rw [Int32.lt_iff_toInt_lt, show (8 : Int32).toInt = 8 from by decide] at h2
  refine ⟨x.toInt.natAbs, by omega, ?_⟩
  by_cases c : 0 ≤ x.toInt
  · refine Or.inl (Int32.toInt_inj.mp ?_)
    rw [nI_toInt (by omega)]; omega
  · refine Or.inr ⟨by omega, Int32.toInt_inj.mp ?_⟩
    rw [sb_negT (by omega)]; omega
theorem and2 {v : Int32} (h : v &&& (-2) = 0) : ∃ b, b < 2 ∧ v = nI b := by
  refine ⟨v.toBitVec.toNat % 2 ^ 1, Nat.mod_lt _ (by decide), ?_⟩
  rw [← pk_and v (m := 1) 1 (by decide)]
  apply Int32.toBitVec_inj.mp
  have hb : v.toBitVec &&& (-2#32) = 0#32 := congrArg Int32.toBitVec h
  show v.toBitVec = v.toBitVec &&& 1#32
  calc v.toBitVec = v.toBitVec &&& (-2#32 ||| 1#32) := by rw [show (-2#32 ||| 1#32 : BitVec 32) = BitVec.allOnes 32 from by decide, BitVec.and_allOnes]
    _ = (v.toBitVec &&& -2#32) ||| (v.toBitVec &&& 1#32) := by rw [BitVec.and_or_distrib_left]
    _ = v.toBitVec &&& 1#32 := by rw [hb, BitVec.zero_or]
/-- nothing lies there -/
def Em {R : Type} (pl : Nat → Option (R × R)) (v : Int32) : Prop := ∀ s, s < 7 → v = nI s → pl s = none
def No {R : Type} (pl : Nat → Option (R × R)) (v w : Int32) : Prop := ∀ s b, s < 7 → b < 2 → v = nI s → w = nI b → pl s = none
def pqb {R : Type} (x : R × R) (b : Nat) : R := if b = 0 then x.1 else x.2
theorem nI_u {a b : Nat} (ha : a < 2 ^ 31) (hb : b < 2 ^ 31) (h : nI a = nI b) : a = b := by
  have := congrArg Int32.toNatClampNeg h
  rwa [nI_clamp ha, nI_clamp hb] at this
section
variable {f_count f_place f_operators f_values f_fault f_found f_factored f_pieces f_kernel : Int32} {a_kind a_with a_c a_top a_product a_there a_waiting a_powers a_matrix a_basis : Nat → Int32}
theorem x_empty {R : Type} [Lean.Grind.CommRing R] {co : R → Nat → Fin 5} {pl : Nat → Option (R × R)} {M : Nat → Option R} {v : Int32} {post : Int32 → Prop} (pa : PA co M a_there 0 pl 7) (K1 : Em pl v → post 1) (K0 : ∀ s x, s < 7 → v = nI s → pl s = some x → M (2 * s) = some x.1 → M (2 * s + 1) = some x.2 → Vv co x → post 0) : wpX_empty post (f_count, f_place, f_operators, f_values, f_fault, f_found, f_factored, f_pieces, f_kernel, a_kind, a_with, a_c, a_top, a_product, a_there, a_waiting, a_powers, a_matrix, a_basis) v := by
  unfold wpX_empty
  rcases i_ix v 6 (by omega) with h | ⟨h, h'⟩ | ⟨s, hs, rfl⟩
  · exact br_t h (K1 (fun s hs e => absurd h (by rw [e]; exact nI_pos (by omega))))
  · refine br_f h (br_t h' (K1 (fun s hs e => absurd h' (by rw [e]; exact nI_nlt (by omega) (by omega)))))
  · refine br_f (nI_pos (by omega)) (br_f (nI_nlt (a := 6) hs (by omega)) ⟨vp_in_nI (by omega) (by omega), ?_⟩)
    rw [nI_clamp (by omega)]
    rcases pa s (by omega) with ⟨e1, e2⟩ | ⟨p, q, e1, e2, e3, e4, e5⟩
    · exact br_t e2 (K1 (fun s' hs' e => by rw [← nI_u (by omega) (by omega) e]; exact e1))
    · rw [Nat.zero_add] at e3 e4
      exact br_f (by rw [e2]; decide) (K0 s (p, q) (by omega) rfl e1 e3 e4 e5)
theorem x_neither {v : Int32} {post : Int32 → Prop} (K1 : (∀ b, b < 2 → ¬ v = nI b) → post 1) (K0 : ∀ b, b < 2 → v = nI b → post 0) : wpX_neither post v := by
  unfold wpX_neither
  by_cases c : v &&& (-2) = 0
  · obtain ⟨b, hb, e⟩ := and2 c
    exact br_t c (K0 b hb e)
  · refine br_f c (K1 (fun b hb e => c ?_))
    rw [e]
    match b, hb with
    | 0, _ => decide
    | 1, _ => decide
theorem x_pt {R : Type} [Lean.Grind.CommRing R] {co : R → Nat → Fin 5} {pl : Nat → Option (R × R)} {M : Nat → Option R} {v w : Int32} {A B C : Prop} (pa : PA co M a_there 0 pl 7) (KB : No pl v w → B) (KC : No pl v w → C) (KA : ∀ s b x, s < 7 → b < 2 → v = nI s → w = nI b → pl s = some x → M (2 * s + b) = some (pqb x b) → M (2 * s + 1) = some x.2 → Vv co x → A) : wpX_empty (fun r => ((r = 0 → (wpX_neither (fun r' => ((r' = 0 → A) ∧ (¬ r' = 0 → B))) w)) ∧ (¬ r = 0 → C))) (f_count, f_place, f_operators, f_values, f_fault, f_found, f_factored, f_pieces, f_kernel, a_kind, a_with, a_c, a_top, a_product, a_there, a_waiting, a_powers, a_matrix, a_basis) v := by
  refine x_empty pa (fun e => br_f (by decide) (KC (fun s b h1 h2 h3 h4 => e s h1 h3))) (fun s x h1 h2 h3 h4 h5 h6 => br_t rfl ?_)
  refine x_neither (fun nb => br_f (by decide) (KB (fun s b h1 h2 h3 h4 => absurd h4 (nb b h2)))) (fun b hb e => br_t rfl (KA s b x h1 hb h2 e h3 ?_ h5 h6))
  unfold pqb
  match b, hb with
  | 0, _ => exact h4
  | 1, _ => exact h5
end
section
variable {f_count f_place f_opens f_top f_fault f_faultAt f_dry f_found : Int32} {a_c a_there a_kind a_num a_open a_openAt a_power a_table : Nat → Int32}
theorem y_has_n {R : Type} [Lean.Grind.CommRing R] {co : R → Nat → Fin 5} {pl : Nat → Option (R × R)} {M : Nat → Option R} {v : Int32} {post : Int32 → Prop} (pa : PA co M a_there 52 pl 7) (he : Em pl v) (K : post 0) : wpY_has post (f_count, f_place, f_opens, f_top, f_fault, f_faultAt, f_dry, f_found, a_c, a_there, a_kind, a_num, a_open, a_openAt, a_power, a_table) v := by
  unfold wpY_has
  rcases i_ix v 6 (by omega) with h | ⟨h, h'⟩ | ⟨s, hs, rfl⟩
  · exact br_t h K
  · exact br_f h (br_t (i_7 h') K)
  · refine br_f (nI_pos (by omega)) (br_f (nI_ge (b := 7) (by omega) (by decide)) ⟨vp_in_nI (by omega) (by omega), ?_⟩)
    rw [nI_clamp (by omega)]
    rcases pa s (by omega) with ⟨e1, e2⟩ | ⟨p, q, e1, e2, e3, e4, e5⟩
    · exact br_t e2 K
    · rw [he s (by omega) rfl] at e1; cases e1
theorem y_has_y {R : Type} [Lean.Grind.CommRing R] {co : R → Nat → Fin 5} {pl : Nat → Option (R × R)} {M : Nat → Option R} {s : Nat} {x : R × R} {post : Int32 → Prop} (pa : PA co M a_there 52 pl 7) (hs : s < 7) (hx : pl s = some x) (K : M (52 + 2 * s) = some x.1 → M (52 + 2 * s + 1) = some x.2 → post 1) : wpY_has post (f_count, f_place, f_opens, f_top, f_fault, f_faultAt, f_dry, f_found, a_c, a_there, a_kind, a_num, a_open, a_openAt, a_power, a_table) (nI s) := by
  unfold wpY_has
  refine br_f (nI_pos (by omega)) (br_f (nI_ge (b := 7) (by omega) (by decide)) ⟨vp_in_nI (by omega) (by omega), ?_⟩)
  rw [nI_clamp (by omega)]
  rcases pa s (by omega) with ⟨e1, e2⟩ | ⟨p, q, e1, e2, e3, e4, e5⟩
  · rw [hx] at e1; cases e1
  · rw [hx] at e1; cases e1
    exact br_f (by rw [e2]; decide) (K e3 e4)
theorem y_pt_n {R : Type} [Lean.Grind.CommRing R] {co : R → Nat → Fin 5} {pl : Nat → Option (R × R)} {M : Nat → Option R} {v w : Int32} {post : Int32 → Prop} (pa : PA co M a_there 52 pl 7) (he : No pl v w) (K : post (-1)) : wpY_part post (f_count, f_place, f_opens, f_top, f_fault, f_faultAt, f_dry, f_found, a_c, a_there, a_kind, a_num, a_open, a_openAt, a_power, a_table) v w := by
  unfold wpY_part
  by_cases c : Em pl v
  · exact y_has_n pa c (br_t rfl K)
  · obtain ⟨s, hs⟩ := Classical.not_forall.mp c
    have h1 : s < 7 := Classical.byContradiction (fun z => hs (fun q => absurd q z))
    have h2 : v = nI s := Classical.byContradiction (fun z => hs (fun _ q => absurd q z))
    have h3 : pl s ≠ none := fun z => hs (fun _ _ => z)
    obtain ⟨x, hx⟩ := Option.ne_none_iff_exists'.mp h3
    subst h2
    refine y_has_y pa h1 hx (fun _ _ => br_f (by decide) ?_)
    rcases i_ix w 1 (by omega) with h | ⟨h, h'⟩ | ⟨b, hb, rfl⟩
    · exact br_t h K
    · exact br_f h (br_f (Int32.not_le.mpr h') K)
    · exact absurd (he s b h1 (by omega) rfl rfl) h3
theorem y_pt_y {R : Type} [Lean.Grind.CommRing R] {co : R → Nat → Fin 5} {pl : Nat → Option (R × R)} {M : Nat → Option R} {s b : Nat} {x : R × R} {post : Int32 → Prop} (pa : PA co M a_there 52 pl 7) (hs : s < 7) (hb : b < 2) (hx : pl s = some x) (K : M (52 + 2 * s + b) = some (pqb x b) → M (52 + 2 * s) = some x.1 → M (52 + 2 * s + 1) = some x.2 → post (nI (52 + 2 * s + b))) : wpY_part post (f_count, f_place, f_opens, f_top, f_fault, f_faultAt, f_dry, f_found, a_c, a_there, a_kind, a_num, a_open, a_openAt, a_power, a_table) (nI s) (nI b) := by
  unfold wpY_part
  refine y_has_y pa hs hx (fun e1 e2 => br_f (by decide) (br_f (nI_pos (by omega)) (br_t (nI_le (b := 1) (by omega) (by decide)) ?_)))
  rw [show (52 + 2 * nI s) + nI b = nI (52 + 2 * s + b) from by rw [show (52 : Int32) = nI 52 from rfl, show (2 : Int32) = nI 2 from rfl, pk_mul, nI_add, nI_add]]
  refine K ?_ e1 e2
  unfold pqb
  match b, hb with
  | 0, _ => exact e1
  | 1, _ => exact e2
end
end
section
/-! the short methods -/
def Bad (n : Nat) (v w : Int32) : Prop := v < 0 ∨ 11 < v ∨ n = 24 ∨ (v = 2 ∧ (w < 0 ∨ 5 < w)) ∨ (v = 9 ∧ (w < -8 ∨ 8 < w))
theorem c24 {n : Nat} (h : n ≤ 24) : (nI n = 24) ↔ n = 24 := ⟨fun z => nI_u (a := n) (b := 24) (by omega) (by decide) z, fun z => by rw [z]; rfl⟩
section
variable {f_count f_place f_operators f_values f_fault f_found f_factored f_pieces f_kernel : Int32} {a_kind a_with a_c a_top a_product a_there a_waiting a_powers a_matrix a_basis : Nat → Int32}
theorem x_token {n : Nat} {v w : Int32} {post : Int32 → SX → Prop} (hn : n ≤ 24) (K0 : Bad n v w → post 0 (nI n, f_place, f_operators, f_values, f_fault, f_found, f_factored, f_pieces, f_kernel, a_kind, a_with, a_c, a_top, a_product, a_there, a_waiting, a_powers, a_matrix, a_basis)) (K1 : ¬ Bad n v w → post 1 (nI (n + 1), f_place, f_operators, f_values, f_fault, f_found, f_factored, f_pieces, f_kernel, upd a_kind n (vp_nar .byte v.toInt8.toInt32), upd a_with n w, a_c, a_top, a_product, a_there, a_waiting, a_powers, a_matrix, a_basis)) : wpX_token post (nI n, f_place, f_operators, f_values, f_fault, f_found, f_factored, f_pieces, f_kernel, a_kind, a_with, a_c, a_top, a_product, a_there, a_waiting, a_powers, a_matrix, a_basis) v w := by
  unfold wpX_token
  refine br_c (fun h => K0 (Or.inl h)) (fun h1 => br_c (fun h => K0 (Or.inr (Or.inl h))) (fun h2 => br_c (fun h => K0 (Or.inr (Or.inr (Or.inl ((c24 hn).mp h))))) (fun h3 => ?_)))
  have hlt : n < 24 := by
    have : n ≠ 24 := fun z => h3 ((c24 hn).mpr z)
    omega
  have k55 : ¬ Bad n v w → wX_token_55 post v w (nI n) f_place f_operators f_values f_fault f_found f_factored f_pieces f_kernel a_kind a_with a_c a_top a_product a_there a_waiting a_powers a_matrix a_basis := fun nb => by
    unfold wX_token_55
    refine ⟨vp_in_nI hlt (by omega), nm_r (e' := upd a_kind n (vp_nar .byte v.toInt8.toInt32)) (by rw [nI_clamp (by omega)]) (nm_r (nI_1 n) ⟨vp_in_nI hlt (by omega), nm_r (e' := upd a_with n w) (by rw [nI_clamp (by omega)]) (K1 nb)⟩)⟩
  have k35 : ¬ (v = 2 ∧ (w < 0 ∨ 5 < w)) → wX_token_35 post v w (nI n) f_place f_operators f_values f_fault f_found f_factored f_pieces f_kernel a_kind a_with a_c a_top a_product a_there a_waiting a_powers a_matrix a_basis := fun h4 => by
    unfold wX_token_35
    refine br_c (fun e9 => br_c (fun h => K0 (Or.inr (Or.inr (Or.inr (Or.inr ⟨e9, Or.inl h⟩))))) (fun h5 => br_c (fun h => k55 ?_) (fun h => K0 (Or.inr (Or.inr (Or.inr (Or.inr ⟨e9, Or.inr (Int32.not_le.mp h)⟩))))))) (fun n9 => k55 ?_)
    · rintro (q | q | q | q | ⟨_, q | q⟩)
      · exact h1 q
      · exact h2 q
      · omega
      · exact h4 q
      · exact h5 q
      · exact absurd h (Int32.not_le.mpr q)
    · rintro (q | q | q | q | ⟨q, _⟩)
      · exact h1 q
      · exact h2 q
      · omega
      · exact h4 q
      · exact n9 q
  refine br_c (fun e2 => br_c (fun h => K0 (Or.inr (Or.inr (Or.inr (Or.inl ⟨e2, Or.inl h⟩))))) (fun h4 => br_c (fun h => K0 (Or.inr (Or.inr (Or.inr (Or.inl ⟨e2, Or.inr h⟩))))) (fun h5 => k35 ?_))) (fun n2 => k35 (fun q => n2 q.1))
  rintro ⟨_, q | q⟩
  · exact h4 q
  · exact h5 q
end
section
variable {f_count f_place f_opens f_top f_fault f_faultAt f_dry f_found : Int32} {a_c a_there a_kind a_num a_open a_openAt a_power a_table : Nat → Int32}
theorem y_token {n : Nat} {v w : Int32} {post : Int32 → SY → Prop} (hn : n ≤ 24) (K0 : Bad n v w → post 0 (nI n, f_place, f_opens, f_top, f_fault, f_faultAt, f_dry, f_found, a_c, a_there, a_kind, a_num, a_open, a_openAt, a_power, a_table)) (K1 : ¬ Bad n v w → post 1 (nI (n + 1), f_place, f_opens, f_top, f_fault, f_faultAt, f_dry, f_found, a_c, a_there, upd a_kind n v, upd a_num n w, a_open, a_openAt, a_power, a_table)) : wpY_token post (nI n, f_place, f_opens, f_top, f_fault, f_faultAt, f_dry, f_found, a_c, a_there, a_kind, a_num, a_open, a_openAt, a_power, a_table) v w := by
  unfold wpY_token
  refine br_c (fun h => K0 (Or.inl h)) (fun h1 => br_c (fun h => K0 (Or.inr (Or.inl h))) (fun h2 => ?_))
  have k42 : ¬ (v = 2 ∧ (w < 0 ∨ 5 < w)) → ¬ (v = 9 ∧ (w < -8 ∨ 8 < w)) → wY_token_42 post v w (nI n) f_place f_opens f_top f_fault f_faultAt f_dry f_found a_c a_there a_kind a_num a_open a_openAt a_power a_table := fun h4 h5 => by
    unfold wY_token_42
    refine br_c (fun h => K0 (Or.inr (Or.inr (Or.inl ((c24 hn).mp h))))) (fun h3 => ?_)
    have hlt : n < 24 := by
      have : n ≠ 24 := fun z => h3 ((c24 hn).mpr z)
      omega
    refine ⟨vp_in_nI hlt (by omega), nm_r (e' := upd a_kind n v) (by rw [nI_clamp (by omega)]) ⟨vp_in_nI hlt (by omega), nm_r (e' := upd a_num n w) (by rw [nI_clamp (by omega)]) (nm_r (nI_1 n) (K1 ?_))⟩⟩
    rintro (q | q | q | q | q)
    · exact h1 q
    · exact h2 q
    · omega
    · exact h4 q
    · exact h5 q
  have k24 : ¬ (v = 2 ∧ (w < 0 ∨ 5 < w)) → wY_token_24 post v w (nI n) f_place f_opens f_top f_fault f_faultAt f_dry f_found a_c a_there a_kind a_num a_open a_openAt a_power a_table := fun h4 => by
    unfold wY_token_24
    refine br_c (fun e9 => br_c (fun h => K0 (Or.inr (Or.inr (Or.inr (Or.inr ⟨e9, Or.inl h⟩))))) (fun h5 => br_c (fun h => K0 (Or.inr (Or.inr (Or.inr (Or.inr ⟨e9, Or.inr h⟩))))) (fun h6 => k42 h4 ?_))) (fun n9 => k42 h4 (fun q => n9 q.1))
    rintro ⟨_, q | q⟩
    · exact h5 q
    · exact h6 q
  refine br_c (fun e2 => br_c (fun h => K0 (Or.inr (Or.inr (Or.inr (Or.inl ⟨e2, Or.inl h⟩))))) (fun h4 => br_c (fun h => K0 (Or.inr (Or.inr (Or.inr (Or.inl ⟨e2, Or.inr h⟩))))) (fun h5 => k24 ?_))) (fun n2 => k24 (fun q => n2 q.1))
  rintro ⟨_, q | q⟩
  · exact h4 q
  · exact h5 q
end
theorem kd_ap {ak : Nat → Int32} {kd : Nat → Nat} {n c : Nat} {x : Int32} (h : KD ak kd n) (hn : n < 24) (hc : c ≤ 11) (hx : x = nI c) : KD (upd ak n x) (ap kd n c) (n + 1) := ⟨by omega, fun i hi => by
  by_cases e : i = n
  · rw [e, pk_us, ap_e rfl]; exact ⟨hx, hc⟩
  · rw [pk_un e, ap_n e]; exact h.2 i (by omega)⟩
theorem wi_ap {aw nm : Nat → Int32} {n : Nat} {w : Int32} (h : ∀ i, i < n → aw i = nm i) : ∀ i, i < n + 1 → upd aw n w i = ap nm n w i := fun i hi => by
  by_cases e : i = n
  · rw [e, pk_us, ap_e rfl]
  · rw [pk_un e, ap_n e]; exact h i (by omega)
theorem b_nar : vp_nar .boolean 0 = 0 ∧ vp_nar .boolean 1 = 1 := by decide
section
variable {f_count f_place f_operators f_values f_fault f_found f_factored f_pieces f_kernel : Int32} {a_kind a_with a_c a_top a_product a_there a_waiting a_powers a_matrix a_basis : Nat → Int32} {z_f_count z_f_place z_f_opens z_f_top z_f_fault z_f_faultAt z_f_dry z_f_found : Int32} {z_a_c z_a_there z_a_kind z_a_num z_a_open z_a_openAt z_a_power z_a_table : Nat → Int32}
theorem v_token {R : Type} [Lean.Grind.CommRing R] {co : R → Nat → Fin 5} (H : PL co) (I : Rl co (f_count, f_place, f_operators, f_values, f_fault, f_found, f_factored, f_pieces, f_kernel, a_kind, a_with, a_c, a_top, a_product, a_there, a_waiting, a_powers, a_matrix, a_basis) (z_f_count, z_f_place, z_f_opens, z_f_top, z_f_fault, z_f_faultAt, z_f_dry, z_f_found, z_a_c, z_a_there, z_a_kind, z_a_num, z_a_open, z_a_openAt, z_a_power, z_a_table)) (v w : Int32) : wpX_token (fun r u' => wpY_token (fun r' v' => r' = r ∧ Rl co u' v') (z_f_count, z_f_place, z_f_opens, z_f_top, z_f_fault, z_f_faultAt, z_f_dry, z_f_found, z_a_c, z_a_there, z_a_kind, z_a_num, z_a_open, z_a_openAt, z_a_power, z_a_table) v w) (f_count, f_place, f_operators, f_values, f_fault, f_found, f_factored, f_pieces, f_kernel, a_kind, a_with, a_c, a_top, a_product, a_there, a_waiting, a_powers, a_matrix, a_basis) v w := by
  obtain ⟨n, kd, nm, pl, MX, MY, tk, x1, y1, pc, kx, ky, wx, wy, px, py, rx, ry, ca⟩ := I
  subst x1 y1 pc
  refine x_token kx.1 (fun b => y_token kx.1 (fun _ => ⟨rfl, rl_i tk rfl rfl rfl kx ky wx wy px py rx ry ca⟩) (fun nb => absurd b nb)) (fun nb => y_token kx.1 (fun b => absurd b nb) (fun _ => ⟨rfl, ?_⟩))
  rcases i_ix v 11 (by omega) with h | ⟨h, h'⟩ | ⟨c, hc, rfl⟩
  · exact absurd (Or.inl h) nb
  · exact absurd (Or.inr (Or.inl h')) nb
  · have hn : n < 24 := by
      have := kx.1
      have : n ≠ 24 := fun z => nb (Or.inr (Or.inr (Or.inl z)))
      omega
    refine rl_i (n := n + 1) (kd := ap kd n c) (nm := ap nm n w) (fun i hi => ?_) rfl rfl rfl (kd_ap kx hn hc (by rw [(e_nar ⟨c, by omega⟩).2, (e_nar ⟨c, by omega⟩).1])) (kd_ap ky hn hc rfl) (wi_ap wx) (wi_ap wy) px py rx ry ca
    by_cases e : i = n
    · rw [e, ap_e rfl, ap_e rfl]
      refine ⟨fun c2 => ?_, fun c9 => ?_⟩
      · rcases i_ix w 5 (by omega) with h | ⟨h, h'⟩ | ⟨j, hj, rfl⟩
        · exact absurd (Or.inr (Or.inr (Or.inr (Or.inl ⟨by rw [c2]; rfl, Or.inl h⟩)))) nb
        · exact absurd (Or.inr (Or.inr (Or.inr (Or.inl ⟨by rw [c2]; rfl, Or.inr h'⟩)))) nb
        · exact ⟨j, hj, rfl⟩
      · exact i_pm (fun z => nb (Or.inr (Or.inr (Or.inr (Or.inr ⟨by rw [c9]; rfl, Or.inl z⟩))))) (fun z => nb (Or.inr (Or.inr (Or.inr (Or.inr ⟨by rw [c9]; rfl, Or.inr z⟩)))))
    · rw [ap_n e, ap_n e]; exact tk i (by omega)
theorem v_wipe {R : Type} [Lean.Grind.CommRing R] {co : R → Nat → Fin 5} (H : PL co) (I : Rl co (f_count, f_place, f_operators, f_values, f_fault, f_found, f_factored, f_pieces, f_kernel, a_kind, a_with, a_c, a_top, a_product, a_there, a_waiting, a_powers, a_matrix, a_basis) (z_f_count, z_f_place, z_f_opens, z_f_top, z_f_fault, z_f_faultAt, z_f_dry, z_f_found, z_a_c, z_a_there, z_a_kind, z_a_num, z_a_open, z_a_openAt, z_a_power, z_a_table)) : wpX_wipe (fun r u' => wpY_wipe (fun r' v' => r' = r ∧ Rl co u' v') (z_f_count, z_f_place, z_f_opens, z_f_top, z_f_fault, z_f_faultAt, z_f_dry, z_f_found, z_a_c, z_a_there, z_a_kind, z_a_num, z_a_open, z_a_openAt, z_a_power, z_a_table)) (f_count, f_place, f_operators, f_values, f_fault, f_found, f_factored, f_pieces, f_kernel, a_kind, a_with, a_c, a_top, a_product, a_there, a_waiting, a_powers, a_matrix, a_basis) := by
  obtain ⟨n, kd, nm, pl, MX, MY, tk, x1, y1, pc, kx, ky, wx, wy, px, py, rx, ry, ca⟩ := I
  subst x1 y1 pc
  exact ⟨rfl, rl_i (n := 0) (kd := kd) (nm := nm) (fun i hi => absurd hi (by omega)) rfl rfl rfl ⟨by omega, fun i hi => absurd hi (by omega)⟩ ⟨by omega, fun i hi => absurd hi (by omega)⟩ (fun i hi => absurd hi (by omega)) (fun i hi => absurd hi (by omega)) px py rx ry ca⟩
theorem v_place {R : Type} [Lean.Grind.CommRing R] {co : R → Nat → Fin 5} (H : PL co) (I : Rl co (f_count, f_place, f_operators, f_values, f_fault, f_found, f_factored, f_pieces, f_kernel, a_kind, a_with, a_c, a_top, a_product, a_there, a_waiting, a_powers, a_matrix, a_basis) (z_f_count, z_f_place, z_f_opens, z_f_top, z_f_fault, z_f_faultAt, z_f_dry, z_f_found, z_a_c, z_a_there, z_a_kind, z_a_num, z_a_open, z_a_openAt, z_a_power, z_a_table)) : wpX_place (fun r => wpY_place (fun r' => r' = r ∧ Rl co (f_count, f_place, f_operators, f_values, f_fault, f_found, f_factored, f_pieces, f_kernel, a_kind, a_with, a_c, a_top, a_product, a_there, a_waiting, a_powers, a_matrix, a_basis) (z_f_count, z_f_place, z_f_opens, z_f_top, z_f_fault, z_f_faultAt, z_f_dry, z_f_found, z_a_c, z_a_there, z_a_kind, z_a_num, z_a_open, z_a_openAt, z_a_power, z_a_table)) (z_f_count, z_f_place, z_f_opens, z_f_top, z_f_fault, z_f_faultAt, z_f_dry, z_f_found, z_a_c, z_a_there, z_a_kind, z_a_num, z_a_open, z_a_openAt, z_a_power, z_a_table)) (f_count, f_place, f_operators, f_values, f_fault, f_found, f_factored, f_pieces, f_kernel, a_kind, a_with, a_c, a_top, a_product, a_there, a_waiting, a_powers, a_matrix, a_basis) := by
  obtain ⟨n, kd, nm, pl, MX, MY, tk, x1, y1, pc, kx, ky, wx, wy, px, py, rx, ry, ca⟩ := I
  exact ⟨pc.symm, rl_i tk x1 y1 pc kx ky wx wy px py rx ry ca⟩
theorem pa_up {R : Type} [Lean.Grind.CommRing R] {co : R → Nat → Fin 5} {M : Nat → Option R} {th : Nat → Int32} {b s : Nat} {pl : Nat → Option (R × R)} {x : R × R} (h : PA co M th b pl 7) (v : Vv co x) : PA co (uo (uo M (b + 2 * s) x.1) (b + 2 * s + 1) x.2) (upd th s 1) b (ap pl s (some x)) 7 := fun k hk => by
  by_cases e : k = s
  · subst e
    rw [ap_e rfl, pk_us]
    exact Or.inr ⟨x.1, x.2, rfl, rfl, by rw [uo_n (by omega)]; exact uo_s, uo_s, v⟩
  · rw [ap_n e, pk_un e]
    rcases h k hk with q | ⟨p, q, h1, h2, h3, h4, h5⟩
    · exact Or.inl q
    · exact Or.inr ⟨p, q, h1, h2, by rw [uo_n (by omega), uo_n (by omega)]; exact h3, by rw [uo_n (by omega), uo_n (by omega)]; exact h4, h5⟩
theorem pa_dn {R : Type} [Lean.Grind.CommRing R] {co : R → Nat → Fin 5} {M : Nat → Option R} {th : Nat → Int32} {b s : Nat} {pl : Nat → Option (R × R)} (h : PA co M th b pl 7) : PA co M (upd th s 0) b (ap pl s none) 7 := fun k hk => by
  by_cases e : k = s
  · rw [e, ap_e rfl, pk_us]
    exact Or.inl ⟨rfl, rfl⟩
  · rw [ap_n e, pk_un e]
    exact h k hk
theorem ca_fr {R : Type} [Lean.Grind.CommRing R] {co : R → Nat → Fin 5} {M M' : Nat → Option R} {pw : Nat → Int32} {fd fac : Int32} (h : Ca co M pw fd fac) (fr : ∀ r, 60 ≤ r → M' r = M r) : Ca co M' pw fd fac := by
  rcases h with q | ⟨p, n, g, e, h1, h2, h3, h4, h5, h6⟩
  · exact Or.inl q
  · exact Or.inr ⟨p, n, g, e, h1, h2, by rw [fr _ (by omega)]; exact h3, h4, (fun i hi => ⟨by rw [fr _ (by omega)]; exact (h5 i hi).1, (h5 i hi).2⟩), h6⟩
end
end
section
theorem e2m (s : Nat) : 2 * nI s = nI (2 * s) := by rw [show (2 : Int32) = nI 2 from rfl, pk_mul]
theorem e2m1 (s b : Nat) : 2 * nI s + nI b = nI (2 * s + b) := by rw [e2m, nI_add]
theorem e52 (k s : Nat) : nI k + 2 * nI s = nI (k + 2 * s) := by rw [e2m, nI_add]
theorem vv_9 {R : Type} [Lean.Grind.CommRing R] {co : R → Nat → Fin 5} {x : R × R} {b : Nat} (h : Vv co x) : dl co (pqb x b) ≤ 9 := by
  unfold pqb
  split
  · exact h.2.2.1
  · exact h.2.2.2
section
variable {f_count f_place f_operators f_values f_fault f_found f_factored f_pieces f_kernel : Int32} {a_kind a_with a_c a_top a_product a_there a_waiting a_powers a_matrix a_basis : Nat → Int32} {z_f_count z_f_place z_f_opens z_f_top z_f_fault z_f_faultAt z_f_dry z_f_found : Int32} {z_a_c z_a_there z_a_kind z_a_num z_a_open z_a_openAt z_a_power z_a_table : Nat → Int32}
theorem v_clear {R : Type} [Lean.Grind.CommRing R] {co : R → Nat → Fin 5} (H : PL co) (I : Rl co (f_count, f_place, f_operators, f_values, f_fault, f_found, f_factored, f_pieces, f_kernel, a_kind, a_with, a_c, a_top, a_product, a_there, a_waiting, a_powers, a_matrix, a_basis) (z_f_count, z_f_place, z_f_opens, z_f_top, z_f_fault, z_f_faultAt, z_f_dry, z_f_found, z_a_c, z_a_there, z_a_kind, z_a_num, z_a_open, z_a_openAt, z_a_power, z_a_table)) (v : Int32) : wpX_clear (fun r u' => wpY_clear (fun r' v' => r' = r ∧ Rl co u' v') (z_f_count, z_f_place, z_f_opens, z_f_top, z_f_fault, z_f_faultAt, z_f_dry, z_f_found, z_a_c, z_a_there, z_a_kind, z_a_num, z_a_open, z_a_openAt, z_a_power, z_a_table) v) (f_count, f_place, f_operators, f_values, f_fault, f_found, f_factored, f_pieces, f_kernel, a_kind, a_with, a_c, a_top, a_product, a_there, a_waiting, a_powers, a_matrix, a_basis) v := by
  obtain ⟨n, kd, nm, pl, MX, MY, tk, x1, y1, pc, kx, ky, wx, wy, px, py, rx, ry, ca⟩ := I
  have I0 : Rl co (f_count, f_place, f_operators, f_values, f_fault, f_found, f_factored, f_pieces, f_kernel, a_kind, a_with, a_c, a_top, a_product, a_there, a_waiting, a_powers, a_matrix, a_basis) (z_f_count, z_f_place, z_f_opens, z_f_top, z_f_fault, z_f_faultAt, z_f_dry, z_f_found, z_a_c, z_a_there, z_a_kind, z_a_num, z_a_open, z_a_openAt, z_a_power, z_a_table) := rl_i tk x1 y1 pc kx ky wx wy px py rx ry ca
  unfold wpX_clear
  rcases i_ix v 5 (by omega) with h | ⟨h, h'⟩ | ⟨s, hs, rfl⟩
  · exact br_t h (br_t h ⟨rfl, I0⟩)
  · exact br_f h (br_t h' (br_f h (br_t h' ⟨rfl, I0⟩)))
  · refine br_f (nI_pos (by omega)) (br_f (nI_nlt (a := 5) hs (by omega)) ⟨vp_in_nI (by omega) (by omega), ?_⟩)
    have yy : ∀ {A B : Prop}, ((z_a_there s = 0 → A) ∧ (¬ z_a_there s = 0 → B)) → ((nI s < 0 → A) ∧ (¬ nI s < 0 → (((5 : Int32) < nI s → A) ∧ (¬ (5 : Int32) < nI s → vp_in (nI s) 7 ∧ ((z_a_there (nI s).toNatClampNeg = 0 → A) ∧ (¬ z_a_there (nI s).toNatClampNeg = 0 → B)))))) := fun q => by
      refine br_f (nI_pos (by omega)) (br_f (nI_nlt (a := 5) hs (by omega)) ⟨vp_in_nI (by omega) (by omega), ?_⟩)
      rw [nI_clamp (by omega)]
      exact q
    rw [nI_clamp (by omega)]
    rcases px s (by omega) with ⟨e1, e2⟩ | ⟨p, q, e1, e2, e3, e4, e5⟩
    · refine br_t e2 (yy (br_t ?_ ⟨rfl, I0⟩))
      rcases py s (by omega) with ⟨f1, f2⟩ | ⟨p, q, f1, f2, f3, f4, f5⟩
      · exact f2
      · rw [e1] at f1; cases f1
    · refine br_f (by rw [e2]; decide) ⟨vp_in_nI (by omega) (by omega), nm_r (e' := upd a_there s 0) (by rw [b_nar.1]) (yy (br_f ?_ ⟨vp_in_nI (by omega) (by omega), nm_r (e' := upd z_a_there s 0) (by rw [b_nar.1, nI_clamp (by omega)]) ⟨rfl, ?_⟩⟩))⟩
      · rcases py s (by omega) with ⟨f1, f2⟩ | ⟨p, q, f1, f2, f3, f4, f5⟩
        · rw [e1] at f1; cases f1
        · rw [f2]; decide
      · exact rl_i tk x1 y1 pc kx ky wx wy (pa_dn px) (pa_dn py) rx ry ca
theorem v_store {R : Type} [Lean.Grind.CommRing R] {co : R → Nat → Fin 5} (H : PL co) (I : Rl co (f_count, f_place, f_operators, f_values, f_fault, f_found, f_factored, f_pieces, f_kernel, a_kind, a_with, a_c, a_top, a_product, a_there, a_waiting, a_powers, a_matrix, a_basis) (z_f_count, z_f_place, z_f_opens, z_f_top, z_f_fault, z_f_faultAt, z_f_dry, z_f_found, z_a_c, z_a_there, z_a_kind, z_a_num, z_a_open, z_a_openAt, z_a_power, z_a_table)) (v : Int32) : wpX_store (fun r u' => wpY_store (fun r' v' => r' = r ∧ Rl co u' v') (z_f_count, z_f_place, z_f_opens, z_f_top, z_f_fault, z_f_faultAt, z_f_dry, z_f_found, z_a_c, z_a_there, z_a_kind, z_a_num, z_a_open, z_a_openAt, z_a_power, z_a_table) v) (f_count, f_place, f_operators, f_values, f_fault, f_found, f_factored, f_pieces, f_kernel, a_kind, a_with, a_c, a_top, a_product, a_there, a_waiting, a_powers, a_matrix, a_basis) v := by
  obtain ⟨n, kd, nm, pl, MX, MY, tk, x1, y1, pc, kx, ky, wx, wy, px, py, rx, ry, ca⟩ := I
  have I0 : Rl co (f_count, f_place, f_operators, f_values, f_fault, f_found, f_factored, f_pieces, f_kernel, a_kind, a_with, a_c, a_top, a_product, a_there, a_waiting, a_powers, a_matrix, a_basis) (z_f_count, z_f_place, z_f_opens, z_f_top, z_f_fault, z_f_faultAt, z_f_dry, z_f_found, z_a_c, z_a_there, z_a_kind, z_a_num, z_a_open, z_a_openAt, z_a_power, z_a_table) := rl_i tk x1 y1 pc kx ky wx wy px py rx ry ca
  unfold wpX_store
  rcases i_ix v 5 (by omega) with h | ⟨h, h'⟩ | ⟨s, hs, rfl⟩
  · exact br_t h (br_t h ⟨rfl, I0⟩)
  · exact br_f h (br_t h' (br_f h (br_t h' ⟨rfl, I0⟩)))
  · refine br_f (nI_pos (by omega)) (br_f (nI_nlt (a := 5) hs (by omega)) ?_)
    rcases px 6 (by omega) with ⟨e1, e2⟩ | ⟨p, q, e1, e2, e3, e4, e5⟩
    · refine br_t e2 (br_f (nI_pos (by omega)) (br_f (nI_nlt (a := 5) hs (by omega)) (br_t ?_ ⟨rfl, I0⟩)))
      rcases py 6 (by omega) with ⟨f1, f2⟩ | ⟨p, q, f1, f2, f3, f4, f5⟩
      · exact f2
      · rw [e1] at f1; cases f1
    · refine br_f (by rw [e2]; decide) ?_
      rcases py 6 (by omega) with ⟨f1, f2⟩ | ⟨p', q', f1, f2, f3, f4, f5⟩
      · rw [e1] at f1; cases f1
      rw [e1] at f1; cases f1
      rw [e2m]
      refine x_copy H (a := 12) (b := 2 * s) rx (by omega) (by omega) e3 (fun c1 t1 rx1 => ?_)
      rw [show (nI (2 * s) + 1 : Int32) = nI (2 * s + 1) from nI_1 _]
      refine x_copy H (a := 13) (b := 2 * s + 1) rx1 (by omega) (by omega) (by rw [uo_n (by omega)]; exact e4) (fun c2 t2 rx2 => ?_)
      refine ⟨vp_in_nI (by omega) (by omega), nm_r (e' := upd a_there s 1) (by rw [b_nar.2, nI_clamp (by omega)]) ?_⟩
      refine br_f (nI_pos (by omega)) (br_f (nI_nlt (a := 5) hs (by omega)) (br_f (by rw [f2]; decide) ?_))
      rw [show (52 : Int32) + 2 * nI s = nI (52 + 2 * s) from e52 52 s]
      refine y_copy H (a := 64) (b := 52 + 2 * s) ry (by omega) (by omega) f3 (fun c3 ry1 => ?_)
      rw [show (53 : Int32) + 2 * nI s = nI (52 + 2 * s + 1) from by rw [show (53 : Int32) + 2 * nI s = nI (53 + 2 * s) from e52 53 s]; exact congrArg nI (by omega)]
      refine y_copy H (a := 65) (b := 52 + 2 * s + 1) ry1 (by omega) (by omega) (by rw [uo_n (by omega)]; exact f4) (fun c4 ry2 => ?_)
      refine ⟨vp_in_nI (by omega) (by omega), nm_r (e' := upd z_a_there s 1) (by rw [b_nar.2, nI_clamp (by omega)]) ⟨rfl, ?_⟩⟩
      have px' := pa_up (s := s) (x := (p, q)) px e5
      rw [Nat.zero_add] at px'
      exact rl_i tk x1 y1 pc kx ky wx wy px' (pa_up (s := s) (x := (p, q)) py e5) rx2 ry2 (ca_fr ca (fun r hr => by rw [uo_n (by omega), uo_n (by omega)]))
theorem v_degree {R : Type} [Lean.Grind.CommRing R] {co : R → Nat → Fin 5} (H : PL co) (I : Rl co (f_count, f_place, f_operators, f_values, f_fault, f_found, f_factored, f_pieces, f_kernel, a_kind, a_with, a_c, a_top, a_product, a_there, a_waiting, a_powers, a_matrix, a_basis) (z_f_count, z_f_place, z_f_opens, z_f_top, z_f_fault, z_f_faultAt, z_f_dry, z_f_found, z_a_c, z_a_there, z_a_kind, z_a_num, z_a_open, z_a_openAt, z_a_power, z_a_table)) (v w : Int32) : wpX_degree (fun r => wpY_degree (fun r' => r' = r ∧ Rl co (f_count, f_place, f_operators, f_values, f_fault, f_found, f_factored, f_pieces, f_kernel, a_kind, a_with, a_c, a_top, a_product, a_there, a_waiting, a_powers, a_matrix, a_basis) (z_f_count, z_f_place, z_f_opens, z_f_top, z_f_fault, z_f_faultAt, z_f_dry, z_f_found, z_a_c, z_a_there, z_a_kind, z_a_num, z_a_open, z_a_openAt, z_a_power, z_a_table)) (z_f_count, z_f_place, z_f_opens, z_f_top, z_f_fault, z_f_faultAt, z_f_dry, z_f_found, z_a_c, z_a_there, z_a_kind, z_a_num, z_a_open, z_a_openAt, z_a_power, z_a_table) v w) (f_count, f_place, f_operators, f_values, f_fault, f_found, f_factored, f_pieces, f_kernel, a_kind, a_with, a_c, a_top, a_product, a_there, a_waiting, a_powers, a_matrix, a_basis) v w := by
  obtain ⟨n, kd, nm, pl, MX, MY, tk, x1, y1, pc, kx, ky, wx, wy, px, py, rx, ry, ca⟩ := I
  have I0 : Rl co (f_count, f_place, f_operators, f_values, f_fault, f_found, f_factored, f_pieces, f_kernel, a_kind, a_with, a_c, a_top, a_product, a_there, a_waiting, a_powers, a_matrix, a_basis) (z_f_count, z_f_place, z_f_opens, z_f_top, z_f_fault, z_f_faultAt, z_f_dry, z_f_found, z_a_c, z_a_there, z_a_kind, z_a_num, z_a_open, z_a_openAt, z_a_power, z_a_table) := rl_i tk x1 y1 pc kx ky wx wy px py rx ry ca
  have kn : No pl v w → wpY_degree (fun r' => r' = -2 ∧ Rl co (f_count, f_place, f_operators, f_values, f_fault, f_found, f_factored, f_pieces, f_kernel, a_kind, a_with, a_c, a_top, a_product, a_there, a_waiting, a_powers, a_matrix, a_basis) (z_f_count, z_f_place, z_f_opens, z_f_top, z_f_fault, z_f_faultAt, z_f_dry, z_f_found, z_a_c, z_a_there, z_a_kind, z_a_num, z_a_open, z_a_openAt, z_a_power, z_a_table)) (z_f_count, z_f_place, z_f_opens, z_f_top, z_f_fault, z_f_faultAt, z_f_dry, z_f_found, z_a_c, z_a_there, z_a_kind, z_a_num, z_a_open, z_a_openAt, z_a_power, z_a_table) v w := fun no => by
    unfold wpY_degree
    exact y_pt_n py no (br_f (by decide) ⟨rfl, I0⟩)
  unfold wpX_degree
  refine x_pt px kn kn (fun s b x hs hb ev ew hx m1 m2 vx => ?_)
  subst ev ew
  rw [e2m1]
  refine ⟨vp_in_nI (by omega) (by omega), ?_⟩
  rw [nI_clamp (by omega), (rx _ (by omega) _ m1).2.2]
  unfold wpY_degree
  refine y_pt_y py hs hb hx (fun g1 _ _ => br_t (nI_pos' (by omega)) ?_)
  exact y_deg H ry (by omega) g1 ⟨rfl, I0⟩
theorem v_number {R : Type} [Lean.Grind.CommRing R] {co : R → Nat → Fin 5} (H : PL co) (I : Rl co (f_count, f_place, f_operators, f_values, f_fault, f_found, f_factored, f_pieces, f_kernel, a_kind, a_with, a_c, a_top, a_product, a_there, a_waiting, a_powers, a_matrix, a_basis) (z_f_count, z_f_place, z_f_opens, z_f_top, z_f_fault, z_f_faultAt, z_f_dry, z_f_found, z_a_c, z_a_there, z_a_kind, z_a_num, z_a_open, z_a_openAt, z_a_power, z_a_table)) (v w k : Int32) : wpX_number (fun r => wpY_number (fun r' => r' = r ∧ Rl co (f_count, f_place, f_operators, f_values, f_fault, f_found, f_factored, f_pieces, f_kernel, a_kind, a_with, a_c, a_top, a_product, a_there, a_waiting, a_powers, a_matrix, a_basis) (z_f_count, z_f_place, z_f_opens, z_f_top, z_f_fault, z_f_faultAt, z_f_dry, z_f_found, z_a_c, z_a_there, z_a_kind, z_a_num, z_a_open, z_a_openAt, z_a_power, z_a_table)) (z_f_count, z_f_place, z_f_opens, z_f_top, z_f_fault, z_f_faultAt, z_f_dry, z_f_found, z_a_c, z_a_there, z_a_kind, z_a_num, z_a_open, z_a_openAt, z_a_power, z_a_table) v w k) (f_count, f_place, f_operators, f_values, f_fault, f_found, f_factored, f_pieces, f_kernel, a_kind, a_with, a_c, a_top, a_product, a_there, a_waiting, a_powers, a_matrix, a_basis) v w k := by
  obtain ⟨n, kd, nm, pl, MX, MY, tk, x1, y1, pc, kx, ky, wx, wy, px, py, rx, ry, ca⟩ := I
  have I0 : Rl co (f_count, f_place, f_operators, f_values, f_fault, f_found, f_factored, f_pieces, f_kernel, a_kind, a_with, a_c, a_top, a_product, a_there, a_waiting, a_powers, a_matrix, a_basis) (z_f_count, z_f_place, z_f_opens, z_f_top, z_f_fault, z_f_faultAt, z_f_dry, z_f_found, z_a_c, z_a_there, z_a_kind, z_a_num, z_a_open, z_a_openAt, z_a_power, z_a_table) := rl_i tk x1 y1 pc kx ky wx wy px py rx ry ca
  have kn : No pl v w → wpY_number (fun r' => r' = 0 ∧ Rl co (f_count, f_place, f_operators, f_values, f_fault, f_found, f_factored, f_pieces, f_kernel, a_kind, a_with, a_c, a_top, a_product, a_there, a_waiting, a_powers, a_matrix, a_basis) (z_f_count, z_f_place, z_f_opens, z_f_top, z_f_fault, z_f_faultAt, z_f_dry, z_f_found, z_a_c, z_a_there, z_a_kind, z_a_num, z_a_open, z_a_openAt, z_a_power, z_a_table)) (z_f_count, z_f_place, z_f_opens, z_f_top, z_f_fault, z_f_faultAt, z_f_dry, z_f_found, z_a_c, z_a_there, z_a_kind, z_a_num, z_a_open, z_a_openAt, z_a_power, z_a_table) v w k := fun no => by
    unfold wpY_number
    exact y_pt_n py no (br_t (by decide) ⟨rfl, I0⟩)
  unfold wpX_number
  refine x_pt px kn kn (fun s b x hs hb ev ew hx m1 m2 vx => ?_)
  subst ev ew
  have yy : ∀ post : Int32 → Prop, (MY (52 + 2 * s + b) = some (pqb x b) → ((k < 0 → post 0) ∧ (¬ k < 0 → ((k ≤ 8 → (vp_in ((20 * nI (52 + 2 * s + b)) + k) 1800 ∧ post (z_a_c ((20 * nI (52 + 2 * s + b)) + k).toNatClampNeg))) ∧ (¬ k ≤ 8 → post 0))))) → wpY_number post (z_f_count, z_f_place, z_f_opens, z_f_top, z_f_fault, z_f_faultAt, z_f_dry, z_f_found, z_a_c, z_a_there, z_a_kind, z_a_num, z_a_open, z_a_openAt, z_a_power, z_a_table) (nI s) (nI b) k := fun post q => by
    unfold wpY_number
    exact y_pt_y py hs hb hx (fun g1 _ _ => br_f (nI_pos (by omega)) (q g1))
  rcases i_ix k 8 (by omega) with h | ⟨h, h'⟩ | ⟨j, hj, rfl⟩
  · exact br_t h (yy _ (fun _ => br_t h ⟨rfl, I0⟩))
  · exact br_f h (br_f (Int32.not_le.mpr h') (yy _ (fun _ => br_f h (br_f (Int32.not_le.mpr h') ⟨rfl, I0⟩))))
  · refine br_f (nI_pos (by omega)) (br_t (nI_le (b := 8) hj (by decide)) ?_)
    rw [e2m1]
    refine ⟨in24 (by omega) (by omega), ?_⟩
    rw [cl24 (by omega) (by omega), (rx _ (by omega) _ m1).2.1 j (by omega)]
    refine yy _ (fun g1 => br_f (nI_pos (by omega)) (br_t (nI_le (b := 8) hj (by decide)) ?_))
    rw [show 20 * nI (52 + 2 * s + b) + nI j = nI (20 * (52 + 2 * s + b) + j) from by rw [show (20 : Int32) = nI 20 from rfl, pk_mul, nI_add]]
    refine ⟨vp_in_nI (by omega) (by omega), ?_, I0⟩
    rw [nI_clamp (by omega)]
    exact (ry _ (by omega) _ g1).2 j (by omega)
theorem v_value {R : Type} [Lean.Grind.CommRing R] {co : R → Nat → Fin 5} (H : PL co) (I : Rl co (f_count, f_place, f_operators, f_values, f_fault, f_found, f_factored, f_pieces, f_kernel, a_kind, a_with, a_c, a_top, a_product, a_there, a_waiting, a_powers, a_matrix, a_basis) (z_f_count, z_f_place, z_f_opens, z_f_top, z_f_fault, z_f_faultAt, z_f_dry, z_f_found, z_a_c, z_a_there, z_a_kind, z_a_num, z_a_open, z_a_openAt, z_a_power, z_a_table)) (v w : Int32) : wpX_value (fun r => wpY_value (fun r' => r' = r ∧ Rl co (f_count, f_place, f_operators, f_values, f_fault, f_found, f_factored, f_pieces, f_kernel, a_kind, a_with, a_c, a_top, a_product, a_there, a_waiting, a_powers, a_matrix, a_basis) (z_f_count, z_f_place, z_f_opens, z_f_top, z_f_fault, z_f_faultAt, z_f_dry, z_f_found, z_a_c, z_a_there, z_a_kind, z_a_num, z_a_open, z_a_openAt, z_a_power, z_a_table)) (z_f_count, z_f_place, z_f_opens, z_f_top, z_f_fault, z_f_faultAt, z_f_dry, z_f_found, z_a_c, z_a_there, z_a_kind, z_a_num, z_a_open, z_a_openAt, z_a_power, z_a_table) v w) (f_count, f_place, f_operators, f_values, f_fault, f_found, f_factored, f_pieces, f_kernel, a_kind, a_with, a_c, a_top, a_product, a_there, a_waiting, a_powers, a_matrix, a_basis) v w := by
  obtain ⟨n, kd, nm, pl, MX, MY, tk, x1, y1, pc, kx, ky, wx, wy, px, py, rx, ry, ca⟩ := I
  have I0 : Rl co (f_count, f_place, f_operators, f_values, f_fault, f_found, f_factored, f_pieces, f_kernel, a_kind, a_with, a_c, a_top, a_product, a_there, a_waiting, a_powers, a_matrix, a_basis) (z_f_count, z_f_place, z_f_opens, z_f_top, z_f_fault, z_f_faultAt, z_f_dry, z_f_found, z_a_c, z_a_there, z_a_kind, z_a_num, z_a_open, z_a_openAt, z_a_power, z_a_table) := rl_i tk x1 y1 pc kx ky wx wy px py rx ry ca
  unfold wpX_value
  refine x_empty px (fun em => br_f (by decide) ?_) (fun s x hs ev hx m1 m2 vx => br_t rfl ?_)
  · unfold wpY_value
    exact y_has_n py em (br_t rfl ⟨rfl, I0⟩)
  · subst ev
    refine x_mod ?_
    rw [fi_e w, show (2 * nI s + 1 : Int32) = nI (2 * s + 1) from by rw [e2m]; exact nI_1 _]
    have yy : ∀ post : Int32 → Prop, (cI (vv co x.2 (fi w)) = 0 → post 5) → (¬ cI (vv co x.2 (fi w)) = 0 → post (cI (vv co x.1 (fi w) * (vv co x.2 (fi w) * vv co x.2 (fi w) * vv co x.2 (fi w))))) → wpY_value post (z_f_count, z_f_place, z_f_opens, z_f_top, z_f_fault, z_f_faultAt, z_f_dry, z_f_found, z_a_c, z_a_there, z_a_kind, z_a_num, z_a_open, z_a_openAt, z_a_power, z_a_table) (nI s) w := fun post k1 k2 => by
      unfold wpY_value
      refine y_has_y py hs hx (fun g1 g2 => br_f (by decide) (y_mod ?_))
      rw [fi_e w, show (52 : Int32) + 2 * nI s = nI (52 + 2 * s) from e52 52 s]
      refine y_valueOf H ry (by omega) g1 ?_
      rw [show (53 : Int32) + 2 * nI s = nI (52 + 2 * s + 1) from by rw [show (53 : Int32) + 2 * nI s = nI (53 + 2 * s) from e52 53 s]; exact congrArg nI (by omega)]
      refine y_valueOf H ry (by omega) g2 ⟨k1, fun nz => y_inverse (y_mod ?_)⟩
      rw [c_mulm]
      exact k2 nz
    refine x_valueOf H rx (by omega) m2 ⟨fun z => yy _ (fun _ => ⟨rfl, I0⟩) (fun nz => absurd z nz), fun nz => ?_⟩
    rw [e2m]
    refine x_valueOf H rx (by omega) m1 ?_
    unfold wpX_over
    refine ⟨by decide, by decide, ?_⟩
    rw [c_inv, c_mul]
    exact yy _ (fun z => absurd z nz) (fun _ => ⟨rfl, I0⟩)
end
end
section
/-! factors -/
def NF {R : Type} [Lean.Grind.CommRing R] (pl : Nat → Option (R × R)) (v w : Int32) : Prop := ∀ s b x, s < 7 → b < 2 → v = nI s → w = nI b → pl s = some x → pqb x b = 0
theorem no_nf {R : Type} [Lean.Grind.CommRing R] {pl : Nat → Option (R × R)} {v w : Int32} (h : No pl v w) : NF pl v w := fun s b x h1 h2 h3 h4 h5 => by
  rw [h s b h1 h2 h3 h4] at h5; cases h5
theorem pa_vv {R : Type} [Lean.Grind.CommRing R] {co : R → Nat → Fin 5} {M : Nat → Option R} {th : Nat → Int32} {b : Nat} {pl : Nat → Option (R × R)} (h : PA co M th b pl 7) {s : Nat} {x : R × R} (hs : s < 7) (hx : pl s = some x) : Vv co x := by
  rcases h s hs with ⟨e1, e2⟩ | ⟨p, q, e1, e2, e3, e4, e5⟩
  · rw [hx] at e1; cases e1
  · rw [hx] at e1; cases e1; exact e5
section
variable {f_count f_place f_operators f_values f_fault f_found f_factored f_pieces f_kernel : Int32} {a_kind a_with a_c a_top a_product a_there a_waiting a_powers a_matrix a_basis : Nat → Int32}
theorem x_facs {R : Type} [Lean.Grind.CommRing R] {co : R → Nat → Fin 5} (H : PL co) {pl : Nat → Option (R × R)} {M : Nat → Option R} {v w : Int32} {post : Int32 → SX → Prop} (rx : RX co a_c a_top M) (pa : PA co M a_there 0 pl 7) (ca : Ca co M a_powers f_found f_factored) (KN : NF pl v w → post (-1) (f_count, f_place, f_operators, f_values, f_fault, f_found, f_factored, f_pieces, f_kernel, a_kind, a_with, a_c, a_top, a_product, a_there, a_waiting, a_powers, a_matrix, a_basis))
    (KY : ∀ s b x n g e M' c tp pr pi ke pw mt bs fac, s < 7 → b < 2 → v = nI s → w = nI b → pl s = some x → pqb x b ≠ 0 → Fc co (pqb x b) n g e → RX co c tp M' → LX M' pw n g e → (∀ r, r < 40 → M' r = M r) → Ca co M' pw (nI n) fac → post (nI n) (f_count, f_place, f_operators, f_values, f_fault, nI n, fac, pi, ke, a_kind, a_with, c, tp, pr, a_there, a_waiting, pw, mt, bs)) : wpX_factors post (f_count, f_place, f_operators, f_values, f_fault, f_found, f_factored, f_pieces, f_kernel, a_kind, a_with, a_c, a_top, a_product, a_there, a_waiting, a_powers, a_matrix, a_basis) v w := by
  unfold wpX_factors
  refine x_pt pa (fun no => KN (no_nf no)) (fun no => KN (no_nf no)) (fun s b x hs hb ev ew hx m1 m2 vx => ?_)
  have l9 : dl co (pqb x b) ≤ 9 := vv_9 vx
  rw [ev, ew, e2m1]
  refine ⟨vp_in_nI (by omega) (by omega), ?_⟩
  rw [nI_clamp (by omega), (rx _ (by omega) _ m1).2.2]
  by_cases z : pqb x b = 0
  · have d0 : dl co (pqb x b) = 0 := by rw [z]; exact dl_0 H
    refine br_f (fun q => absurd ((ti_nn (by omega)).mp q) (by omega)) (KN (fun s' b' x' h1 h2 h3 h4 h5 => ?_))
    rw [ev] at h3; rw [ew] at h4
    have e1 := nI_u (by omega) (by omega) h3
    have e2 := nI_u (by omega) (by omega) h4
    subst e1 e2
    rw [hx] at h5; cases h5
    exact z
  · have d1 := dl_ne H z
    refine br_t ((ti_nn (by omega)).mpr (by omega)) ?_
    exact x_factorise H rx (by omega) m1 z l9 ca (fun n g e M' c tp pr pi ke pw mt bs fac fc hx' lx m75 fr => KY s b x n g e M' c tp pr pi ke pw mt bs fac hs hb ev ew hx z fc hx' lx fr (Or.inr ⟨_, n, g, e, z, l9, m75, fc, lx, rfl⟩))
end
section
variable {f_count f_place f_opens f_top f_fault f_faultAt f_dry f_found : Int32} {a_c a_there a_kind a_num a_open a_openAt a_power a_table : Nat → Int32}
theorem y_facs {R : Type} [Lean.Grind.CommRing R] {co : R → Nat → Fin 5} (H : PL co) {pl : Nat → Option (R × R)} {M : Nat → Option R} {v w : Int32} {post : Int32 → SY → Prop} (ry : RY co a_c M) (pa : PA co M a_there 52 pl 7) (KN : NF pl v w → post (-1) (f_count, f_place, f_opens, f_top, f_fault, f_faultAt, f_dry, f_found, a_c, a_there, a_kind, a_num, a_open, a_openAt, a_power, a_table))
    (KY : ∀ s b x n g e M' c pw, s < 7 → b < 2 → v = nI s → w = nI b → pl s = some x → pqb x b ≠ 0 → Fc co (pqb x b) n g e → RY co c M' → LY M' pw n g e → FY M M' → post (nI n) (f_count, f_place, f_opens, f_top, f_fault, f_faultAt, f_dry, nI n, c, a_there, a_kind, a_num, a_open, a_openAt, pw, a_table)) : wpY_factors post (f_count, f_place, f_opens, f_top, f_fault, f_faultAt, f_dry, f_found, a_c, a_there, a_kind, a_num, a_open, a_openAt, a_power, a_table) v w := by
  unfold wpY_factors
  by_cases c : No pl v w
  · exact y_pt_n pa c (br_t (by decide) (KN (no_nf c)))
  · obtain ⟨s, hs⟩ := Classical.not_forall.mp c
    obtain ⟨b, hb⟩ := Classical.not_forall.mp hs
    have h1 : s < 7 := Classical.byContradiction (fun z => hb (fun q => absurd q z))
    have h2 : b < 2 := Classical.byContradiction (fun z => hb (fun _ q => absurd q z))
    have h3 : v = nI s := Classical.byContradiction (fun z => hb (fun _ _ q => absurd q z))
    have h4 : w = nI b := Classical.byContradiction (fun z => hb (fun _ _ _ q => absurd q z))
    have h5 : pl s ≠ none := fun z => hb (fun _ _ _ _ => z)
    obtain ⟨x, hx⟩ := Option.ne_none_iff_exists'.mp h5
    have l9 : dl co (pqb x b) ≤ 9 := vv_9 (pa_vv pa h1 hx)
    subst h3 h4
    refine y_pt_y pa h1 h2 hx (fun g1 _ _ => br_f (nI_pos (by omega)) ?_)
    refine y_deg H ry (by omega) g1 ?_
    by_cases z : pqb x b = 0
    · have d0 : dl co (pqb x b) = 0 := by rw [z]; exact dl_0 H
      refine br_f (fun q => absurd ((ti_nn (by omega)).mp q) (by omega)) (KN (fun s' b' x' h1 h2 h3 h4 h5 => ?_))
      have e1 := nI_u (by omega) (by omega) h3
      have e2 := nI_u (by omega) (by omega) h4
      subst e1 e2
      rw [hx] at h5; cases h5
      exact z
    · have d1 := dl_ne H z
      refine br_t ((ti_nn (by omega)).mpr (by omega)) ?_
      exact y_split H ry (by omega) g1 z l9 (fun n g e M' c pw fc hr ly fy => KY s b x n g e M' c pw h1 h2 rfl rfl hx z fc hr ly fy)
theorem y_facs_y {R : Type} [Lean.Grind.CommRing R] {co : R → Nat → Fin 5} (H : PL co) {pl : Nat → Option (R × R)} {M : Nat → Option R} {s b n : Nat} {x : R × R} {g : Nat → R} {e : Nat → Nat} {post : Int32 → SY → Prop} (ry : RY co a_c M) (pa : PA co M a_there 52 pl 7) (hs : s < 7) (hb : b < 2) (hx : pl s = some x) (nz : pqb x b ≠ 0) (fc : Fc co (pqb x b) n g e)
    (KY : ∀ M' c pw, RY co c M' → LY M' pw n g e → FY M M' → post (nI n) (f_count, f_place, f_opens, f_top, f_fault, f_faultAt, f_dry, nI n, c, a_there, a_kind, a_num, a_open, a_openAt, pw, a_table)) : wpY_factors post (f_count, f_place, f_opens, f_top, f_fault, f_faultAt, f_dry, f_found, a_c, a_there, a_kind, a_num, a_open, a_openAt, a_power, a_table) (nI s) (nI b) := by
  refine y_facs H ry pa (fun nf => absurd (nf s b x hs hb rfl rfl hx) nz) (fun s' b' x' n' g' e' M' c pw h1 h2 h3 h4 h5 nz' fc' hr ly fy => ?_)
  have e1 := nI_u (by omega) (by omega) h3
  have e2 := nI_u (by omega) (by omega) h4
  subst e1 e2
  rw [hx] at h5; cases h5
  have l9 : dl co (pqb x b) ≤ 9 := vv_9 (pa_vv pa hs hx)
  obtain ⟨en, eg⟩ := fc_un H nz (by omega) fc fc'
  subst en
  exact KY M' c pw hr (fun i hi => by rw [(eg i hi).1, (eg i hi).2]; exact ly i hi) fy
end
theorem nlt_m1 {i : Nat} (h : i < 2 ^ 31) : ¬ nI i < -1 := by
  rw [Int32.lt_iff_toInt_lt, nI_toInt h, show (-1 : Int32).toInt = -1 from by decide]
  omega
section
variable {f_count f_place f_operators f_values f_fault f_found f_factored f_pieces f_kernel : Int32} {a_kind a_with a_c a_top a_product a_there a_waiting a_powers a_matrix a_basis : Nat → Int32} {z_f_count z_f_place z_f_opens z_f_top z_f_fault z_f_faultAt z_f_dry z_f_found : Int32} {z_a_c z_a_there z_a_kind z_a_num z_a_open z_a_openAt z_a_power z_a_table : Nat → Int32}
theorem v_factors {R : Type} [Lean.Grind.CommRing R] {co : R → Nat → Fin 5} (H : PL co) (I : Rl co (f_count, f_place, f_operators, f_values, f_fault, f_found, f_factored, f_pieces, f_kernel, a_kind, a_with, a_c, a_top, a_product, a_there, a_waiting, a_powers, a_matrix, a_basis) (z_f_count, z_f_place, z_f_opens, z_f_top, z_f_fault, z_f_faultAt, z_f_dry, z_f_found, z_a_c, z_a_there, z_a_kind, z_a_num, z_a_open, z_a_openAt, z_a_power, z_a_table)) (v w : Int32) : wpX_factors (fun r u' => wpY_factors (fun r' v' => r' = r ∧ Rl co u' v') (z_f_count, z_f_place, z_f_opens, z_f_top, z_f_fault, z_f_faultAt, z_f_dry, z_f_found, z_a_c, z_a_there, z_a_kind, z_a_num, z_a_open, z_a_openAt, z_a_power, z_a_table) v w) (f_count, f_place, f_operators, f_values, f_fault, f_found, f_factored, f_pieces, f_kernel, a_kind, a_with, a_c, a_top, a_product, a_there, a_waiting, a_powers, a_matrix, a_basis) v w := by
  obtain ⟨n, kd, nm, pl, MX, MY, tk, x1, y1, pc, kx, ky, wx, wy, px, py, rx, ry, ca⟩ := I
  refine x_facs H rx px ca (fun nf => ?_) (fun s b x m g e M' c tp pr pi ke pw mt bs fac hs hb ev ew hx nz fc hr lx fr ca' => ?_)
  · refine y_facs H ry py (fun _ => ⟨rfl, rl_i tk x1 y1 pc kx ky wx wy px py rx ry ca⟩) (fun s b x m g e M' c pw hs hb ev ew hx nz fc hr ly fy => absurd (nf s b x hs hb ev ew hx) nz)
  · subst ev ew
    exact y_facs_y H ry py hs hb hx nz fc (fun M2 c2 pw2 hr2 ly fy => ⟨rfl, rl_i tk x1 y1 pc kx ky wx wy (pa_fr px (fun r _ h => fr r (by omega))) (pa_fr py (fun r _ h => fy r (by omega))) hr hr2 ca'⟩)
theorem x_facAt {R : Type} [Lean.Grind.CommRing R] {co : R → Nat → Fin 5} (H : PL co) {pl : Nat → Option (R × R)} {M : Nat → Option R} {v w i : Int32} {post : Int32 → SX → Prop} (rx : RX co a_c a_top M) (pa : PA co M a_there 0 pl 7) (ca : Ca co M a_powers f_found f_factored) (KM : i < 0 → post (-1) (f_count, f_place, f_operators, f_values, f_fault, f_found, f_factored, f_pieces, f_kernel, a_kind, a_with, a_c, a_top, a_product, a_there, a_waiting, a_powers, a_matrix, a_basis)) (KN : ¬ i < 0 → NF pl v w → post (-1) (f_count, f_place, f_operators, f_values, f_fault, f_found, f_factored, f_pieces, f_kernel, a_kind, a_with, a_c, a_top, a_product, a_there, a_waiting, a_powers, a_matrix, a_basis))
    (KO : ∀ s b x n g e M' c tp pr pi ke pw mt bs fac, ¬ i < 0 → ¬ i < nI n → s < 7 → b < 2 → v = nI s → w = nI b → pl s = some x → pqb x b ≠ 0 → Fc co (pqb x b) n g e → RX co c tp M' → LX M' pw n g e → (∀ r, r < 40 → M' r = M r) → Ca co M' pw (nI n) fac → post (-1) (f_count, f_place, f_operators, f_values, f_fault, nI n, fac, pi, ke, a_kind, a_with, c, tp, pr, a_there, a_waiting, pw, mt, bs))
    (KY : ∀ s b x n g e M' c tp pr pi ke pw mt bs fac j, i = nI j → j < n → n ≤ 8 → s < 7 → b < 2 → v = nI s → w = nI b → pl s = some x → pqb x b ≠ 0 → Fc co (pqb x b) n g e → RX co c tp M' → LX M' pw n g e → (∀ r, r < 40 → M' r = M r) → Ca co M' pw (nI n) fac → post (nI (60 + j)) (f_count, f_place, f_operators, f_values, f_fault, nI n, fac, pi, ke, a_kind, a_with, c, tp, pr, a_there, a_waiting, pw, mt, bs)) : wpX_factorAt post (f_count, f_place, f_operators, f_values, f_fault, f_found, f_factored, f_pieces, f_kernel, a_kind, a_with, a_c, a_top, a_product, a_there, a_waiting, a_powers, a_matrix, a_basis) v w i := by
  unfold wpX_factorAt
  by_cases c : i < 0
  · exact br_t c (KM c)
  · refine br_f c ?_
    obtain ⟨j, hj, rfl⟩ := nI_of c
    refine x_facs H rx pa ca (fun nf => br_f (nlt_m1 hj) (KN c nf)) (fun s b x m g e M' c' tp pr pi ke pw mt bs fac hs hb ev ew hx nz fc hr lx fr ca' => ?_)
    have l9 : dl co (pqb x b) ≤ 9 := vv_9 (pa_vv pa hs hx)
    have m8 := fc_cnt H nz fc
    by_cases l : j < m
    · refine br_t (nI_lt l (by omega)) ?_
      rw [show (60 : Int32) + nI j = nI (60 + j) from by rw [show (60 : Int32) = nI 60 from rfl, nI_add]]
      exact KY s b x m g e M' c' tp pr pi ke pw mt bs fac j rfl l (by omega) hs hb ev ew hx nz fc hr lx fr ca'
    · exact br_f (nI_nlt (by omega) hj) (KO s b x m g e M' c' tp pr pi ke pw mt bs fac c (nI_nlt (by omega) hj) hs hb ev ew hx nz fc hr lx fr ca')
theorem v_factorDegree {R : Type} [Lean.Grind.CommRing R] {co : R → Nat → Fin 5} (H : PL co) (I : Rl co (f_count, f_place, f_operators, f_values, f_fault, f_found, f_factored, f_pieces, f_kernel, a_kind, a_with, a_c, a_top, a_product, a_there, a_waiting, a_powers, a_matrix, a_basis) (z_f_count, z_f_place, z_f_opens, z_f_top, z_f_fault, z_f_faultAt, z_f_dry, z_f_found, z_a_c, z_a_there, z_a_kind, z_a_num, z_a_open, z_a_openAt, z_a_power, z_a_table)) (v w i : Int32) : wpX_factorDegree (fun r u' => wpY_factorDegree (fun r' v' => r' = r ∧ Rl co u' v') (z_f_count, z_f_place, z_f_opens, z_f_top, z_f_fault, z_f_faultAt, z_f_dry, z_f_found, z_a_c, z_a_there, z_a_kind, z_a_num, z_a_open, z_a_openAt, z_a_power, z_a_table) v w i) (f_count, f_place, f_operators, f_values, f_fault, f_found, f_factored, f_pieces, f_kernel, a_kind, a_with, a_c, a_top, a_product, a_there, a_waiting, a_powers, a_matrix, a_basis) v w i := by
  obtain ⟨n, kd, nm, pl, MX, MY, tk, x1, y1, pc, kx, ky, wx, wy, px, py, rx, ry, ca⟩ := I
  unfold wpX_factorDegree
  refine x_facAt H rx px ca (fun c => br_f (by decide) ?_) (fun c nf => br_f (by decide) ?_) (fun s b x m g e M' c' tp pr pi ke pw mt bs fac c l hs hb ev ew hx nz fc hr lx fr ca' => br_f (by decide) ?_) (fun s b x m g e M' c' tp pr pi ke pw mt bs fac j ej hj m8 hs hb ev ew hx nz fc hr lx fr ca' => br_t (nI_pos' (by omega)) ?_)
  · unfold wpY_factorDegree
    refine y_facs H ry py (fun _ => br_t c ⟨rfl, rl_i tk x1 y1 pc kx ky wx wy px py rx ry ca⟩) (fun s b x m g e M2 c2 pw2 hs hb ev ew hx nz fc hr2 ly fy => br_t c ⟨rfl, rl_i tk x1 y1 pc kx ky wx wy px (pa_fr py (fun r _ h => fy r (by omega))) rx hr2 ca⟩)
  · obtain ⟨j, hj, rfl⟩ := nI_of c
    unfold wpY_factorDegree
    refine y_facs H ry py (fun _ => br_f c (br_f (nlt_m1 hj) ⟨rfl, rl_i tk x1 y1 pc kx ky wx wy px py rx ry ca⟩)) (fun s b x m g e M2 c2 pw2 hs hb ev ew hx nz fc hr2 ly fy => absurd (nf s b x hs hb ev ew hx) nz)
  · subst ev ew
    unfold wpY_factorDegree
    exact y_facs_y H ry py hs hb hx nz fc (fun M2 c2 pw2 hr2 ly fy => br_f c (br_f l ⟨rfl, rl_i tk x1 y1 pc kx ky wx wy (pa_fr px (fun r _ h => fr r (by omega))) (pa_fr py (fun r _ h => fy r (by omega))) hr hr2 ca'⟩))
  · subst ev ew ej
    refine ⟨vp_in_nI (by omega) (by omega), ?_⟩
    rw [nI_clamp (by omega), (hr _ (by omega) _ (lx j hj).1).2.2]
    unfold wpY_factorDegree
    refine y_facs_y H ry py hs hb hx nz fc (fun M2 c2 pw2 hr2 ly fy => br_f (nI_pos (by omega)) (br_t (nI_lt hj (by omega)) ?_))
    rw [show (72 : Int32) + nI j = nI (72 + j) from by rw [show (72 : Int32) = nI 72 from rfl, nI_add]]
    exact y_deg H hr2 (by omega) (ly j hj).1 ⟨rfl, rl_i tk x1 y1 pc kx ky wx wy (pa_fr px (fun r _ h => fr r (by omega))) (pa_fr py (fun r _ h => fy r (by omega))) hr hr2 ca'⟩
theorem v_power {R : Type} [Lean.Grind.CommRing R] {co : R → Nat → Fin 5} (H : PL co) (I : Rl co (f_count, f_place, f_operators, f_values, f_fault, f_found, f_factored, f_pieces, f_kernel, a_kind, a_with, a_c, a_top, a_product, a_there, a_waiting, a_powers, a_matrix, a_basis) (z_f_count, z_f_place, z_f_opens, z_f_top, z_f_fault, z_f_faultAt, z_f_dry, z_f_found, z_a_c, z_a_there, z_a_kind, z_a_num, z_a_open, z_a_openAt, z_a_power, z_a_table)) (v w i : Int32) : wpX_power (fun r u' => wpY_power (fun r' v' => r' = r ∧ Rl co u' v') (z_f_count, z_f_place, z_f_opens, z_f_top, z_f_fault, z_f_faultAt, z_f_dry, z_f_found, z_a_c, z_a_there, z_a_kind, z_a_num, z_a_open, z_a_openAt, z_a_power, z_a_table) v w i) (f_count, f_place, f_operators, f_values, f_fault, f_found, f_factored, f_pieces, f_kernel, a_kind, a_with, a_c, a_top, a_product, a_there, a_waiting, a_powers, a_matrix, a_basis) v w i := by
  obtain ⟨n, kd, nm, pl, MX, MY, tk, x1, y1, pc, kx, ky, wx, wy, px, py, rx, ry, ca⟩ := I
  unfold wpX_power
  refine x_facAt H rx px ca (fun c => br_f (by decide) ?_) (fun c nf => br_f (by decide) ?_) (fun s b x m g e M' c' tp pr pi ke pw mt bs fac c l hs hb ev ew hx nz fc hr lx fr ca' => br_f (by decide) ?_) (fun s b x m g e M' c' tp pr pi ke pw mt bs fac j ej hj m8 hs hb ev ew hx nz fc hr lx fr ca' => br_t (nI_pos' (by omega)) ?_)
  · unfold wpY_power
    refine y_facs H ry py (fun _ => br_t c ⟨rfl, rl_i tk x1 y1 pc kx ky wx wy px py rx ry ca⟩) (fun s b x m g e M2 c2 pw2 hs hb ev ew hx nz fc hr2 ly fy => br_t c ⟨rfl, rl_i tk x1 y1 pc kx ky wx wy px (pa_fr py (fun r _ h => fy r (by omega))) rx hr2 ca⟩)
  · obtain ⟨j, hj, rfl⟩ := nI_of c
    unfold wpY_power
    refine y_facs H ry py (fun _ => br_f c (br_f (nlt_m1 hj) ⟨rfl, rl_i tk x1 y1 pc kx ky wx wy px py rx ry ca⟩)) (fun s b x m g e M2 c2 pw2 hs hb ev ew hx nz fc hr2 ly fy => absurd (nf s b x hs hb ev ew hx) nz)
  · subst ev ew
    unfold wpY_power
    exact y_facs_y H ry py hs hb hx nz fc (fun M2 c2 pw2 hr2 ly fy => br_f c (br_f l ⟨rfl, rl_i tk x1 y1 pc kx ky wx wy (pa_fr px (fun r _ h => fr r (by omega))) (pa_fr py (fun r _ h => fy r (by omega))) hr hr2 ca'⟩))
  · subst ev ew ej
    rw [show nI (60 + j) - 60 = nI j from by rw [show (60 : Int32) = nI 60 from rfl, pk_sub (by omega), Nat.add_sub_cancel_left]]
    refine ⟨vp_in_nI (by omega) (by omega), ?_⟩
    rw [nI_clamp (by omega), (lx j hj).2]
    unfold wpY_power
    refine y_facs_y H ry py hs hb hx nz fc (fun M2 c2 pw2 hr2 ly fy => br_f (nI_pos (by omega)) (br_t (nI_lt hj (by omega)) ⟨vp_in_nI (by omega) (by omega), ?_, rl_i tk x1 y1 pc kx ky wx wy (pa_fr px (fun r _ h => fr r (by omega))) (pa_fr py (fun r _ h => fy r (by omega))) hr hr2 ca'⟩))
    rw [nI_clamp (by omega)]
    exact (ly j hj).2
theorem v_factor {R : Type} [Lean.Grind.CommRing R] {co : R → Nat → Fin 5} (H : PL co) (I : Rl co (f_count, f_place, f_operators, f_values, f_fault, f_found, f_factored, f_pieces, f_kernel, a_kind, a_with, a_c, a_top, a_product, a_there, a_waiting, a_powers, a_matrix, a_basis) (z_f_count, z_f_place, z_f_opens, z_f_top, z_f_fault, z_f_faultAt, z_f_dry, z_f_found, z_a_c, z_a_there, z_a_kind, z_a_num, z_a_open, z_a_openAt, z_a_power, z_a_table)) (v w i k : Int32) : wpX_factor (fun r u' => wpY_factor (fun r' v' => r' = r ∧ Rl co u' v') (z_f_count, z_f_place, z_f_opens, z_f_top, z_f_fault, z_f_faultAt, z_f_dry, z_f_found, z_a_c, z_a_there, z_a_kind, z_a_num, z_a_open, z_a_openAt, z_a_power, z_a_table) v w i k) (f_count, f_place, f_operators, f_values, f_fault, f_found, f_factored, f_pieces, f_kernel, a_kind, a_with, a_c, a_top, a_product, a_there, a_waiting, a_powers, a_matrix, a_basis) v w i k := by
  obtain ⟨n, kd, nm, pl, MX, MY, tk, x1, y1, pc, kx, ky, wx, wy, px, py, rx, ry, ca⟩ := I
  unfold wpX_factor
  refine x_facAt H rx px ca (fun c => br_t (by decide) ?_) (fun c nf => br_t (by decide) ?_) (fun s b x m g e M' c' tp pr pi ke pw mt bs fac c l hs hb ev ew hx nz fc hr lx fr ca' => br_t (by decide) ?_) (fun s b x m g e M' c' tp pr pi ke pw mt bs fac j ej hj m8 hs hb ev ew hx nz fc hr lx fr ca' => br_f (nI_pos (by omega)) ?_)
  · unfold wpY_factor
    refine y_facs H ry py (fun _ => br_t c ⟨rfl, rl_i tk x1 y1 pc kx ky wx wy px py rx ry ca⟩) (fun s b x m g e M2 c2 pw2 hs hb ev ew hx nz fc hr2 ly fy => br_t c ⟨rfl, rl_i tk x1 y1 pc kx ky wx wy px (pa_fr py (fun r _ h => fy r (by omega))) rx hr2 ca⟩)
  · obtain ⟨j, hj, rfl⟩ := nI_of c
    unfold wpY_factor
    refine y_facs H ry py (fun _ => br_f c (br_t (Int32.not_lt.mp (fun z => nlt_m1 hj z)) ⟨rfl, rl_i tk x1 y1 pc kx ky wx wy px py rx ry ca⟩)) (fun s b x m g e M2 c2 pw2 hs hb ev ew hx nz fc hr2 ly fy => absurd (nf s b x hs hb ev ew hx) nz)
  · subst ev ew
    unfold wpY_factor
    exact y_facs_y H ry py hs hb hx nz fc (fun M2 c2 pw2 hr2 ly fy => br_f c (br_t (Int32.not_lt.mp l) ⟨rfl, rl_i tk x1 y1 pc kx ky wx wy (pa_fr px (fun r _ h => fr r (by omega))) (pa_fr py (fun r _ h => fy r (by omega))) hr hr2 ca'⟩))
  · subst ev ew ej
    have yy : ∀ post : Int32 → SY → Prop, (∀ M2 c2 pw2, RY co c2 M2 → LY M2 pw2 m g e → FY MY M2 → ((k < 0 → post 0 (z_f_count, z_f_place, z_f_opens, z_f_top, z_f_fault, z_f_faultAt, z_f_dry, nI m, c2, z_a_there, z_a_kind, z_a_num, z_a_open, z_a_openAt, pw2, z_a_table)) ∧ (¬ k < 0 → ((k ≤ 8 → (vp_in ((20 * (72 + nI j)) + k) 1800 ∧ post (c2 ((20 * (72 + nI j)) + k).toNatClampNeg) (z_f_count, z_f_place, z_f_opens, z_f_top, z_f_fault, z_f_faultAt, z_f_dry, nI m, c2, z_a_there, z_a_kind, z_a_num, z_a_open, z_a_openAt, pw2, z_a_table))) ∧ (¬ k ≤ 8 → post 0 (z_f_count, z_f_place, z_f_opens, z_f_top, z_f_fault, z_f_faultAt, z_f_dry, nI m, c2, z_a_there, z_a_kind, z_a_num, z_a_open, z_a_openAt, pw2, z_a_table)))))) → wpY_factor post (z_f_count, z_f_place, z_f_opens, z_f_top, z_f_fault, z_f_faultAt, z_f_dry, z_f_found, z_a_c, z_a_there, z_a_kind, z_a_num, z_a_open, z_a_openAt, z_a_power, z_a_table) (nI s) (nI b) (nI j) k := fun post q => by
      unfold wpY_factor
      exact y_facs_y H ry py hs hb hx nz fc (fun M2 c2 pw2 hr2 ly fy => br_f (nI_pos (by omega)) (br_f (nI_ge hj (by omega)) (q M2 c2 pw2 hr2 ly fy)))
    have In : ∀ {M2 : Nat → Option R} {c2 pw2 : Nat → Int32}, RY co c2 M2 → FY MY M2 → Rl co (f_count, f_place, f_operators, f_values, f_fault, nI m, fac, pi, ke, a_kind, a_with, c', tp, pr, a_there, a_waiting, pw, mt, bs) (z_f_count, z_f_place, z_f_opens, z_f_top, z_f_fault, z_f_faultAt, z_f_dry, nI m, c2, z_a_there, z_a_kind, z_a_num, z_a_open, z_a_openAt, pw2, z_a_table) := fun hr2 fy => rl_i tk x1 y1 pc kx ky wx wy (pa_fr px (fun r _ h => fr r (by omega))) (pa_fr py (fun r _ h => fy r (by omega))) hr hr2 ca'
    rcases i_ix k 8 (by omega) with h | ⟨h, h'⟩ | ⟨t, ht, rfl⟩
    · exact br_t h (yy _ (fun M2 c2 pw2 hr2 ly fy => br_t h ⟨rfl, In hr2 fy⟩))
    · exact br_f h (br_f (Int32.not_le.mpr h') (yy _ (fun M2 c2 pw2 hr2 ly fy => br_f h (br_f (Int32.not_le.mpr h') ⟨rfl, In hr2 fy⟩))))
    · refine br_f (nI_pos (by omega)) (br_t (nI_le (b := 8) ht (by decide)) ⟨in24 (by omega) (by omega), ?_⟩)
      rw [cl24 (by omega) (by omega), (hr _ (by omega) _ (lx j hj).1).2.1 t (by omega)]
      refine yy _ (fun M2 c2 pw2 hr2 ly fy => br_f (nI_pos (by omega)) (br_t (nI_le (b := 8) ht (by decide)) ?_))
      rw [show 20 * (72 + nI j) + nI t = nI (20 * (72 + j) + t) from by rw [show (72 : Int32) = nI 72 from rfl, show (20 : Int32) = nI 20 from rfl, nI_add, pk_mul, nI_add]]
      refine ⟨vp_in_nI (by omega) (by omega), ?_, In hr2 fy⟩
      rw [nI_clamp (by omega)]
      exact (hr2 _ (by omega) _ (ly j hj).1).2 t (by omega)
end
end
section
/-! partial fractions -/
theorem dv_qo {R : Type} [Lean.Grind.CommRing R] {co : R → Nat → Fin 5} (H : PL co) {q d : R} (nd : d ≠ 0) (h : Dv d q) : q = qo co q d * d := by
  obtain ⟨t, ht⟩ := h
  have := qo_mul H (a := t) (b := d) nd
  rw [← ht] at this
  rw [this]; exact ht
theorem co_hi {R : Type} [Lean.Grind.CommRing R] {co : R → Nat → Fin 5} (H : PL co) {a : R} {k : Nat} (h : dl co a ≤ k) : co a k = 0 := Classical.byContradiction (fun z => absurd (dl_gt H z) (by omega))
theorem fa_hi {R : Type} [Lean.Grind.CommRing R] {co : R → Nat → Fin 5} (H : PL co) {p Q g c : R} {e j k : Nat} (ng : g ≠ 0) (h : Fa co p Q g e j c) (hk : dl co g ≤ k + 1) : co c k = 0 := by
  obtain ⟨N, E, h1, h2, rfl⟩ := h
  have := (qr_spec H E ng).2
  exact co_hi H (by omega)
theorem k_m1 {k : Nat} (h : k < 2 ^ 30) : ¬ nI k ≤ -1 := by
  rw [Int32.le_iff_toInt_le, nI_toInt (by omega), show (-1 : Int32).toInt = -1 from by decide]
  omega
theorem j_nn {j : Int32} (h : ¬ j < 1) : ¬ j < 0 := by
  rw [Int32.lt_iff_toInt_lt, show (1 : Int32).toInt = 1 from by decide] at h
  rw [Int32.lt_iff_toInt_lt, show (0 : Int32).toInt = 0 from by decide]
  omega
theorem i_m1 {i : Int32} (h : ¬ i < -1) (h0 : i < 0) : i = -1 := by
  rw [Int32.lt_iff_toInt_lt, show (-1 : Int32).toInt = -1 from by decide] at h
  rw [Int32.lt_iff_toInt_lt, show (0 : Int32).toInt = 0 from by decide] at h0
  apply Int32.toInt_inj.mp
  rw [show (-1 : Int32).toInt = -1 from by decide]
  omega
section
variable {f_count f_place f_operators f_values f_fault f_found f_factored f_pieces f_kernel : Int32} {a_kind a_with a_c a_top a_product a_there a_waiting a_powers a_matrix a_basis : Nat → Int32} {z_f_count z_f_place z_f_opens z_f_top z_f_fault z_f_faultAt z_f_dry z_f_found : Int32} {z_a_c z_a_there z_a_kind z_a_num z_a_open z_a_openAt z_a_power z_a_table : Nat → Int32}
theorem v_fraction {R : Type} [Lean.Grind.CommRing R] {co : R → Nat → Fin 5} (H : PL co) (I : Rl co (f_count, f_place, f_operators, f_values, f_fault, f_found, f_factored, f_pieces, f_kernel, a_kind, a_with, a_c, a_top, a_product, a_there, a_waiting, a_powers, a_matrix, a_basis) (z_f_count, z_f_place, z_f_opens, z_f_top, z_f_fault, z_f_faultAt, z_f_dry, z_f_found, z_a_c, z_a_there, z_a_kind, z_a_num, z_a_open, z_a_openAt, z_a_power, z_a_table)) (v i j k : Int32) : wpX_fraction (fun r u' => wpY_fraction (fun r' v' => r' = r ∧ Rl co u' v') (z_f_count, z_f_place, z_f_opens, z_f_top, z_f_fault, z_f_faultAt, z_f_dry, z_f_found, z_a_c, z_a_there, z_a_kind, z_a_num, z_a_open, z_a_openAt, z_a_power, z_a_table) v i j k) (f_count, f_place, f_operators, f_values, f_fault, f_found, f_factored, f_pieces, f_kernel, a_kind, a_with, a_c, a_top, a_product, a_there, a_waiting, a_powers, a_matrix, a_basis) v i j k := by
  obtain ⟨n, kd, nm, pl, MX, MY, tk, x1, y1, pc, kx, ky, wx, wy, px, py, rx, ry, ca⟩ := I
  unfold wpX_fraction
  refine x_empty px (fun em => br_f (by decide) ?_) (fun s x hs ev hx m1 m2 vx => br_t rfl ?_)
  · unfold wpY_fraction
    exact y_facs H ry py (fun _ => nm_e (br_t (by decide) ⟨rfl, rl_i tk x1 y1 pc kx ky wx wy px py rx ry ca⟩)) (fun s b x m g e M' c pw hs hb ev ew hx nz fc hr ly fy => by rw [em s hs ev] at hx; cases hx)
  · subst ev
    have nz : x.2 ≠ 0 := mo_ne H vx.2.1
    have q9 : dl co x.2 ≤ 9 := vx.2.2.2
    have p9 : dl co x.1 ≤ 9 := vx.2.2.1
    have ea : (53 : Int32) + 2 * nI s = nI (53 + 2 * s) := e52 53 s
    have bad : (k < 0 ∨ 8 < k ∨ i < -1) → wpY_fraction (fun r' v' => r' = 0 ∧ Rl co (f_count, f_place, f_operators, f_values, f_fault, f_found, f_factored, f_pieces, f_kernel, a_kind, a_with, a_c, a_top, a_product, a_there, a_waiting, a_powers, a_matrix, a_basis) v') (z_f_count, z_f_place, z_f_opens, z_f_top, z_f_fault, z_f_faultAt, z_f_dry, z_f_found, z_a_c, z_a_there, z_a_kind, z_a_num, z_a_open, z_a_openAt, z_a_power, z_a_table) (nI s) i j k := fun hb => by
      unfold wpY_fraction
      refine y_facs H ry py (fun nf => absurd (nf s 1 x hs (by omega) rfl rfl hx) nz) (fun s' b x' m g e M' c pw hs' hb' ev' ew' hx' nz' fc hr ly fy => nm_e (br_f (nI_pos ?_) ?_))
      · have := fc_cnt H nz' fc
        have := vv_9 (b := b) (pa_vv py hs' hx')
        omega
      · have I1 : Rl co (f_count, f_place, f_operators, f_values, f_fault, f_found, f_factored, f_pieces, f_kernel, a_kind, a_with, a_c, a_top, a_product, a_there, a_waiting, a_powers, a_matrix, a_basis) (z_f_count, z_f_place, z_f_opens, z_f_top, z_f_fault, z_f_faultAt, z_f_dry, nI m, c, z_a_there, z_a_kind, z_a_num, z_a_open, z_a_openAt, pw, z_a_table) := rl_i tk x1 y1 pc kx ky wx wy px (pa_fr py (fun r _ h => fy r (by omega))) rx hr ca
        refine br_c (fun _ => ⟨rfl, I1⟩) (fun h1 => br_c (fun _ => ⟨rfl, I1⟩) (fun h2 => br_c (fun _ => ⟨rfl, I1⟩) (fun h3 => ?_)))
        rcases hb with q | q | q
        · exact absurd q h1
        · exact absurd q h2
        · exact absurd q h3
    refine br_c (fun h => bad (Or.inl h)) (fun k1 => br_c (fun h => bad (Or.inr (Or.inl h))) (fun k2 => br_c (fun h => ?_) (fun h => bad (Or.inr (Or.inr (Int32.not_le.mp h))))))
    have k3 : ¬ i < -1 := Int32.not_lt.mpr h
    rcases i_ix k 8 (by omega) with q | ⟨_, q⟩ | ⟨t, ht, rfl⟩
    · exact absurd q k1
    · exact absurd q k2
    refine br_c (fun i0 => ?_) (fun i0 => ?_)
    · have ei := i_m1 k3 i0
      subst ei
      rw [e2m]
      refine x_copy H (a := 2 * s) (b := 40) rx (by omega) (by omega) m1 (fun c1 t1 rx1 => ?_)
      rw [show nI (2 * s) + 1 = nI (2 * s + 1) from nI_1 _]
      refine x_divide H (a := 40) (b := 2 * s + 1) (z := 41) rx1 (by omega) (by omega) (by omega) (by omega) (by omega) (by omega) uo_s (by rw [uo_n (by omega)]; exact m2) nz (fun c2 t2 rx2 => ?_)
      rw [show (984 : Int32) + nI t = nI (24 * 41 + t) from by rw [show (984 : Int32) = nI (24 * 41) from rfl, nI_add]]
      refine ⟨vp_in_nI (by omega) (by omega), ?_⟩
      rw [nI_clamp (by omega), (rx2 41 (by omega) _ uo_s).2.1 t (by omega)]
      unfold wpY_fraction
      refine y_facs H ry py (fun nf => absurd (nf s 1 x hs (by omega) rfl rfl hx) nz) (fun s' b x' m g e M' c pw hs' hb' ev' ew' hx' nz' fc hr ly fy => nm_r ea ?_)
      have e1 := nI_u (by omega) (by omega) ev'
      have e2 := nI_u (a := 1) (by omega) (by omega) ew'
      subst e1 e2
      rw [hx] at hx'; cases hx'
      have m8 := fc_cnt H nz fc
      refine br_f (nI_pos (by omega)) (br_f k1 (br_f k2 (br_f k3 (br_f (k_m1 (by omega)) (br_t i0 ?_)))))
      unfold wY_fraction_71
      rw [show nI (53 + 2 * s) - 1 = nI (52 + 2 * s) from by rw [show 53 + 2 * s = (52 + 2 * s) + 1 by omega]; exact nI_pred _]
      rcases py s hs with ⟨f1, f2⟩ | ⟨p', q', f1, f2, f3, f4, f5⟩
      · rw [hx] at f1; cases f1
      rw [hx] at f1; cases f1
      refine y_divide H (a := 52 + 2 * s) (b := 53 + 2 * s) (y := 82) (z := 83) hr (by omega) (by omega) (by omega) (by omega) (by omega) (by omega) (by omega) (by rw [fy _ (by omega)]; exact f3) (by rw [fy _ (by omega), show 53 + 2 * s = 52 + 2 * s + 1 by omega]; exact f4) nz (fun c3 ry3 => br_f (by decide) ?_)
      rw [show (1640 : Int32) + nI t = nI (20 * 82 + t) from by rw [show (1640 : Int32) = nI (20 * 82) from rfl, nI_add]]
      refine ⟨vp_in_nI (by omega) (by omega), ?_, rl_i tk x1 y1 pc kx ky wx wy (pa_fr px (fun r _ h => by rw [uo_n (by omega), uo_n (by omega), uo_n (by omega)])) (pa_fr py (fun r _ h => by rw [uo_n (by omega), uo_n (by omega)]; exact fy r (by omega))) rx2 ry3 (ca_fr ca (fun r hr => by rw [uo_n (by omega), uo_n (by omega), uo_n (by omega)]))⟩
      rw [nI_clamp (by omega), (ry3 82 (by omega) _ (by rw [uo_n (by omega)]; exact uo_s)).2 t (by omega)]
    · obtain ⟨i', hi', rfl⟩ := nI_of i0
      unfold wpX_fractionOf
      rw [show 2 * nI s + 1 = nI (2 * s + 1) from by rw [e2m]; exact nI_1 _]
      refine x_factorise H rx (by omega) m2 nz q9 ca (fun m g e M' c tp pr pi ke pw mt bs fac fc hr lx m75 fr => ?_)
      have ca' : Ca co M' pw (nI m) fac := Or.inr ⟨_, m, g, e, nz, q9, m75, fc, lx, rfl⟩
      have m8 := fc_cnt H nz fc
      have px' : PA co M' a_there 0 pl 7 := pa_fr px (fun r _ h => fr r (by omega))
      have yy : ∀ post : Int32 → SY → Prop, (∀ M2 c2 pw2, RY co c2 M2 → LY M2 pw2 m g e → FY MY M2 → ((nI m ≤ nI i' → post 0 (z_f_count, z_f_place, z_f_opens, z_f_top, z_f_fault, z_f_faultAt, z_f_dry, nI m, c2, z_a_there, z_a_kind, z_a_num, z_a_open, z_a_openAt, pw2, z_a_table)) ∧ (¬ nI m ≤ nI i' → ((j < 1 → post 0 (z_f_count, z_f_place, z_f_opens, z_f_top, z_f_fault, z_f_faultAt, z_f_dry, nI m, c2, z_a_there, z_a_kind, z_a_num, z_a_open, z_a_openAt, pw2, z_a_table)) ∧ (¬ j < 1 → (vp_in (nI i') 8 ∧ ((j ≤ pw2 (nI i').toNatClampNeg → wY_fraction_71 post (nI i') j (nI t) (nI m) (nI (53 + 2 * s)) (-1) 0 z_f_count z_f_place z_f_opens z_f_top z_f_fault z_f_faultAt z_f_dry (nI m) c2 z_a_there z_a_kind z_a_num z_a_open z_a_openAt pw2 z_a_table) ∧ (¬ j ≤ pw2 (nI i').toNatClampNeg → post 0 (z_f_count, z_f_place, z_f_opens, z_f_top, z_f_fault, z_f_faultAt, z_f_dry, nI m, c2, z_a_there, z_a_kind, z_a_num, z_a_open, z_a_openAt, pw2, z_a_table))))))))) → wpY_fraction post (z_f_count, z_f_place, z_f_opens, z_f_top, z_f_fault, z_f_faultAt, z_f_dry, z_f_found, z_a_c, z_a_there, z_a_kind, z_a_num, z_a_open, z_a_openAt, z_a_power, z_a_table) (nI s) (nI i') j (nI t) := fun post q => by
        unfold wpY_fraction
        refine y_facs_y H ry py hs (b := 1) (by omega) hx nz fc (fun M2 c2 pw2 hr2 ly fy => nm_r ea (br_f (nI_pos (by omega)) (br_f k1 (br_f k2 (br_f k3 ?_)))))
        have q' := q M2 c2 pw2 hr2 ly fy
        exact ⟨q'.1, fun z => br_f i0 (q'.2 z)⟩
      have In : ∀ {M2 : Nat → Option R} {c2 pw2 : Nat → Int32}, RY co c2 M2 → FY MY M2 → Rl co (f_count, f_place, f_operators, f_values, f_fault, nI m, fac, pi, ke, a_kind, a_with, c, tp, pr, a_there, a_waiting, pw, mt, bs) (z_f_count, z_f_place, z_f_opens, z_f_top, z_f_fault, z_f_faultAt, z_f_dry, nI m, c2, z_a_there, z_a_kind, z_a_num, z_a_open, z_a_openAt, pw2, z_a_table) := fun hr2 fy => rl_i tk x1 y1 pc kx ky wx wy px' (pa_fr py (fun r _ h => fy r (by omega))) hr hr2 ca'
      by_cases l : m ≤ i'
      · exact br_t (nI_le l hi') (yy _ (fun M2 c2 pw2 hr2 ly fy => br_t (nI_le l hi') ⟨rfl, In hr2 fy⟩))
      refine br_f (nI_ge (by omega) (by omega)) ?_
      by_cases j1 : j < 1
      · exact br_t j1 (yy _ (fun M2 c2 pw2 hr2 ly fy => br_f (nI_ge (by omega) (by omega)) (br_t j1 ⟨rfl, In hr2 fy⟩)))
      refine br_f j1 ⟨vp_in_nI (by omega) (by omega), ?_⟩
      rw [nI_clamp hi', (lx i' (by omega)).2]
      by_cases j2 : j ≤ nI (e i')
      case neg =>
        refine br_f j2 (yy _ (fun M2 c2 pw2 hr2 ly fy => br_f (nI_ge (by omega) (by omega)) (br_f j1 ⟨vp_in_nI (by omega) (by omega), ?_⟩)))
        rw [nI_clamp hi', (ly i' (by omega)).2]
        exact br_f j2 ⟨rfl, In hr2 fy⟩
      refine br_t j2 ?_
      obtain ⟨j', hj', rfl⟩ := nI_of (j_nn j1)
      have hi : i' < m := by omega
      have fe := fc_e H nz q9 fc hi
      have ej : 1 ≤ j' := Classical.byContradiction (fun z => j1 (by rw [show j' = 0 by omega]; decide))
      have ej2 : j' ≤ e i' := Classical.byContradiction (fun z => absurd j2 (nI_ge (by omega) hj'))
      have ng : ∀ a, a < m → g a ≠ 0 := fun a ha => ir_nz H (fc.1 a ha).1
      have hQ : ∀ a, a < m → x.2 = qo co x.2 (g a ^ e a) * g a ^ e a := fun a ha => dv_qo H (pow_nz H (ng a ha) _) (fc.1 a ha).2.2.2.1
      refine nm_r (e' := nI (60 + i')) (by rw [show (60 : Int32) = nI 60 from rfl, nI_add]) ?_
      refine x_only H (a := 40) (k := 0) (x := 1) hr (by omega) (by omega) (by decide) (fun c3 t3 rx3 => ⟨e i' + 1, ?_⟩)
      refine x_fro_51 H (M0 := M') (p := x.1) (q := x.2) (g := g i') (Q := qo co x.2 (g i' ^ e i')) hs (by omega) (by omega) fe.2.2.1 (lx i' hi).1 (lx i' hi).2 (by omega) ej ej2 (hQ i' hi) nz q9 p9 (by rw [fr _ (by omega)]; exact m1) (by rw [fr _ (by omega)]; exact m2) (pf_cp H fc (fun a => qo co x.2 (g a ^ e a)) hQ hi) (fun c' M4 c4 t4 pr4 fa rx4 fr4 => ?_) (e i') 0 (uo M' 40 (mo co 1 0)) c3 t3 pr (by omega) rx3 (by rw [uo_s, mo_1 H, Lean.Grind.Semiring.pow_zero]) (fun r hr => uo_n (by omega)) (e i' + 1) (by omega)
      have px4 : PA co M4 a_there 0 pl 7 := pa_fr px' (fun r _ h => fr4 r (by omega))
      have ca4 : Ca co M4 pw (nI m) fac := ca_fr ca' (fun r hr => fr4 r (by omega))
      refine yy _ (fun M2 c2 pw2 hr2 ly fy => br_f (nI_ge (by omega) (by omega)) (br_f j1 ⟨vp_in_nI (by omega) (by omega), ?_⟩))
      rw [nI_clamp hi', (ly i' (by omega)).2]
      refine br_t j2 ?_
      unfold wY_fraction_71
      rw [show nI (53 + 2 * s) - 1 = nI (52 + 2 * s) from by rw [show 53 + 2 * s = (52 + 2 * s) + 1 by omega]; exact nI_pred _]
      rcases py s hs with ⟨f1, f2⟩ | ⟨p', q', f1, f2, f3, f4, f5⟩
      · rw [hx] at f1; cases f1
      rw [hx] at f1; cases f1
      refine y_divide H (a := 52 + 2 * s) (b := 53 + 2 * s) (y := 82) (z := 83) hr2 (by omega) (by omega) (by omega) (by omega) (by omega) (by omega) (by omega) (by rw [fy _ (by omega)]; exact f3) (by rw [fy _ (by omega), show 53 + 2 * s = 52 + 2 * s + 1 by omega]; exact f4) nz (fun c5 ry5 => br_t (nI_pos' hi') ?_)
      rw [show (72 : Int32) + nI i' = nI (72 + i') from by rw [show (72 : Int32) = nI 72 from rfl, nI_add]]
      have py5 : PA co (uo (uo M2 82 (qo co p' q')) 83 (rm co p' q')) z_a_there 52 pl 7 := pa_fr py (fun r _ h => by rw [uo_n (by omega), uo_n (by omega)]; exact fy r (by omega))
      refine y_deg H ry5 (by omega) (by rw [uo_n (by omega), uo_n (by omega)]; exact (ly i' hi).1) ?_
      by_cases kt : t + 1 < dl co (g i')
      · refine br_t (Int32.not_le.mp (fun z => absurd ((ti_le (by omega) (by omega)).mp z) (by omega))) ⟨m + 1, ?_⟩
        refine y_fr_119 H (M0 := uo (uo M2 82 (qo co p' q')) 83 (rm co p' q')) (p := p') (q := q') (g := g) (Q := fun a => qo co q' (g a ^ e a)) (e := e) (r0 := 53 + 2 * s) nz vx.2.1 q9 fc rfl (pf_N H vx.2.1 fc) (by omega) (by rw [uo_n (by omega), uo_n (by omega), fy _ (by omega), show 53 + 2 * s = 52 + 2 * s + 1 by omega]; exact f4) uo_s (by omega) hQ (fun a ha => ⟨by rw [uo_n (by omega), uo_n (by omega)]; exact (ly a ha).1, (ly a ha).2⟩) hi ej ej2 (by omega) rfl (fun y M6 c6 tb6 hy ry6 fr6 => ?_) m 0 (-1) _ _ _ (by omega) ry5 (fun r _ _ _ => rfl) (fun r _ c hc => absurd hc (Nat.not_lt_zero c)) (fun q => absurd q (Nat.not_lt_zero i')) (m + 1) (by omega)
        refine ⟨congrArg cI (hy c' fa).symm, rl_i tk x1 y1 pc kx ky wx wy px4 (pa_fr py5 (fun r _ h => fr6 r (by omega) (by omega) (by omega))) rx4 ry6 ca4⟩
      · refine br_f (Int32.not_lt.mpr ((ti_le (by omega) (by omega)).mpr (by omega))) ⟨?_, rl_i tk x1 y1 pc kx ky wx wy px4 py5 rx4 ry5 ca4⟩
        rw [fa_hi H (ng i' hi) fa (by omega)]; rfl
end
end
section
/-! evaluate -/
theorem drn_le {R : Type} [Lean.Grind.CommRing R] {co : R → Nat → Fin 5} (kd : Nat → Nat) (b : Nat) : ∀ (st : List (Option Nat)) (vs : List (R × R)), (drn co kd b st vs).1 ≤ 4 := by
  intro st
  induction st with
  | nil => intro vs; exact Nat.zero_le _
  | cons s st ih =>
    intro vs
    by_cases h : b ≤ lev kd s
    · by_cases z : (ap1 co kd s vs).1 = 0
      · rw [drn_s1 h z]; exact ih _
      · rw [drn_s2 h z]
        show (ap1 co kd s vs).1 ≤ 4
        rcases ap1_c (co := co) kd s vs with q | q | q <;> omega
    · rw [drn_s3 h]; exact Nat.zero_le _
theorem egr_le {R : Type} [Lean.Grind.CommRing R] {co : R → Nat → Fin 5} (kd : Nat → Nat) (st : List (Option Nat)) (vs : List (R × R)) : (egr co kd st vs).1 ≤ 4 := by
  match st with
  | [] => exact Nat.zero_le _
  | s :: st =>
    by_cases h : lev kd s = 3
    · rw [egr_s h]
      show (ap1 co kd s vs).1 ≤ 4
      rcases ap1_c (co := co) kd s vs with q | q | q <;> omega
    · rw [egr_n h]; exact Nat.zero_le _
theorem atv_le {R : Type} [Lean.Grind.CommRing R] {co : R → Nat → Fin 5} (kd : Nat → Nat) (nm : Nat → Int32) (pl : Nat → Option (R × R)) (i : Nat) : (atv co kd nm pl i).1 ≤ 4 := by
  unfold atv
  split
  · exact Nat.zero_le _
  · split
    · exact Nat.zero_le _
    · split
      · exact Nat.zero_le _
      · exact (by decide : 2 ≤ 4)
theorem pw_le {R : Type} [Lean.Grind.CommRing R] {co : R → Nat → Fin 5} (n : Int32) (v : R × R) : (pw_ co n v).1 ≤ 4 := by
  unfold pw_ pwp pwn
  split
  · split
    · exact Nat.le_refl _
    · exact Nat.zero_le _
  · by_cases z : v.1 = 0
    · rw [cif_t z]; exact (by decide : 3 ≤ 4)
    · rw [cif_f z]
      split
      · exact Nat.le_refl _
      · exact Nat.zero_le _
theorem der_le {R : Type} [Lean.Grind.CommRing R] {co : R → Nat → Fin 5} (v : R × R) : (der co v).1 ≤ 4 := by
  unfold der
  rcases big_c (co := co) (rd2 co (de co v.1 * v.2 + mo co 4 0 * (v.1 * de co v.2)) (v.2 * v.2)) with q | q <;> omega
theorem run_le {R : Type} [Lean.Grind.CommRing R] {co : R → Nat → Fin 5} (kd : Nat → Nat) (nm : Nat → Int32) (pl : Nat → Option (R × R)) : ∀ d op st vs i, (run co kd nm pl d op st vs i).1 ≤ 4 := by
  intro d
  induction d with
  | zero =>
    intro op st vs i
    match op with
    | true =>
      rw [run]
      split
      · exact Nat.zero_le _
      · exact drn_le kd 1 st vs
    | false =>
      rw [run]
      split
      · exact Nat.zero_le _
      · exact drn_le kd 1 st vs
  | succ d ih =>
    intro op st vs i
    match op with
    | true =>
      rw [run]
      split
      · exact ih _ _ _ _
      · split
        · exact ih _ _ _ _
        · split
          · split
            · exact ih _ _ _ _
            · exact egr_le kd _ _
          · exact atv_le kd nm pl i
    | false =>
      rw [run]
      split
      · split
        · split
          · exact ih _ _ _ _
          · exact egr_le kd _ _
        · exact drn_le kd _ _ _
      · split
        · split
          · exact ih _ _ _ _
          · exact pw_le _ _
        · split
          · split
            · exact ih _ _ _ _
            · exact der_le _
          · split
            · exact ih _ _ _ _
            · exact drn_le kd _ _ _
theorem pa_6 {R : Type} [Lean.Grind.CommRing R] {co : R → Nat → Fin 5} {M M0 : Nat → Option R} {th : Nat → Int32} {b : Nat} {pl : Nat → Option (R × R)} {x : R × R} (h : PA co M0 th b pl 7) (fr : ∀ r, b ≤ r → r < b + 12 → M r = M0 r) (h1 : M (b + 12) = some x.1) (h2 : M (b + 13) = some x.2) (v : Vv co x) : PA co M (upd th 6 1) b (ap pl 6 (some x)) 7 := fun k hk => by
  by_cases e : k = 6
  · subst e
    rw [ap_e rfl, pk_us]
    exact Or.inr ⟨x.1, x.2, rfl, rfl, h1, h2, v⟩
  · rw [ap_n e, pk_un e]
    rcases h k hk with q | ⟨p, q, h1, h2, h3, h4, h5⟩
    · exact Or.inl q
    · exact Or.inr ⟨p, q, h1, h2, by rw [fr _ (by omega) (by omega)]; exact h3, by rw [fr _ (by omega) (by omega)]; exact h4, h5⟩
theorem pa_lt {R : Type} [Lean.Grind.CommRing R] {co : R → Nat → Fin 5} {M : Nat → Option R} {th : Nat → Int32} {b : Nat} {pl : Nat → Option (R × R)} (h : PA co M th b pl 7) : PA co M th b pl 6 := fun k hk => h k (by omega)
section
variable {f_count f_place f_operators f_values f_fault f_found f_factored f_pieces f_kernel : Int32} {a_kind a_with a_c a_top a_product a_there a_waiting a_powers a_matrix a_basis : Nat → Int32} {z_f_count z_f_place z_f_opens z_f_top z_f_fault z_f_faultAt z_f_dry z_f_found : Int32} {z_a_c z_a_there z_a_kind z_a_num z_a_open z_a_openAt z_a_power z_a_table : Nat → Int32}
theorem v_evaluate {R : Type} [Lean.Grind.CommRing R] {co : R → Nat → Fin 5} (H : PL co) (I : Rl co (f_count, f_place, f_operators, f_values, f_fault, f_found, f_factored, f_pieces, f_kernel, a_kind, a_with, a_c, a_top, a_product, a_there, a_waiting, a_powers, a_matrix, a_basis) (z_f_count, z_f_place, z_f_opens, z_f_top, z_f_fault, z_f_faultAt, z_f_dry, z_f_found, z_a_c, z_a_there, z_a_kind, z_a_num, z_a_open, z_a_openAt, z_a_power, z_a_table)) : wpX_evaluate (fun r u' => wpY_evaluate (fun r' v' => r' = r ∧ Rl co u' v') (z_f_count, z_f_place, z_f_opens, z_f_top, z_f_fault, z_f_faultAt, z_f_dry, z_f_found, z_a_c, z_a_there, z_a_kind, z_a_num, z_a_open, z_a_openAt, z_a_power, z_a_table)) (f_count, f_place, f_operators, f_values, f_fault, f_found, f_factored, f_pieces, f_kernel, a_kind, a_with, a_c, a_top, a_product, a_there, a_waiting, a_powers, a_matrix, a_basis) := by
  obtain ⟨n, kd, nm, pl, MX, MY, tk, x1, y1, pc, kx, ky, wx, wy, px, py, rx, ry, ca⟩ := I
  subst x1 y1
  have px0 : PA co MX (upd a_there 6 0) 0 (ap pl 6 none) 7 := pa_dn px
  have py0 : PA co MY (upd z_a_there 6 0) 52 (ap pl 6 none) 7 := pa_dn py
  have hpv : ∀ v x, v ≤ 5 → ap pl 6 none v = some x → Vv co x := fun v x hv e => pa_vv px0 (by omega) e
  have n24 := kx.1
  unfold wpX_evaluate
  refine nm_r (e' := upd a_there 6 0) (by rw [b_nar.1]) ?_
  refine x_wrong kx ?_
  match hw : wr kd n n true true 0 0 with
  | some j =>
    have hj := wr_b n true true 0 0 j (by omega) hw
    refine br_f (nI_pos (by omega)) ?_
    unfold wpY_evaluate
    refine nm_r (e' := upd z_a_there 6 0) (by rw [b_nar.1]) ?_
    unfold wpY_pass
    refine ⟨n + 1, y_pas_i (Or.inl (by decide)) ky n 0 true true 0 [] 0 _ _ (by omega) (fun q => by cases q) (fun s hs => by cases hs) trivial (Nat.le_refl _) rfl (fun h tp ao aa => ?_) (n + 1) (by omega)⟩
    rw [hw]
    exact br_f (nI_pos (by omega)) ⟨rfl, rl_i tk rfl rfl rfl kx ky wx wy px0 py0 rx ry ca⟩
  | none =>
    refine br_t (by decide) ⟨n + 2, ?_⟩
    have hR5 : (run co kd nm (ap pl 6 none) n true [] [] 0).1 < 100 := by
      have := run_le (co := co) kd nm (ap pl 6 none) n true [] [] 0
      omega
    have yy : ∀ post : Int32 → SY → Prop,
        ((run co kd nm (ap pl 6 none) n true [] [] 0).1 = 0 → ∀ M c n' pw h tp ao aa, RY co c M → M 64 = some (run co kd nm (ap pl 6 none) n true [] [] 0).2.2.1 → M 65 = some (run co kd nm (ap pl 6 none) n true [] [] 0).2.2.2 → (∀ r, 52 ≤ r → r < 64 → M r = MY r) → post 0 (nI n, -1, h, tp, 0, z_f_faultAt, 0, n', c, upd (upd z_a_there 6 0) 6 1, z_a_kind, z_a_num, ao, aa, pw, z_a_table)) →
        ((run co kd nm (ap pl 6 none) n true [] [] 0).1 ≠ 0 → ∀ M c n' pw h tp ao aa, RY co c M → FG MY M → post (nI (run co kd nm (ap pl 6 none) n true [] [] 0).1) (nI n, nI (run co kd nm (ap pl 6 none) n true [] [] 0).2.1, h, tp, nI (run co kd nm (ap pl 6 none) n true [] [] 0).1, nI (run co kd nm (ap pl 6 none) n true [] [] 0).2.1, 0, n', c, upd z_a_there 6 0, z_a_kind, z_a_num, ao, aa, pw, z_a_table)) → wpY_evaluate post (nI n, z_f_place, z_f_opens, z_f_top, z_f_fault, z_f_faultAt, z_f_dry, z_f_found, z_a_c, z_a_there, z_a_kind, z_a_num, z_a_open, z_a_openAt, z_a_power, z_a_table) := fun post k0 k1 => by
      unfold wpY_evaluate
      refine nm_r (e' := upd z_a_there 6 0) (by rw [b_nar.1]) ?_
      unfold wpY_pass
      refine ⟨n + 1, y_pas_i (Or.inl (by decide)) ky n 0 true true 0 [] 0 _ _ (by omega) (fun q => by cases q) (fun s hs => by cases hs) trivial (Nat.le_refl _) rfl (fun h tp ao aa => ?_) (n + 1) (by omega)⟩
      rw [hw]
      refine br_t (by decide) ⟨n + 1, ?_⟩
      refine y_16 H (M0 := MY) (Rz := run co kd nm (ap pl 6 none) n true [] [] 0) ky tk wy hpv (fun z x M c n' pw h tp ao aa ry' m0 m1 fg => ?_) (fun z x M c n' pw h tp ao aa ry' fg => ?_) hR5 n 0 true true 0 [] [] MY _ _ _ _ _ (by omega) (fun q => by cases q) hw rfl ry ⟨⟨ky, trivial, trivial, (fun s hs => by cases hs), (fun s hs => by cases hs), Nat.zero_le _, Nat.zero_le _⟩, rfl, rfl, Nat.le_refl _, Nat.le_refl _, pa_lt py0, (fun r _ _ => rfl)⟩ (n + 1) (by omega)
      · refine br_t rfl ?_
        refine y_copy H (a := 0) (b := 64) ry' (by omega) (by omega) m0 (fun c1 ry1 => ?_)
        refine y_copy H (a := 1) (b := 65) ry1 (by omega) (by omega) (by rw [uo_n (by omega)]; exact m1) (fun c2 ry2 => ?_)
        refine nm_r (e' := upd (upd z_a_there 6 0) 6 1) (by rw [b_nar.2]) ?_
        exact k0 z _ c2 _ _ _ _ _ _ ry2 (by rw [uo_n (by omega)]; exact uo_s) uo_s (fun r h1 h2 => by rw [uo_n (by omega), uo_n (by omega)]; exact fg r (by omega) (by omega))
      · exact br_f (nI_ne0 (by omega) (by omega)) (k1 z M c n' pw h tp ao aa ry' fg)
    refine x_44 H (M0 := MX) (Rz := run co kd nm (ap pl 6 none) n true [] [] 0) kx tk wx hpv (fun z vv M c t pr wt ops vals rx' m12 m13 fr => ?_) (fun z M c t pr wt ops vals rx' fe => ?_) hR5 n 0 true true 0 [] [] MX _ _ _ _ (by omega) (fun q => by cases q) hw (if_pos rfl).symm rx ⟨⟨kx, trivial, trivial, (fun s hs => by cases hs), (fun s hs => by cases hs), (fun s hs => by cases hs), Nat.zero_le _, Nat.zero_le _⟩, trivial, rfl, rfl, Nat.le_refl _, Nat.le_refl _, pa_lt px0, (fun r _ => rfl)⟩ (n + 2) (by omega)
    · refine yy _ (fun _ M2 c2 n' pw h tp ao aa ry2 m64 m65 fr2 => ⟨rfl, ?_⟩) (fun nz => absurd z nz)
      exact rl_i tk rfl rfl rfl kx ky wx wy (pa_6 px0 (fun r _ h => fr r (by omega)) m12 m13 vv) (pa_6 py0 (fun r h1 h2 => fr2 r h1 (by omega)) m64 m65 vv) rx' ry2 (ca_fr ca (fun r hr => fr r (by omega)))
    · refine yy _ (fun nz => absurd nz z) (fun _ M2 c2 n' pw h tp ao aa ry2 fg => ⟨rfl, ?_⟩)
      exact rl_i tk rfl rfl rfl kx ky wx wy (pa_fr px0 (fun r _ h => fe r (by omega))) (pa_fr py0 (fun r h1 h2 => fg r (by omega) (by omega))) rx' ry2 (ca_fr ca (fun r hr => fe r (by omega)))
end
end
section
/-! what is owed -/
def i_Rel (k : Nat) (u : SX) (v : SY) : Prop := @Rl Po po_ring po_co u v
theorem i_up {k : Nat} {u : SX} {v : SY} (h : i_Rel k u v) : i_Rel (k + 5) u v := h
theorem i_vc0 : wpX_init (fun u => wpY_init (fun v => i_Rel 0 u v)) := by
  letI : Lean.Grind.CommRing Po := po_ring
  show Rl po_co (0, (-1), 0, 0, 0, 0, (-1), 0, 0, (fun _ => 0), (fun _ => 0), (fun _ => 0), (fun _ => 0), (fun _ => 0), (fun _ => 0), (fun _ => 0), (fun _ => 0), (fun _ => 0), (fun _ => 0)) (0, (-1), 0, 0, 0, 0, 0, 0, (fun _ => 0), (fun _ => 0), (fun _ => 0), (fun _ => 0), (fun _ => 0), (fun _ => 0), (fun _ => 0), (fun _ => 0))
  exact rl_i (co := po_co) (n := 0) (kd := fun _ => 0) (nm := fun _ => 0) (pl := fun _ => none) (MX := fun _ => none) (MY := fun _ => none) (fun i hi => absurd hi (Nat.not_lt_zero i)) rfl rfl rfl ⟨Nat.zero_le _, (fun i hi => absurd hi (Nat.not_lt_zero i))⟩ ⟨Nat.zero_le _, (fun i hi => absurd hi (Nat.not_lt_zero i))⟩ (fun i hi => absurd hi (Nat.not_lt_zero i)) (fun i hi => absurd hi (Nat.not_lt_zero i)) (fun v _ => Or.inl ⟨rfl, rfl⟩) (fun v _ => Or.inl ⟨rfl, rfl⟩) (fun r _ p h => by cases h) (fun r _ p h => by cases h) (Or.inl rfl)
theorem i_vc_token {k : Nat} {u : SX} {v : SY} (I : i_Rel k u v) (hk : k + 5 ≤ 2560) (v1 : Int32) (v2 : Int32) : wpX_token (fun r u' => wpY_token (fun r' v' => r' = r ∧ i_Rel (k + 5) u' v') v v1 v2) u v1 v2 := by
  letI : Lean.Grind.CommRing Po := po_ring
  obtain ⟨f_count, f_place, f_operators, f_values, f_fault, f_found, f_factored, f_pieces, f_kernel, a_kind, a_with, a_c, a_top, a_product, a_there, a_waiting, a_powers, a_matrix, a_basis⟩ := u
  obtain ⟨z_f_count, z_f_place, z_f_opens, z_f_top, z_f_fault, z_f_faultAt, z_f_dry, z_f_found, z_a_c, z_a_there, z_a_kind, z_a_num, z_a_open, z_a_openAt, z_a_power, z_a_table⟩ := v
  exact v_token po_PL I v1 v2
theorem i_vc_wipe {k : Nat} {u : SX} {v : SY} (I : i_Rel k u v) (hk : k + 5 ≤ 2560) : wpX_wipe (fun r u' => wpY_wipe (fun r' v' => r' = r ∧ i_Rel (k + 5) u' v') v) u := by
  letI : Lean.Grind.CommRing Po := po_ring
  obtain ⟨f_count, f_place, f_operators, f_values, f_fault, f_found, f_factored, f_pieces, f_kernel, a_kind, a_with, a_c, a_top, a_product, a_there, a_waiting, a_powers, a_matrix, a_basis⟩ := u
  obtain ⟨z_f_count, z_f_place, z_f_opens, z_f_top, z_f_fault, z_f_faultAt, z_f_dry, z_f_found, z_a_c, z_a_there, z_a_kind, z_a_num, z_a_open, z_a_openAt, z_a_power, z_a_table⟩ := v
  exact v_wipe po_PL I
theorem i_vc_evaluate {k : Nat} {u : SX} {v : SY} (I : i_Rel k u v) (hk : k + 5 ≤ 2560) : wpX_evaluate (fun r u' => wpY_evaluate (fun r' v' => r' = r ∧ i_Rel (k + 5) u' v') v) u := by
  letI : Lean.Grind.CommRing Po := po_ring
  obtain ⟨f_count, f_place, f_operators, f_values, f_fault, f_found, f_factored, f_pieces, f_kernel, a_kind, a_with, a_c, a_top, a_product, a_there, a_waiting, a_powers, a_matrix, a_basis⟩ := u
  obtain ⟨z_f_count, z_f_place, z_f_opens, z_f_top, z_f_fault, z_f_faultAt, z_f_dry, z_f_found, z_a_c, z_a_there, z_a_kind, z_a_num, z_a_open, z_a_openAt, z_a_power, z_a_table⟩ := v
  exact v_evaluate po_PL I
theorem i_vc_place {k : Nat} {u : SX} {v : SY} (I : i_Rel k u v) (hk : k + 5 ≤ 2560) : wpX_place (fun r => wpY_place (fun r' => r' = r ∧ i_Rel (k + 5) u v) v) u := by
  letI : Lean.Grind.CommRing Po := po_ring
  obtain ⟨f_count, f_place, f_operators, f_values, f_fault, f_found, f_factored, f_pieces, f_kernel, a_kind, a_with, a_c, a_top, a_product, a_there, a_waiting, a_powers, a_matrix, a_basis⟩ := u
  obtain ⟨z_f_count, z_f_place, z_f_opens, z_f_top, z_f_fault, z_f_faultAt, z_f_dry, z_f_found, z_a_c, z_a_there, z_a_kind, z_a_num, z_a_open, z_a_openAt, z_a_power, z_a_table⟩ := v
  exact v_place po_PL I
theorem i_vc_store {k : Nat} {u : SX} {v : SY} (I : i_Rel k u v) (hk : k + 5 ≤ 2560) (v1 : Int32) : wpX_store (fun r u' => wpY_store (fun r' v' => r' = r ∧ i_Rel (k + 5) u' v') v v1) u v1 := by
  letI : Lean.Grind.CommRing Po := po_ring
  obtain ⟨f_count, f_place, f_operators, f_values, f_fault, f_found, f_factored, f_pieces, f_kernel, a_kind, a_with, a_c, a_top, a_product, a_there, a_waiting, a_powers, a_matrix, a_basis⟩ := u
  obtain ⟨z_f_count, z_f_place, z_f_opens, z_f_top, z_f_fault, z_f_faultAt, z_f_dry, z_f_found, z_a_c, z_a_there, z_a_kind, z_a_num, z_a_open, z_a_openAt, z_a_power, z_a_table⟩ := v
  exact v_store po_PL I v1
theorem i_vc_clear {k : Nat} {u : SX} {v : SY} (I : i_Rel k u v) (hk : k + 5 ≤ 2560) (v1 : Int32) : wpX_clear (fun r u' => wpY_clear (fun r' v' => r' = r ∧ i_Rel (k + 5) u' v') v v1) u v1 := by
  letI : Lean.Grind.CommRing Po := po_ring
  obtain ⟨f_count, f_place, f_operators, f_values, f_fault, f_found, f_factored, f_pieces, f_kernel, a_kind, a_with, a_c, a_top, a_product, a_there, a_waiting, a_powers, a_matrix, a_basis⟩ := u
  obtain ⟨z_f_count, z_f_place, z_f_opens, z_f_top, z_f_fault, z_f_faultAt, z_f_dry, z_f_found, z_a_c, z_a_there, z_a_kind, z_a_num, z_a_open, z_a_openAt, z_a_power, z_a_table⟩ := v
  exact v_clear po_PL I v1
theorem i_vc_degree {k : Nat} {u : SX} {v : SY} (I : i_Rel k u v) (hk : k + 5 ≤ 2560) (v1 : Int32) (v2 : Int32) : wpX_degree (fun r => wpY_degree (fun r' => r' = r ∧ i_Rel (k + 5) u v) v v1 v2) u v1 v2 := by
  letI : Lean.Grind.CommRing Po := po_ring
  obtain ⟨f_count, f_place, f_operators, f_values, f_fault, f_found, f_factored, f_pieces, f_kernel, a_kind, a_with, a_c, a_top, a_product, a_there, a_waiting, a_powers, a_matrix, a_basis⟩ := u
  obtain ⟨z_f_count, z_f_place, z_f_opens, z_f_top, z_f_fault, z_f_faultAt, z_f_dry, z_f_found, z_a_c, z_a_there, z_a_kind, z_a_num, z_a_open, z_a_openAt, z_a_power, z_a_table⟩ := v
  exact v_degree po_PL I v1 v2
theorem i_vc_number {k : Nat} {u : SX} {v : SY} (I : i_Rel k u v) (hk : k + 5 ≤ 2560) (v1 : Int32) (v2 : Int32) (v3 : Int32) : wpX_number (fun r => wpY_number (fun r' => r' = r ∧ i_Rel (k + 5) u v) v v1 v2 v3) u v1 v2 v3 := by
  letI : Lean.Grind.CommRing Po := po_ring
  obtain ⟨f_count, f_place, f_operators, f_values, f_fault, f_found, f_factored, f_pieces, f_kernel, a_kind, a_with, a_c, a_top, a_product, a_there, a_waiting, a_powers, a_matrix, a_basis⟩ := u
  obtain ⟨z_f_count, z_f_place, z_f_opens, z_f_top, z_f_fault, z_f_faultAt, z_f_dry, z_f_found, z_a_c, z_a_there, z_a_kind, z_a_num, z_a_open, z_a_openAt, z_a_power, z_a_table⟩ := v
  exact v_number po_PL I v1 v2 v3
theorem i_vc_value {k : Nat} {u : SX} {v : SY} (I : i_Rel k u v) (hk : k + 5 ≤ 2560) (v1 : Int32) (v2 : Int32) : wpX_value (fun r => wpY_value (fun r' => r' = r ∧ i_Rel (k + 5) u v) v v1 v2) u v1 v2 := by
  letI : Lean.Grind.CommRing Po := po_ring
  obtain ⟨f_count, f_place, f_operators, f_values, f_fault, f_found, f_factored, f_pieces, f_kernel, a_kind, a_with, a_c, a_top, a_product, a_there, a_waiting, a_powers, a_matrix, a_basis⟩ := u
  obtain ⟨z_f_count, z_f_place, z_f_opens, z_f_top, z_f_fault, z_f_faultAt, z_f_dry, z_f_found, z_a_c, z_a_there, z_a_kind, z_a_num, z_a_open, z_a_openAt, z_a_power, z_a_table⟩ := v
  exact v_value po_PL I v1 v2
theorem i_vc_factors {k : Nat} {u : SX} {v : SY} (I : i_Rel k u v) (hk : k + 5 ≤ 2560) (v1 : Int32) (v2 : Int32) : wpX_factors (fun r u' => wpY_factors (fun r' v' => r' = r ∧ i_Rel (k + 5) u' v') v v1 v2) u v1 v2 := by
  letI : Lean.Grind.CommRing Po := po_ring
  obtain ⟨f_count, f_place, f_operators, f_values, f_fault, f_found, f_factored, f_pieces, f_kernel, a_kind, a_with, a_c, a_top, a_product, a_there, a_waiting, a_powers, a_matrix, a_basis⟩ := u
  obtain ⟨z_f_count, z_f_place, z_f_opens, z_f_top, z_f_fault, z_f_faultAt, z_f_dry, z_f_found, z_a_c, z_a_there, z_a_kind, z_a_num, z_a_open, z_a_openAt, z_a_power, z_a_table⟩ := v
  exact v_factors po_PL I v1 v2
theorem i_vc_factorDegree {k : Nat} {u : SX} {v : SY} (I : i_Rel k u v) (hk : k + 5 ≤ 2560) (v1 : Int32) (v2 : Int32) (v3 : Int32) : wpX_factorDegree (fun r u' => wpY_factorDegree (fun r' v' => r' = r ∧ i_Rel (k + 5) u' v') v v1 v2 v3) u v1 v2 v3 := by
  letI : Lean.Grind.CommRing Po := po_ring
  obtain ⟨f_count, f_place, f_operators, f_values, f_fault, f_found, f_factored, f_pieces, f_kernel, a_kind, a_with, a_c, a_top, a_product, a_there, a_waiting, a_powers, a_matrix, a_basis⟩ := u
  obtain ⟨z_f_count, z_f_place, z_f_opens, z_f_top, z_f_fault, z_f_faultAt, z_f_dry, z_f_found, z_a_c, z_a_there, z_a_kind, z_a_num, z_a_open, z_a_openAt, z_a_power, z_a_table⟩ := v
  exact v_factorDegree po_PL I v1 v2 v3
theorem i_vc_factor {k : Nat} {u : SX} {v : SY} (I : i_Rel k u v) (hk : k + 5 ≤ 2560) (v1 : Int32) (v2 : Int32) (v3 : Int32) (v4 : Int32) : wpX_factor (fun r u' => wpY_factor (fun r' v' => r' = r ∧ i_Rel (k + 5) u' v') v v1 v2 v3 v4) u v1 v2 v3 v4 := by
  letI : Lean.Grind.CommRing Po := po_ring
  obtain ⟨f_count, f_place, f_operators, f_values, f_fault, f_found, f_factored, f_pieces, f_kernel, a_kind, a_with, a_c, a_top, a_product, a_there, a_waiting, a_powers, a_matrix, a_basis⟩ := u
  obtain ⟨z_f_count, z_f_place, z_f_opens, z_f_top, z_f_fault, z_f_faultAt, z_f_dry, z_f_found, z_a_c, z_a_there, z_a_kind, z_a_num, z_a_open, z_a_openAt, z_a_power, z_a_table⟩ := v
  exact v_factor po_PL I v1 v2 v3 v4
theorem i_vc_power {k : Nat} {u : SX} {v : SY} (I : i_Rel k u v) (hk : k + 5 ≤ 2560) (v1 : Int32) (v2 : Int32) (v3 : Int32) : wpX_power (fun r u' => wpY_power (fun r' v' => r' = r ∧ i_Rel (k + 5) u' v') v v1 v2 v3) u v1 v2 v3 := by
  letI : Lean.Grind.CommRing Po := po_ring
  obtain ⟨f_count, f_place, f_operators, f_values, f_fault, f_found, f_factored, f_pieces, f_kernel, a_kind, a_with, a_c, a_top, a_product, a_there, a_waiting, a_powers, a_matrix, a_basis⟩ := u
  obtain ⟨z_f_count, z_f_place, z_f_opens, z_f_top, z_f_fault, z_f_faultAt, z_f_dry, z_f_found, z_a_c, z_a_there, z_a_kind, z_a_num, z_a_open, z_a_openAt, z_a_power, z_a_table⟩ := v
  exact v_power po_PL I v1 v2 v3
theorem i_vc_fraction {k : Nat} {u : SX} {v : SY} (I : i_Rel k u v) (hk : k + 5 ≤ 2560) (v1 : Int32) (v2 : Int32) (v3 : Int32) (v4 : Int32) : wpX_fraction (fun r u' => wpY_fraction (fun r' v' => r' = r ∧ i_Rel (k + 5) u' v') v v1 v2 v3 v4) u v1 v2 v3 v4 := by
  letI : Lean.Grind.CommRing Po := po_ring
  obtain ⟨f_count, f_place, f_operators, f_values, f_fault, f_found, f_factored, f_pieces, f_kernel, a_kind, a_with, a_c, a_top, a_product, a_there, a_waiting, a_powers, a_matrix, a_basis⟩ := u
  obtain ⟨z_f_count, z_f_place, z_f_opens, z_f_top, z_f_fault, z_f_faultAt, z_f_dry, z_f_found, z_a_c, z_a_there, z_a_kind, z_a_num, z_a_open, z_a_openAt, z_a_power, z_a_table⟩ := v
  exact v_fraction po_PL I v1 v2 v3 v4
end
