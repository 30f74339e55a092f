section
/-! sums and power series over a commutative ring -/
def qs_sm {R : Type} [Lean.Grind.CommRing R] (f : Nat → R) : Nat → R
  | 0 => 0
  | n + 1 => qs_sm f n + f n
theorem qs_sm0 {R : Type} [Lean.Grind.CommRing R] (f : Nat → R) : qs_sm f 0 = 0 := rfl
theorem qs_sms {R : Type} [Lean.Grind.CommRing R] (f : Nat → R) (n : Nat) : qs_sm f (n + 1) = qs_sm f n + f n := rfl
theorem qs_congr {R : Type} [Lean.Grind.CommRing R] {f g : Nat → R} {n : Nat} (h : ∀ i, i < n → f i = g i) : qs_sm f n = qs_sm g n := by
  induction n with
  | zero => rfl
  | succ n ih => rw [qs_sms, qs_sms, ih (fun i hi => h i (by omega)), h n (by omega)]
theorem qs_zero {R : Type} [Lean.Grind.CommRing R] {f : Nat → R} {n : Nat} (h : ∀ i, i < n → f i = 0) : qs_sm f n = 0 := by
  induction n with
  | zero => rfl
  | succ n ih =>
    rw [qs_sms, ih (fun i hi => h i (by omega)), h n (by omega)]
    grobner
theorem qs_add {R : Type} [Lean.Grind.CommRing R] (f g : Nat → R) (n : Nat) : qs_sm (fun i => f i + g i) n = qs_sm f n + qs_sm g n := by
  induction n with
  | zero =>
    rw [qs_sm0, qs_sm0, qs_sm0]
    grobner
  | succ n ih =>
    rw [qs_sms, qs_sms, qs_sms, ih]
    grobner
theorem qs_sub {R : Type} [Lean.Grind.CommRing R] (f g : Nat → R) (n : Nat) : qs_sm (fun i => f i - g i) n = qs_sm f n - qs_sm g n := by
  induction n with
  | zero =>
    rw [qs_sm0, qs_sm0, qs_sm0]
    grobner
  | succ n ih =>
    rw [qs_sms, qs_sms, qs_sms, ih]
    grobner
theorem qs_mulL {R : Type} [Lean.Grind.CommRing R] (c : R) (f : Nat → R) (n : Nat) : qs_sm (fun i => c * f i) n = c * qs_sm f n := by
  induction n with
  | zero =>
    rw [qs_sm0, qs_sm0]
    grobner
  | succ n ih =>
    rw [qs_sms, qs_sms, ih]
    grobner
theorem qs_mulR {R : Type} [Lean.Grind.CommRing R] (c : R) (f : Nat → R) (n : Nat) : qs_sm (fun i => f i * c) n = qs_sm f n * c := by
  induction n with
  | zero =>
    rw [qs_sm0, qs_sm0]
    grobner
  | succ n ih =>
    rw [qs_sms, qs_sms, ih]
    grobner
theorem qs_split {R : Type} [Lean.Grind.CommRing R] (f : Nat → R) (m n : Nat) : qs_sm f (m + n) = qs_sm f m + qs_sm (fun i => f (m + i)) n := by
  induction n with
  | zero =>
    rw [qs_sm0, Nat.add_zero]
    grobner
  | succ n ih =>
    rw [qs_sms, ← Nat.add_assoc, qs_sms, ih]
    grobner
theorem qs_head {R : Type} [Lean.Grind.CommRing R] (f : Nat → R) (n : Nat) : qs_sm f (n + 1) = f 0 + qs_sm (fun i => f (i + 1)) n := by
  induction n with
  | zero =>
    rw [qs_sms, qs_sm0, qs_sm0]
    grobner
  | succ n ih =>
    rw [qs_sms, ih, qs_sms]
    grobner
theorem qs_rev {R : Type} [Lean.Grind.CommRing R] (f : Nat → R) (n : Nat) : qs_sm f n = qs_sm (fun i => f (n - 1 - i)) n := by
  induction n with
  | zero => rfl
  | succ n ih =>
    have e : qs_sm (fun i => f (n + 1 - 1 - (i + 1))) n = qs_sm (fun i => f (n - 1 - i)) n := by
      apply qs_congr
      intro i hi
      rw [show n + 1 - 1 - (i + 1) = n - 1 - i by omega]
    rw [qs_sms, ih, qs_head, e]
    show _ = f (n + 1 - 1 - 0) + _
    rw [show n + 1 - 1 - 0 = n by omega]
    grobner
theorem qs_swap {R : Type} [Lean.Grind.CommRing R] (F : Nat → Nat → R) (m n : Nat) : qs_sm (fun i => qs_sm (fun j => F i j) m) n = qs_sm (fun j => qs_sm (fun i => F i j) n) m := by
  induction n with
  | zero =>
    rw [qs_sm0]
    exact (qs_zero (fun i _ => rfl)).symm
  | succ n ih =>
    have e : qs_sm (fun j => qs_sm (fun i => F i j) (n + 1)) m = qs_sm (fun j => qs_sm (fun i => F i j) n + F n j) m := by
      apply qs_congr
      intro j hj
      rfl
    rw [qs_sms, ih, e, qs_add]
theorem qs_pick {R : Type} [Lean.Grind.CommRing R] {f : Nat → R} {n k : Nat} (hk : k < n) (h : ∀ i, i < n → i ≠ k → f i = 0) : qs_sm f n = f k := by
  induction n with
  | zero => omega
  | succ n ih =>
    rw [qs_sms]
    by_cases e : k = n
    · rw [qs_zero (fun i hi => h i (by omega) (by omega)), e]
      grobner
    · rw [ih (by omega) (fun i hi hn => h i (by omega) hn), h n (by omega) (fun z => e z.symm)]
      grobner
theorem qs_ext {R : Type} [Lean.Grind.CommRing R] {f : Nat → R} {m n : Nat} (hm : m ≤ n) (h : ∀ i, m ≤ i → i < n → f i = 0) : qs_sm f n = qs_sm f m := by
  obtain ⟨d, rfl⟩ := Nat.exists_eq_add_of_le hm
  rw [qs_split, qs_zero (f := fun i => f (m + i)) (fun i hi => h (m + i) (by omega) (by omega))]
  grobner
theorem qs_tri {R : Type} [Lean.Grind.CommRing R] (F : Nat → Nat → R) (N : Nat) : qs_sm (fun k => qs_sm (fun i => F i (k - i)) (k + 1)) N = qs_sm (fun i => qs_sm (fun j => F i j) (N - i)) N := by
  induction N with
  | zero => rfl
  | succ N ih =>
    have e : qs_sm (fun i => qs_sm (fun j => F i j) (N + 1 - i)) N = qs_sm (fun i => qs_sm (fun j => F i j) (N - i) + F i (N - i)) N := by
      apply qs_congr
      intro i hi
      rw [show N + 1 - i = (N - i) + 1 by omega, qs_sms]
    have e2 : qs_sm (fun j => F N j) (N + 1 - N) = F N (N - N) := by
      rw [show N + 1 - N = 0 + 1 by omega, qs_sms, qs_sm0, show N - N = 0 by omega]
      grobner
    rw [qs_sms, ih, qs_sms, qs_sms, e, qs_add, e2]
    grobner
/-- a natural number in the ring -/
def qs_nat {R : Type} [Lean.Grind.CommRing R] : Nat → R
  | 0 => 0
  | n + 1 => qs_nat n + 1
theorem qs_nats {R : Type} [Lean.Grind.CommRing R] (n : Nat) : (qs_nat (n + 1) : R) = qs_nat n + 1 := rfl
theorem qs_nat0 {R : Type} [Lean.Grind.CommRing R] : (qs_nat 0 : R) = 0 := rfl
theorem qs_nat1 {R : Type} [Lean.Grind.CommRing R] : (qs_nat 1 : R) = 1 := by
  rw [qs_nats, qs_nat0]
  grobner
theorem qs_nat2 {R : Type} [Lean.Grind.CommRing R] : (qs_nat 2 : R) = 2 := by
  rw [qs_nats, qs_nat1]
  grobner
theorem qs_natA {R : Type} [Lean.Grind.CommRing R] (a b : Nat) : (qs_nat (a + b) : R) = qs_nat a + qs_nat b := by
  induction b with
  | zero =>
    rw [qs_nat0, Nat.add_zero]
    grobner
  | succ b ih =>
    rw [← Nat.add_assoc, qs_nats, qs_nats, ih]
    grobner
/-- powers -/
def qs_pw {R : Type} [Lean.Grind.CommRing R] (x : R) : Nat → R
  | 0 => 1
  | n + 1 => qs_pw x n * x
theorem qs_pw0 {R : Type} [Lean.Grind.CommRing R] (x : R) : qs_pw x 0 = 1 := rfl
theorem qs_pws {R : Type} [Lean.Grind.CommRing R] (x : R) (n : Nat) : qs_pw x (n + 1) = qs_pw x n * x := rfl
theorem qs_pw1 {R : Type} [Lean.Grind.CommRing R] (x : R) : qs_pw x 1 = x := by
  rw [qs_pws, qs_pw0]
  grobner
theorem qs_pwA {R : Type} [Lean.Grind.CommRing R] (x : R) (a b : Nat) : qs_pw x (a + b) = qs_pw x a * qs_pw x b := by
  induction b with
  | zero =>
    rw [qs_pw0, Nat.add_zero]
    grobner
  | succ b ih =>
    rw [← Nat.add_assoc, qs_pws, qs_pws, ih]
    grobner
theorem qs_pwM {R : Type} [Lean.Grind.CommRing R] (x : R) (a b : Nat) : qs_pw x (a * b) = qs_pw (qs_pw x a) b := by
  induction b with
  | zero => rfl
  | succ b ih => rw [Nat.mul_succ, qs_pwA, qs_pws, ih]
theorem qs_pwX {R : Type} [Lean.Grind.CommRing R] (x y : R) (n : Nat) : qs_pw (x * y) n = qs_pw x n * qs_pw y n := by
  induction n with
  | zero =>
    rw [qs_pw0, qs_pw0, qs_pw0]
    grobner
  | succ n ih =>
    rw [qs_pws, qs_pws, qs_pws, ih]
    grobner
theorem qs_pwO {R : Type} [Lean.Grind.CommRing R] (n : Nat) : qs_pw (1 : R) n = 1 := by
  induction n with
  | zero => rfl
  | succ n ih =>
    rw [qs_pws, ih]
    grobner
/-- geometric sums -/
theorem qs_geo {R : Type} [Lean.Grind.CommRing R] (z : R) (n : Nat) : (z - 1) * qs_sm (fun k => qs_pw z k) n = qs_pw z n - 1 := by
  induction n with
  | zero =>
    rw [qs_sm0, qs_pw0]
    grobner
  | succ n ih =>
    rw [qs_sms, qs_pws]
    generalize qs_sm (fun k => qs_pw z k) n = s at ih
    generalize qs_pw z n = q at ih
    grobner
theorem qs_one {R : Type} [Lean.Grind.CommRing R] (n : Nat) : qs_sm (fun _ => (1 : R)) n = qs_nat n := by
  induction n with
  | zero => rfl
  | succ n ih => rw [qs_sms, ih, qs_nats]
end
section
/-! power series -/
def qp_mul {R : Type} [Lean.Grind.CommRing R] (f g : Nat → R) : Nat → R := fun n => qs_sm (fun i => f i * g (n - i)) (n + 1)
def qp_add {R : Type} [Lean.Grind.CommRing R] (f g : Nat → R) : Nat → R := fun n => f n + g n
def qp_sub {R : Type} [Lean.Grind.CommRing R] (f g : Nat → R) : Nat → R := fun n => f n - g n
def qp_neg {R : Type} [Lean.Grind.CommRing R] (f : Nat → R) : Nat → R := fun n => - f n
/-- a constant -/
def qp_c {R : Type} [Lean.Grind.CommRing R] (a : R) : Nat → R := fun n => if n = 0 then a else 0
/-- a power of the unknown -/
def qp_x {R : Type} [Lean.Grind.CommRing R] (k : Nat) : Nat → R := fun n => if n = k then 1 else 0
/-- the derivative -/
def qp_D {R : Type} [Lean.Grind.CommRing R] (f : Nat → R) : Nat → R := fun n => qs_nat (n + 1) * f (n + 1)
/-- equal below n -/
def qp_e {R : Type} (n : Nat) (f g : Nat → R) : Prop := ∀ i, i < n → f i = g i
def qp_pow {R : Type} [Lean.Grind.CommRing R] (f : Nat → R) : Nat → Nat → R
  | 0 => qp_c 1
  | n + 1 => qp_mul (qp_pow f n) f
theorem qp_comm {R : Type} [Lean.Grind.CommRing R] (f g : Nat → R) : qp_mul f g = qp_mul g f := by
  funext n
  show qs_sm (fun i => f i * g (n - i)) (n + 1) = qs_sm (fun i => g i * f (n - i)) (n + 1)
  rw [qs_rev]
  apply qs_congr
  intro i hi
  show f (n + 1 - 1 - i) * g (n - (n + 1 - 1 - i)) = g i * f (n - i)
  rw [show n + 1 - 1 - i = n - i by omega, show n - (n - i) = i by omega]
  grobner
theorem qp_assoc {R : Type} [Lean.Grind.CommRing R] (f g h : Nat → R) : qp_mul (qp_mul f g) h = qp_mul f (qp_mul g h) := by
  funext n
  show qs_sm (fun k => qs_sm (fun i => f i * g (k - i)) (k + 1) * h (n - k)) (n + 1) = qs_sm (fun i => f i * qs_sm (fun j => g j * h (n - i - j)) (n - i + 1)) (n + 1)
  have e1 : qs_sm (fun k => qs_sm (fun i => f i * g (k - i)) (k + 1) * h (n - k)) (n + 1) = qs_sm (fun k => qs_sm (fun i => (fun i j => f i * g j * h (n - (i + j))) i (k - i)) (k + 1)) (n + 1) := by
    apply qs_congr
    intro k hk
    rw [← qs_mulR]
    apply qs_congr
    intro i hi
    show _ = f i * g (k - i) * h (n - (i + (k - i)))
    rw [show i + (k - i) = k by omega]
  rw [e1, qs_tri (fun i j => f i * g j * h (n - (i + j)))]
  apply qs_congr
  intro i hi
  rw [← qs_mulL, show n - i + 1 = n + 1 - i by omega]
  apply qs_congr
  intro j hj
  show f i * g j * h (n - (i + j)) = f i * (g j * h (n - i - j))
  rw [show n - (i + j) = n - i - j by omega]
  grobner
theorem qp_addM {R : Type} [Lean.Grind.CommRing R] (f g h : Nat → R) : qp_mul f (qp_add g h) = qp_add (qp_mul f g) (qp_mul f h) := by
  funext n
  show qs_sm (fun i => f i * (g (n - i) + h (n - i))) (n + 1) = qs_sm (fun i => f i * g (n - i)) (n + 1) + qs_sm (fun i => f i * h (n - i)) (n + 1)
  rw [← qs_add]
  apply qs_congr
  intro i hi
  grobner
theorem qp_cmul {R : Type} [Lean.Grind.CommRing R] (a : R) (f : Nat → R) : qp_mul (qp_c a) f = fun n => a * f n := by
  funext n
  show qs_sm (fun i => (if i = 0 then a else 0) * f (n - i)) (n + 1) = a * f n
  rw [qs_pick (k := 0) (by omega)]
  · rfl
  · intro i hi h0
    show (if i = 0 then a else 0) * f (n - i) = 0
    rw [if_neg h0]
    grobner
theorem qp_xmul {R : Type} [Lean.Grind.CommRing R] (k : Nat) (f : Nat → R) : qp_mul (qp_x k) f = fun n => if n < k then 0 else f (n - k) := by
  funext n
  show qs_sm (fun i => (if i = k then (1 : R) else 0) * f (n - i)) (n + 1) = if n < k then 0 else f (n - k)
  by_cases h : n < k
  · rw [if_pos h]
    apply qs_zero
    intro i hi
    rw [if_neg (by omega)]
    grobner
  · rw [if_neg h, qs_pick (k := k) (by omega)]
    · show (if k = k then (1 : R) else 0) * f (n - k) = f (n - k)
      rw [if_pos rfl]
      grobner
    · intro i hi h0
      show (if i = k then (1 : R) else 0) * f (n - i) = 0
      rw [if_neg h0]
      grobner
theorem qp_cadd {R : Type} [Lean.Grind.CommRing R] (a b : R) : qp_c (a + b) = qp_add (qp_c a) (qp_c b) := by
  funext n
  show (if n = 0 then a + b else 0) = (if n = 0 then a else 0) + (if n = 0 then b else 0)
  by_cases h : n = 0
  · rw [if_pos h, if_pos h, if_pos h]
  · rw [if_neg h, if_neg h, if_neg h]
    grobner
theorem qp_cneg {R : Type} [Lean.Grind.CommRing R] (a : R) : qp_c (-a) = qp_neg (qp_c a) := by
  funext n
  show (if n = 0 then -a else 0) = -(if n = 0 then a else 0)
  by_cases h : n = 0
  · rw [if_pos h, if_pos h]
  · rw [if_neg h, if_neg h]
    grobner
theorem qp_c0 {R : Type} [Lean.Grind.CommRing R] (n : Nat) : (qp_c (0 : R)) n = 0 := by
  show (if n = 0 then (0 : R) else 0) = 0
  by_cases h : n = 0
  · rw [if_pos h]
  · rw [if_neg h]
theorem qp_one {R : Type} [Lean.Grind.CommRing R] (f : Nat → R) : qp_mul (qp_c 1) f = f := by
  rw [qp_cmul]
  funext n
  grobner
theorem qp_zeroM {R : Type} [Lean.Grind.CommRing R] (f : Nat → R) : qp_mul (qp_c 0) f = qp_c 0 := by
  rw [qp_cmul]
  funext n
  rw [qp_c0]
  grobner
theorem qp_negM {R : Type} [Lean.Grind.CommRing R] (f g : Nat → R) : qp_mul (qp_neg f) g = qp_neg (qp_mul f g) := by
  funext n
  show qs_sm (fun i => (- f i) * g (n - i)) (n + 1) = - qs_sm (fun i => f i * g (n - i)) (n + 1)
  have e : qs_sm (fun i => (- f i) * g (n - i)) (n + 1) = qs_sm (fun i => (-1) * (f i * g (n - i))) (n + 1) := by
    apply qs_congr
    intro i hi
    grobner
  rw [e, qs_mulL]
  grobner
/-- the ring of power series -/
def qp_ring (R : Type) [Lean.Grind.CommRing R] : Lean.Grind.CommRing (Nat → R) where
  add := qp_add
  mul := qp_mul
  natCast := ⟨fun n => qp_c (OfNat.ofNat n)⟩
  ofNat := fun n => ⟨qp_c (OfNat.ofNat n)⟩
  nsmul := ⟨fun n a => qp_mul (qp_c (OfNat.ofNat n)) a⟩
  npow := ⟨fun a n => qp_pow a n⟩
  neg := qp_neg
  sub := qp_sub
  intCast := ⟨fun i => qp_c (@IntCast.intCast R Lean.Grind.Ring.intCast i)⟩
  zsmul := ⟨fun i a => qp_mul (qp_c (@IntCast.intCast R Lean.Grind.Ring.intCast i)) a⟩
  add_zero := by
    intro a
    funext n
    show a n + qp_c (0 : R) n = a n
    rw [qp_c0]
    grobner
  add_comm := by
    intro a b
    funext n
    show a n + b n = b n + a n
    grobner
  add_assoc := by
    intro a b c
    funext n
    show a n + b n + c n = a n + (b n + c n)
    grobner
  mul_assoc := qp_assoc
  mul_comm := qp_comm
  mul_one := by
    intro a
    show qp_mul a (qp_c 1) = a
    rw [qp_comm, qp_one]
  one_mul := qp_one
  left_distrib := qp_addM
  right_distrib := by
    intro a b c
    show qp_mul (qp_add a b) c = qp_add (qp_mul a c) (qp_mul b c)
    rw [qp_comm, qp_addM, qp_comm c a, qp_comm c b]
  zero_mul := qp_zeroM
  mul_zero := by
    intro a
    show qp_mul a (qp_c 0) = qp_c 0
    rw [qp_comm, qp_zeroM]
  pow_zero := fun _ => rfl
  pow_succ := fun _ _ => rfl
  ofNat_succ := by
    intro n
    show qp_c (OfNat.ofNat (n + 1)) = qp_add (qp_c (OfNat.ofNat n)) (qp_c 1)
    rw [Lean.Grind.Semiring.ofNat_succ, qp_cadd]
  ofNat_eq_natCast := fun _ => rfl
  nsmul_eq_natCast_mul := fun _ _ => rfl
  neg_add_cancel := by
    intro a
    funext n
    show -a n + a n = qp_c (0 : R) n
    rw [qp_c0]
    grobner
  sub_eq_add_neg := by
    intro a b
    funext n
    show a n - b n = a n + -b n
    grobner
  neg_zsmul := by
    intro i a
    show qp_mul (qp_c (@IntCast.intCast R Lean.Grind.Ring.intCast (-i))) a = qp_neg (qp_mul (qp_c (@IntCast.intCast R Lean.Grind.Ring.intCast i)) a)
    rw [← qp_negM, ← qp_cneg]
    exact congrArg (fun z => qp_mul (qp_c z) a) (Lean.Grind.Ring.intCast_neg i)
  zsmul_natCast_eq_nsmul := by
    intro n a
    show qp_mul (qp_c (@IntCast.intCast R Lean.Grind.Ring.intCast (n : Int))) a = qp_mul (qp_c (OfNat.ofNat n)) a
    exact congrArg (fun z => qp_mul (qp_c z) a) (Lean.Grind.Ring.intCast_ofNat n)
  intCast_ofNat := by
    intro n
    exact congrArg qp_c (Lean.Grind.Ring.intCast_ofNat n)
  intCast_neg := by
    intro i
    show qp_c (@IntCast.intCast R Lean.Grind.Ring.intCast (-i)) = qp_neg (qp_c (@IntCast.intCast R Lean.Grind.Ring.intCast i))
    rw [← qp_cneg]
    exact congrArg qp_c (Lean.Grind.Ring.intCast_neg i)
/-! equal below n -/
theorem qp_e_refl {R : Type} (n : Nat) (f : Nat → R) : qp_e n f f := fun _ _ => rfl
theorem qp_e_symm {R : Type} {n : Nat} {f g : Nat → R} (h : qp_e n f g) : qp_e n g f := fun i hi => (h i hi).symm
theorem qp_e_trans {R : Type} {n : Nat} {f g k : Nat → R} (h : qp_e n f g) (h2 : qp_e n g k) : qp_e n f k := fun i hi => (h i hi).trans (h2 i hi)
theorem qp_e_mono {R : Type} {m n : Nat} {f g : Nat → R} (hm : m ≤ n) (h : qp_e n f g) : qp_e m f g := fun i hi => h i (by omega)
theorem qp_e_mul {R : Type} [Lean.Grind.CommRing R] {n : Nat} {f g f' g' : Nat → R} (h : qp_e n f f') (h2 : qp_e n g g') : qp_e n (qp_mul f g) (qp_mul f' g') := by
  intro i hi
  apply qs_congr
  intro j hj
  rw [h j (by omega), h2 (i - j) (by omega)]
theorem qp_e_add {R : Type} [Lean.Grind.CommRing R] {n : Nat} {f g f' g' : Nat → R} (h : qp_e n f f') (h2 : qp_e n g g') : qp_e n (qp_add f g) (qp_add f' g') := by
  intro i hi
  show f i + g i = f' i + g' i
  rw [h i hi, h2 i hi]
theorem qp_e_sub {R : Type} [Lean.Grind.CommRing R] {n : Nat} {f g f' g' : Nat → R} (h : qp_e n f f') (h2 : qp_e n g g') : qp_e n (qp_sub f g) (qp_sub f' g') := by
  intro i hi
  show f i - g i = f' i - g' i
  rw [h i hi, h2 i hi]
theorem qp_e_D {R : Type} [Lean.Grind.CommRing R] {n : Nat} {f f' : Nat → R} (h : qp_e (n + 1) f f') : qp_e n (qp_D f) (qp_D f') := by
  intro i hi
  show qs_nat (i + 1) * f (i + 1) = qs_nat (i + 1) * f' (i + 1)
  rw [h (i + 1) (by omega)]
theorem qp_e_ex {R : Type} [Lean.Grind.CommRing R] {n : Nat} {f g : Nat → R} (h : qp_e n f g) : ∃ c, f = qp_add g (qp_mul (qp_x n) c) := by
  refine ⟨fun i => f (i + n) - g (i + n), ?_⟩
  rw [qp_xmul]
  funext i
  show f i = g i + (if i < n then 0 else f (i - n + n) - g (i - n + n))
  by_cases hi : i < n
  · rw [if_pos hi, h i hi]
    grobner
  · rw [if_neg hi, show i - n + n = i by omega]
    grobner
theorem qp_e_of {R : Type} [Lean.Grind.CommRing R] {n : Nat} {f g c : Nat → R} (h : f = qp_add g (qp_mul (qp_x n) c)) : qp_e n f g := by
  intro i hi
  rw [h, qp_xmul]
  show g i + (if i < n then 0 else c (i - n)) = g i
  rw [if_pos hi]
  grobner
theorem qp_xx {R : Type} [Lean.Grind.CommRing R] (m n : Nat) : (qp_x (m + n) : Nat → R) = qp_mul (qp_x m) (qp_x n) := by
  rw [qp_xmul]
  funext i
  show (if i = m + n then (1 : R) else 0) = if i < m then 0 else (if i - m = n then 1 else 0)
  by_cases h : i < m
  · rw [if_pos h, if_neg (by omega)]
  · rw [if_neg h]
    by_cases h2 : i = m + n
    · rw [if_pos h2, if_pos (by omega)]
    · rw [if_neg h2, if_neg (by omega)]
/-- the rule of products -/
theorem qp_DM {R : Type} [Lean.Grind.CommRing R] (f g : Nat → R) : qp_D (qp_mul f g) = qp_add (qp_mul (qp_D f) g) (qp_mul f (qp_D g)) := by
  funext n
  show qs_nat (n + 1) * qs_sm (fun i => f i * g (n + 1 - i)) (n + 1 + 1) = qs_sm (fun i => (qs_nat (i + 1) * f (i + 1)) * g (n - i)) (n + 1) + qs_sm (fun i => f i * (qs_nat (n - i + 1) * g (n - i + 1))) (n + 1)
  have e : qs_nat (n + 1) * qs_sm (fun i => f i * g (n + 1 - i)) (n + 1 + 1) = qs_sm (fun i => (qs_nat i * f i) * g (n + 1 - i)) (n + 1 + 1) + qs_sm (fun i => f i * (qs_nat (n + 1 - i) * g (n + 1 - i))) (n + 1 + 1) := by
    rw [← qs_mulL, ← qs_add]
    apply qs_congr
    intro i hi
    have e2 : (qs_nat (n + 1) : R) = qs_nat i + qs_nat (n + 1 - i) := by
      rw [← qs_natA, show i + (n + 1 - i) = n + 1 by omega]
    rw [e2]
    grobner
  have e3 : qs_sm (fun i => (qs_nat i * f i) * g (n + 1 - i)) (n + 1 + 1) = qs_sm (fun i => (qs_nat (i + 1) * f (i + 1)) * g (n - i)) (n + 1) := by
    rw [qs_head]
    show (qs_nat 0 * f 0) * g (n + 1 - 0) + _ = _
    have e4 : qs_sm (fun i => (qs_nat (i + 1) * f (i + 1)) * g (n + 1 - (i + 1))) (n + 1) = qs_sm (fun i => (qs_nat (i + 1) * f (i + 1)) * g (n - i)) (n + 1) := by
      apply qs_congr
      intro i hi
      rw [show n + 1 - (i + 1) = n - i by omega]
    rw [e4, qs_nat0]
    grobner
  have e5 : qs_sm (fun i => f i * (qs_nat (n + 1 - i) * g (n + 1 - i))) (n + 1 + 1) = qs_sm (fun i => f i * (qs_nat (n - i + 1) * g (n - i + 1))) (n + 1) := by
    rw [qs_sms]
    show _ + f (n + 1) * (qs_nat (n + 1 - (n + 1)) * g (n + 1 - (n + 1))) = _
    have e6 : qs_sm (fun i => f i * (qs_nat (n + 1 - i) * g (n + 1 - i))) (n + 1) = qs_sm (fun i => f i * (qs_nat (n - i + 1) * g (n - i + 1))) (n + 1) := by
      apply qs_congr
      intro i hi
      rw [show n + 1 - i = n - i + 1 by omega]
    rw [e6, show n + 1 - (n + 1) = 0 by omega, qs_nat0]
    grobner
  rw [e, e3, e5]
theorem qp_Dadd {R : Type} [Lean.Grind.CommRing R] (f g : Nat → R) : qp_D (qp_add f g) = qp_add (qp_D f) (qp_D g) := by
  funext n
  show qs_nat (n + 1) * (f (n + 1) + g (n + 1)) = qs_nat (n + 1) * f (n + 1) + qs_nat (n + 1) * g (n + 1)
  grobner
theorem qp_Dsub {R : Type} [Lean.Grind.CommRing R] (f g : Nat → R) : qp_D (qp_sub f g) = qp_sub (qp_D f) (qp_D g) := by
  funext n
  show qs_nat (n + 1) * (f (n + 1) - g (n + 1)) = qs_nat (n + 1) * f (n + 1) - qs_nat (n + 1) * g (n + 1)
  grobner
theorem qp_Dc {R : Type} [Lean.Grind.CommRing R] (a : R) : qp_D (qp_c a) = qp_c 0 := by
  funext n
  rw [qp_c0]
  show qs_nat (n + 1) * (if n + 1 = 0 then a else 0) = 0
  rw [if_neg (by omega)]
  grobner
theorem qp_mul0 {R : Type} [Lean.Grind.CommRing R] (f g : Nat → R) : qp_mul f g 0 = f 0 * g 0 := by
  show qs_sm (fun i => f i * g (0 - i)) (0 + 1) = _
  rw [qs_sms, qs_sm0]
  show 0 + f 0 * g (0 - 0) = _
  rw [Nat.sub_zero]
  grobner
end
section
/-! what is right doubles -/
theorem qa_inv {A : Type} [Lean.Grind.CommRing A] (f t t' x z c a : A) (h1 : f * t = 1 + x * c) (h2 : t' = t * (2 - f * t) + ((x * x) * z) * a) : f * t' = 1 + (x * x) * (f * z * a - c * c) := by
  grobner
theorem qp_newton {R : Type} [Lean.Grind.CommRing R] {n : Nat} (hn : n + n ≤ 32) {f t t' : Nat → R} (h : qp_e n (qp_mul f t) (qp_c 1)) (h2 : qp_e 32 t' (qp_mul t (qp_sub (qp_c 2) (qp_mul f t)))) : qp_e (n + n) (qp_mul f t') (qp_c 1) := by
  obtain ⟨c, hc⟩ := qp_e_ex h
  obtain ⟨a, ha⟩ := qp_e_ex h2
  have e32 : (qp_x 32 : Nat → R) = qp_mul (qp_mul (qp_x n) (qp_x n)) (qp_x (32 - (n + n))) := by
    rw [← qp_xx, ← qp_xx, show n + n + (32 - (n + n)) = 32 by omega]
  rw [e32] at ha
  have k := @qa_inv _ (qp_ring R) f t t' (qp_x n) (qp_x (32 - (n + n))) c a hc ha
  refine qp_e_of (c := qp_sub (qp_mul (qp_mul f (qp_x (32 - (n + n)))) a) (qp_mul c c)) ?_
  rw [qp_xx]
  exact k
/-- a series whose first place is 1 may be cancelled -/
theorem qp_cancel {R : Type} [Lean.Grind.CommRing R] {n : Nat} {u w : Nat → R} (hu : u 0 = 1) (h : ∀ i, i < n → qp_mul u w i = 0) : ∀ i, i < n → w i = 0 := by
  intro i
  induction i using Nat.strongRecOn with
  | ind i ih =>
    intro hi
    have e := h i hi
    have e2 : qp_mul u w i = u 0 * w (i - 0) + qs_sm (fun j => u (j + 1) * w (i - (j + 1))) i := qs_head _ _
    rw [e2, hu, Nat.sub_zero, qs_zero] at e
    · grobner
    · intro j hj
      rw [ih (i - (j + 1)) (by omega) (by omega)]
      grobner
/-- l is the logarithm of f -/
def qp_log {R : Type} [Lean.Grind.CommRing R] (l f : Nat → R) : Prop := l 0 = 0 ∧ f 0 = 1 ∧ qp_e 31 (qp_mul f (qp_D l)) (qp_D f)
theorem qp_log_congr {R : Type} [Lean.Grind.CommRing R] {l l' f f' : Nat → R} (h : qp_log l f) (hl : qp_e 32 l' l) (hf : qp_e 32 f' f) : qp_log l' f' := by
  refine ⟨by rw [hl 0 (by omega)]; exact h.1, by rw [hf 0 (by omega)]; exact h.2.1, ?_⟩
  exact qp_e_trans (qp_e_mul (qp_e_mono (by omega) hf) (qp_e_D hl)) (qp_e_trans h.2.2 (qp_e_symm (qp_e_D hf)))
theorem qa_dis {A : Type} [Lean.Grind.CommRing A] (f a b : A) : f * (a - b) = f * a - f * b := by
  grobner
theorem qa_log {A : Type} [Lean.Grind.CommRing A] (f d g : A) : f * (d * g) = d * (f * g) := by
  grobner
theorem qp_logOf {R : Type} [Lean.Grind.CommRing R] {f g l o d : Nat → R} (hf : f 0 = 1) (hg : qp_e 32 (qp_mul f g) (qp_c 1)) (hd : qp_e 31 d (qp_D f)) (ho : qp_e 32 o (qp_mul d g)) (hl : l 0 = 0) (hl2 : ∀ i, i < 31 → qs_nat (i + 1) * l (i + 1) = o i) : qp_log l f := by
  refine ⟨hl, hf, ?_⟩
  have h1 : qp_e 31 (qp_D l) (qp_mul (qp_D f) g) := by
    refine qp_e_trans (fun i hi => hl2 i hi) ?_
    exact qp_e_trans (qp_e_mono (by omega) ho) (qp_e_mul hd (qp_e_refl _ _))
  have h2 : qp_mul f (qp_mul (qp_D f) g) = qp_mul (qp_D f) (qp_mul f g) := @qa_log _ (qp_ring R) f (qp_D f) g
  have h3 : qp_e 31 (qp_mul (qp_D f) (qp_mul f g)) (qp_mul (qp_D f) (qp_c 1)) := qp_e_mul (qp_e_refl _ _) (qp_e_mono (by omega) hg)
  have h4 := qp_e_mul (qp_e_refl 31 f) h1
  rw [h2] at h4
  have h5 := qp_e_trans h4 h3
  rw [qp_comm (qp_D f) (qp_c 1), qp_one] at h5
  exact h5
/-- numbers from 1 to 31 may be cancelled -/
def qp_nz (R : Type) [Lean.Grind.CommRing R] : Prop := ∀ i : Nat, 0 < i → i < 32 → ∀ a : R, qs_nat i * a = 0 → a = 0
theorem qp_sumup {R : Type} [Lean.Grind.CommRing R] (hz : qp_nz R) {m : Nat} (hm : m ≤ 31) {f : Nat → R} (h0 : f 0 = 0) (h : ∀ i, i < m → qp_D f i = 0) : ∀ i, i < m + 1 → f i = 0 := by
  intro i hi
  cases i with
  | zero => exact h0
  | succ i => exact hz (i + 1) (by omega) (by omega) _ (h i (by omega))
theorem qp_logUni {R : Type} [Lean.Grind.CommRing R] (hz : qp_nz R) {l l' f : Nat → R} (h : qp_log l f) (h' : qp_log l' f) : qp_e 32 l l' := by
  have e : ∀ i, i < 31 → qp_mul f (qp_D (qp_sub l l')) i = 0 := by
    intro i hi
    have e1 : qp_mul f (qp_sub (qp_D l) (qp_D l')) = qp_sub (qp_mul f (qp_D l)) (qp_mul f (qp_D l')) := @qa_dis _ (qp_ring R) f (qp_D l) (qp_D l')
    rw [qp_Dsub, e1]
    show qp_mul f (qp_D l) i - qp_mul f (qp_D l') i = 0
    rw [h.2.2 i hi, h'.2.2 i hi]
    grobner
  have e2 := qp_sumup hz (Nat.le_refl 31) (f := qp_sub l l') (by
    show l 0 - l' 0 = 0
    rw [h.1, h'.1]
    grobner) (qp_cancel h.2.1 e)
  intro i hi
  have e3 : l i - l' i = 0 := e2 i hi
  grobner
theorem qp_expUni {R : Type} [Lean.Grind.CommRing R] (hz : qp_nz R) {l f f' : Nat → R} (h : qp_log l f) (h' : qp_log l f') : qp_e 32 f f' := by
  intro i
  induction i using Nat.strongRecOn with
  | ind i ih =>
    intro hi
    cases i with
    | zero => rw [h.2.1, h'.2.1]
    | succ i =>
      have e1 : qs_nat (i + 1) * f (i + 1) = qp_mul f (qp_D l) i := (h.2.2 i (by omega)).symm
      have e2 : qs_nat (i + 1) * f' (i + 1) = qp_mul f' (qp_D l) i := (h'.2.2 i (by omega)).symm
      have e3 : qp_mul f (qp_D l) i = qp_mul f' (qp_D l) i := by
        apply qs_congr
        intro j hj
        rw [ih j (by omega) (by omega)]
      have e4 := hz (i + 1) (by omega) hi (f (i + 1) - f' (i + 1)) (by
        rw [e3] at e1
        generalize qp_mul f' (qp_D l) i = q at e1 e2
        grobner)
      grobner
theorem qa_exp {A : Type} [Lean.Grind.CommRing A] (E s' l' dl dl' DE x1 x0 z c d a : A) (h1 : E * l' = DE + ((x1 * x0) * z) * a) (h2 : dl = 0 + x1 * c) (h3 : dl' = 0 + x0 * d) (h4 : dl' = s' - l') : (E * (dl + 1)) * s' = (DE * (dl + 1) + E * (dl' + 0)) + (x1 * x0) * (E * c * d + z * a * (dl + 1)) := by
  grobner
theorem qp_expStep {R : Type} [Lean.Grind.CommRing R] (hz : qp_nz R) {m : Nat} (hm : m + 1 + m ≤ 31) {s l E E' : Nat → R} (hs : s 0 = 0) (hE0 : E 0 = 1) (hE : qp_e m (qp_mul E (qp_D s)) (qp_D E)) (hl : qp_log l E) (hE' : qp_e 32 E' (qp_mul E (qp_add (qp_sub s l) (qp_c 1)))) : E' 0 = 1 ∧ qp_e (m + 1 + m) (qp_mul E' (qp_D s)) (qp_D E') := by
  have d0 : ∀ i, i < m → qp_mul E (qp_D (qp_sub s l)) i = 0 := by
    intro i hi
    have e1 : qp_mul E (qp_sub (qp_D s) (qp_D l)) = qp_sub (qp_mul E (qp_D s)) (qp_mul E (qp_D l)) := @qa_dis _ (qp_ring R) E (qp_D s) (qp_D l)
    rw [qp_Dsub, e1]
    show qp_mul E (qp_D s) i - qp_mul E (qp_D l) i = 0
    rw [hE i hi, hl.2.2 i (by omega)]
    grobner
  have d1 := qp_cancel hE0 d0
  have d2 := qp_sumup hz (m := m) (by omega) (f := qp_sub s l) (by
    show s 0 - l 0 = 0
    rw [hs, hl.1]
    grobner) d1
  obtain ⟨c, hc⟩ := qp_e_ex (n := m + 1) (f := qp_sub s l) (g := qp_c 0) (fun i hi => by rw [d2 i hi, qp_c0])
  obtain ⟨d, hd⟩ := qp_e_ex (n := m) (f := qp_D (qp_sub s l)) (g := qp_c 0) (fun i hi => by rw [d1 i hi, qp_c0])
  obtain ⟨a, ha⟩ := qp_e_ex hl.2.2
  have e31 : (qp_x 31 : Nat → R) = qp_mul (qp_mul (qp_x (m + 1)) (qp_x m)) (qp_x (31 - (m + 1 + m))) := by
    rw [← qp_xx, ← qp_xx, show m + 1 + m + (31 - (m + 1 + m)) = 31 by omega]
  rw [e31] at ha
  have k := @qa_exp _ (qp_ring R) E (qp_D s) (qp_D l) (qp_sub s l) (qp_D (qp_sub s l)) (qp_D E) (qp_x (m + 1)) (qp_x m) (qp_x (31 - (m + 1 + m))) c d a ha hc hd (qp_Dsub s l)
  constructor
  · rw [hE' 0 (by omega), qp_mul0, hE0]
    show 1 * ((s 0 - l 0) + (if 0 = 0 then 1 else 0)) = 1
    rw [hs, hl.1, if_pos rfl]
    grobner
  · have e1 : qp_e (m + 1 + m) (qp_mul E' (qp_D s)) (qp_mul (qp_mul E (qp_add (qp_sub s l) (qp_c 1))) (qp_D s)) := qp_e_mul (qp_e_mono (by omega) hE') (qp_e_refl _ _)
    have e2 : qp_e (m + 1 + m) (qp_mul (qp_mul E (qp_add (qp_sub s l) (qp_c 1))) (qp_D s)) (qp_D (qp_mul E (qp_add (qp_sub s l) (qp_c 1)))) := by
      refine qp_e_of (c := qp_add (qp_mul (qp_mul E c) d) (qp_mul (qp_mul (qp_x (31 - (m + 1 + m))) a) (qp_add (qp_sub s l) (qp_c 1)))) ?_
      rw [qp_xx, qp_DM, qp_Dadd, qp_Dc]
      exact k
    have e3 : qp_e (m + 1 + m) (qp_D (qp_mul E (qp_add (qp_sub s l) (qp_c 1)))) (qp_D E') := qp_e_D (qp_e_mono (by omega) (qp_e_symm hE'))
    exact qp_e_trans e1 (qp_e_trans e2 e3)
theorem qa_root1 {A : Type} [Lean.Grind.CommRing A] (r s t y a : A) (h2 : r * t = 1 + y * a) : (r + s * t) * (r + s * t) = 4 * s + (r - s * t) * (r - s * t) + 4 * s * y * a := by
  grobner
theorem qa_root2 {A : Type} [Lean.Grind.CommRing A] (r s t x y c a : A) (h1 : r * r = s + x * c) (h2 : r * t = 1 + y * a) : r - s * t = x * c * t - r * y * a := by
  grobner
theorem qa_root3 {A : Type} [Lean.Grind.CommRing A] (r s t x z c a q : A) (hq : q = c * t - r * x * z * a) (h1 : r - s * t = x * q) (h2 : (r + s * t) * (r + s * t) = 4 * s + (r - s * t) * (r - s * t) + 4 * s * ((x * x) * z) * a) : (r + s * t) * (r + s * t) = 4 * s + (x * x) * (q * q + 4 * s * z * a) := by
  rw [h2, h1]
  grobner
theorem qa_root4 {A : Type} [Lean.Grind.CommRing A] (r' h w s x z b q : A) (hh : 2 * h = 1) (hw : w * w = 4 * s + (x * x) * q) (hr' : r' = h * w + ((x * x) * z) * b) : r' * r' = s + (x * x) * (h * h * q + z * w * b + z * ((x * x) * z) * b * b) := by
  have e : 4 * (h * h) = 1 := by grobner
  have e2 : r' * r' = (h * h) * (w * w) + (2 * h) * w * (((x * x) * z) * b) + (((x * x) * z) * b) * (((x * x) * z) * b) := by
    rw [hr']
    grobner
  rw [e2, hw, hh]
  grobner
theorem qa_root {A : Type} [Lean.Grind.CommRing A] (r r' s t h x z c a b : A) (hh : 2 * h = 1) (h1 : r * r = s + x * c) (h2 : r * t = 1 + ((x * x) * z) * a) (h3 : r' = h * (r + s * t) + ((x * x) * z) * b) : ∃ W, r' * r' = s + (x * x) * W := by
  have e1 := qa_root1 r s t ((x * x) * z) a h2
  have e2 := qa_root2 r s t x ((x * x) * z) c a h1 h2
  have e3 := qa_root3 r s t x z c a (c * t - r * x * z * a) rfl (by rw [e2]; grobner) e1
  exact ⟨_, qa_root4 r' h (r + s * t) s x z b _ hh e3 h3⟩
theorem qp_rootStep {R : Type} [Lean.Grind.CommRing R] {n : Nat} (h0 : 0 < n) (hn : n + n ≤ 32) {r r' s t : Nat → R} {h : R} (hh : 2 * h = 1) (hr0 : r 0 = 1) (hs0 : s 0 = 1) (hr : qp_e n (qp_mul r r) s) (ht : qp_e 32 (qp_mul r t) (qp_c 1)) (hr' : ∀ i, i < 32 → r' i = (r i + qp_mul s t i) * h) : r' 0 = 1 ∧ qp_e (n + n) (qp_mul r' r') s := by
  constructor
  · have e := ht 0 (by omega)
    rw [qp_mul0, hr0] at e
    have e' : t 0 = 1 := by
      have e2 : (qp_c (1 : R)) 0 = 1 := rfl
      rw [e2] at e
      grobner
    rw [hr' 0 (by omega), qp_mul0, hr0, hs0, e']
    grobner
  · have hr2 : qp_e 32 r' (qp_mul (qp_c h) (qp_add r (qp_mul s t))) := by
      intro i hi
      rw [qp_cmul, hr' i hi]
      show (r i + qp_mul s t i) * h = h * (r i + qp_mul s t i)
      grobner
    obtain ⟨c, hc⟩ := qp_e_ex hr
    obtain ⟨a, ha⟩ := qp_e_ex ht
    obtain ⟨b, hb⟩ := qp_e_ex hr2
    have e32 : (qp_x 32 : Nat → R) = qp_mul (qp_mul (qp_x n) (qp_x n)) (qp_x (32 - (n + n))) := by
      rw [← qp_xx, ← qp_xx, show n + n + (32 - (n + n)) = 32 by omega]
    rw [e32] at ha hb
    have hh2 : qp_mul (qp_c 2) (qp_c h) = qp_c (1 : R) := by
      rw [qp_cmul]
      funext i
      show 2 * (if i = 0 then h else 0) = if i = 0 then 1 else 0
      by_cases hi : i = 0
      · rw [if_pos hi, if_pos hi, hh]
      · rw [if_neg hi, if_neg hi]
        grobner
    obtain ⟨W, hW⟩ := @qa_root _ (qp_ring R) r r' s t (qp_c h) (qp_x n) (qp_x (32 - (n + n))) c a b hh2 hc ha hb
    refine qp_e_of (c := W) ?_
    rw [qp_xx]
    exact hW
theorem qa_inv2 {A : Type} [Lean.Grind.CommRing A] (f g k : A) : k * (f * g) = f * (g * k) := by
  grobner
/-- the inverse of the inverse -/
theorem qp_inv2 {R : Type} [Lean.Grind.CommRing R] {f g k : Nat → R} (h : qp_e 32 (qp_mul f g) (qp_c 1)) (h2 : qp_e 32 (qp_mul g k) (qp_c 1)) : qp_e 32 k f := by
  have e1 : qp_mul k (qp_mul f g) = qp_mul f (qp_mul g k) := @qa_inv2 _ (qp_ring R) f g k
  have e2 := qp_e_mul (qp_e_refl 32 k) h
  have e3 := qp_e_mul (qp_e_refl 32 f) h2
  rw [e1] at e2
  have e4 := qp_e_trans (qp_e_symm e2) e3
  rw [qp_comm k, qp_one, qp_comm f, qp_one] at e4
  exact e4
end
section
/-! values of polynomials -/
def qe_val {R : Type} [Lean.Grind.CommRing R] (f : Nat → R) (x : R) (n : Nat) : R := qs_sm (fun i => f i * qs_pw x i) n
theorem qe_congr {R : Type} [Lean.Grind.CommRing R] {f g : Nat → R} {n : Nat} (h : qp_e n f g) (x : R) : qe_val f x n = qe_val g x n := by
  apply qs_congr
  intro i hi
  rw [h i hi]
theorem qe_mul {R : Type} [Lean.Grind.CommRing R] {N : Nat} {f g : Nat → R} (hz : ∀ i j, i < N → j < N → N ≤ i + j → f i * g j = 0) (x : R) : qe_val (qp_mul f g) x N = qe_val f x N * qe_val g x N := by
  have e1 : qe_val (qp_mul f g) x N = qs_sm (fun k => qs_sm (fun i => (fun i j => (f i * qs_pw x i) * (g j * qs_pw x j)) i (k - i)) (k + 1)) N := by
    apply qs_congr
    intro k hk
    show qs_sm (fun i => f i * g (k - i)) (k + 1) * qs_pw x k = _
    rw [← qs_mulR]
    apply qs_congr
    intro i hi
    show f i * g (k - i) * qs_pw x k = (f i * qs_pw x i) * (g (k - i) * qs_pw x (k - i))
    have e : qs_pw x k = qs_pw x i * qs_pw x (k - i) := by
      rw [← qs_pwA, show i + (k - i) = k by omega]
    rw [e]
    grobner
  rw [e1, qs_tri (fun i j => (f i * qs_pw x i) * (g j * qs_pw x j))]
  show _ = qs_sm (fun i => f i * qs_pw x i) N * qe_val g x N
  rw [← qs_mulR]
  apply qs_congr
  intro i hi
  show _ = f i * qs_pw x i * qs_sm (fun j => g j * qs_pw x j) N
  rw [← qs_mulL]
  symm
  apply qs_ext (by omega)
  intro j h1 h2
  have e := hz i j hi h2 (by omega)
  show f i * qs_pw x i * (g j * qs_pw x j) = 0
  generalize qs_pw x i = p
  generalize qs_pw x j = q
  grobner
/-- what stands after the places from i on -/
def qe_h {R : Type} [Lean.Grind.CommRing R] (f : Nat → R) (x : R) (i : Nat) : R := qs_sm (fun j => f (i + j) * qs_pw x j) (32 - i)
theorem qe_h32 {R : Type} [Lean.Grind.CommRing R] (f : Nat → R) (x : R) : qe_h f x 32 = 0 := rfl
theorem qe_hs {R : Type} [Lean.Grind.CommRing R] (f : Nat → R) (x : R) {i : Nat} (hi : i < 32) : qe_h f x (i + 1) * x + f i = qe_h f x i := by
  show qs_sm (fun j => f (i + 1 + j) * qs_pw x j) (32 - (i + 1)) * x + f i = qs_sm (fun j => f (i + j) * qs_pw x j) (32 - i)
  rw [show 32 - i = (32 - (i + 1)) + 1 by omega, qs_head, ← qs_mulR]
  have e : qs_sm (fun j => f (i + 1 + j) * qs_pw x j * x) (32 - (i + 1)) = qs_sm (fun j => f (i + (j + 1)) * qs_pw x (j + 1)) (32 - (i + 1)) := by
    apply qs_congr
    intro j hj
    rw [qs_pws, show i + 1 + j = i + (j + 1) by omega]
    grobner
  rw [e]
  show _ = f (i + 0) * qs_pw x 0 + _
  rw [qs_pw0, Nat.add_zero]
  grobner
theorem qe_h0 {R : Type} [Lean.Grind.CommRing R] (f : Nat → R) (x : R) : qe_h f x 0 = qe_val f x 32 := by
  show qs_sm (fun j => f (0 + j) * qs_pw x j) (32 - 0) = _
  apply qs_congr
  intro i hi
  rw [Nat.zero_add]
theorem qe_at0 {R : Type} [Lean.Grind.CommRing R] (f : Nat → R) : qe_val f 0 32 = f 0 := by
  show qs_sm (fun i => f i * qs_pw 0 i) 32 = f 0
  rw [qs_pick (k := 0) (by omega)]
  · show f 0 * qs_pw 0 0 = f 0
    rw [qs_pw0]
    grobner
  · intro i hi h0
    obtain ⟨j, rfl⟩ := Nat.exists_eq_succ_of_ne_zero h0
    show f (j + 1) * qs_pw 0 (j + 1) = 0
    rw [qs_pws]
    grobner
theorem qe_at1 {R : Type} [Lean.Grind.CommRing R] (f : Nat → R) : qe_val f 1 32 = qs_sm f 32 := by
  apply qs_congr
  intro i hi
  rw [qs_pwO]
  grobner
/-! shifts -/
theorem qe_binom {R : Type} [Lean.Grind.CommRing R] {fac ifac : Nat → R} (h0 : fac 0 = 1) (h0' : ifac 0 = 1) (hf : ∀ i, i < 31 → fac (i + 1) = fac i * qs_nat (i + 1)) (hi : ∀ i, i < 31 → qs_nat (i + 1) * ifac (i + 1) = ifac i) (x y : R) : ∀ m, m < 32 → fac m * qp_mul (fun i => qs_pw x i * ifac i) (fun i => qs_pw y i * ifac i) m = qs_pw (x + y) m := by
  have hD : ∀ z : R, qp_e 31 (qp_D (fun i => qs_pw z i * ifac i)) (qp_mul (qp_c z) (fun i => qs_pw z i * ifac i)) := by
    intro z i hi'
    rw [qp_cmul]
    show qs_nat (i + 1) * (qs_pw z (i + 1) * ifac (i + 1)) = z * (qs_pw z i * ifac i)
    rw [← hi i hi', qs_pws]
    grobner
  have hP : qp_e 31 (qp_D (qp_mul (fun i => qs_pw x i * ifac i) (fun i => qs_pw y i * ifac i))) (fun i => (x + y) * qp_mul (fun i => qs_pw x i * ifac i) (fun i => qs_pw y i * ifac i) i) := by
    rw [qp_DM]
    refine qp_e_trans (qp_e_add (qp_e_mul (hD x) (qp_e_refl _ _)) (qp_e_mul (qp_e_refl _ _) (hD y))) ?_
    rw [qp_assoc, qp_comm (fun i => qs_pw x i * ifac i) (qp_mul (qp_c y) (fun i => qs_pw y i * ifac i)), qp_assoc, qp_cmul, qp_cmul, qp_comm (fun i => qs_pw y i * ifac i)]
    intro i hi'
    show x * qp_mul (fun i => qs_pw x i * ifac i) (fun i => qs_pw y i * ifac i) i + y * qp_mul (fun i => qs_pw x i * ifac i) (fun i => qs_pw y i * ifac i) i = (x + y) * qp_mul (fun i => qs_pw x i * ifac i) (fun i => qs_pw y i * ifac i) i
    grobner
  intro m
  induction m with
  | zero =>
    intro _
    rw [qp_mul0, h0, qs_pw0]
    show 1 * (qs_pw x 0 * ifac 0 * (qs_pw y 0 * ifac 0)) = 1
    rw [h0', qs_pw0, qs_pw0]
    grobner
  | succ m ih =>
    intro hm
    have e1 := ih (by omega)
    have e2 : qs_nat (m + 1) * qp_mul (fun i => qs_pw x i * ifac i) (fun i => qs_pw y i * ifac i) (m + 1) = (x + y) * qp_mul (fun i => qs_pw x i * ifac i) (fun i => qs_pw y i * ifac i) m := hP m (by omega)
    rw [qs_pws, ← e1, hf m (by omega)]
    generalize qp_mul (fun i => qs_pw x i * ifac i) (fun i => qs_pw y i * ifac i) (m + 1) = u at e2
    generalize qp_mul (fun i => qs_pw x i * ifac i) (fun i => qs_pw y i * ifac i) m = v at e2
    grobner
theorem qe_shift {R : Type} [Lean.Grind.CommRing R] {fac ifac : Nat → R} (h0 : fac 0 = 1) (h0' : ifac 0 = 1) (hf : ∀ i, i < 31 → fac (i + 1) = fac i * qs_nat (i + 1)) (hi : ∀ i, i < 31 → qs_nat (i + 1) * ifac (i + 1) = ifac i) {s one two o s' : Nat → R} {x : R} (y : R) (h1 : ∀ i, i < 32 → one (31 - i) = s i * fac i) (h2 : ∀ i, i < 32 → two i = qs_pw x i * ifac i) (ho : qp_e 32 o (qp_mul one two)) (hs' : ∀ i, i < 32 → s' i = o (31 - i) * ifac i) : qe_val s' y 32 = qe_val s (y + x) 32 := by
  have e1 : qe_val s' y 32 = qs_sm (fun i => qs_sm (fun j => (fun i k => s (i + k) * (fac (i + k) * ((qs_pw y i * ifac i) * (qs_pw x k * ifac k)))) i j) (32 - i)) 32 := by
    apply qs_congr
    intro i hi'
    have e2 : qp_mul one two (31 - i) = qs_sm (fun k => (s (i + k) * fac (i + k)) * (qs_pw x k * ifac k)) (32 - i) := by
      show qs_sm (fun k => one k * two (31 - i - k)) (31 - i + 1) = _
      rw [qs_rev, show 31 - i + 1 = 32 - i by omega]
      apply qs_congr
      intro k hk
      show one (32 - i - 1 - k) * two (31 - i - (32 - i - 1 - k)) = _
      rw [show 32 - i - 1 - k = 31 - (i + k) by omega, h1 (i + k) (by omega), show 31 - i - (31 - (i + k)) = k by omega, h2 k (by omega)]
    show s' i * qs_pw y i = _
    rw [hs' i hi', ho (31 - i) (by omega), e2, ← qs_mulR, ← qs_mulR]
    apply qs_congr
    intro k hk
    show s (i + k) * fac (i + k) * (qs_pw x k * ifac k) * ifac i * qs_pw y i = s (i + k) * (fac (i + k) * ((qs_pw y i * ifac i) * (qs_pw x k * ifac k)))
    grobner
  rw [e1, ← qs_tri (fun i k => s (i + k) * (fac (i + k) * ((qs_pw y i * ifac i) * (qs_pw x k * ifac k))))]
  apply qs_congr
  intro m hm
  rw [← qe_binom h0 h0' hf hi y x m hm]
  show _ = s m * (fac m * qs_sm (fun i => (qs_pw y i * ifac i) * (qs_pw x (m - i) * ifac (m - i))) (m + 1))
  rw [← qs_mulL, ← qs_mulL]
  apply qs_congr
  intro i hi'
  show s (i + (m - i)) * (fac (i + (m - i)) * ((qs_pw y i * ifac i) * (qs_pw x (m - i) * ifac (m - i)))) = _
  rw [show i + (m - i) = m by omega]
/-! sums and differences for a bit -/
def qe_st {R : Type} [Lean.Grind.CommRing R] (k : Nat) (v : Nat → R) : Nat → R := fun i => if i / 2 ^ k % 2 = 0 then v i + v (i + 2 ^ k) else v (i - 2 ^ k) - v i
theorem qe_stA {R : Type} [Lean.Grind.CommRing R] {k : Nat} {v w : Nat → R} (h : ∀ q, v (2 ^ k * q) = qs_sm (fun j => w (2 ^ k * q + j)) (2 ^ k)) : ∀ q, qe_st k v (2 ^ (k + 1) * q) = qs_sm (fun j => w (2 ^ (k + 1) * q + j)) (2 ^ (k + 1)) := by
  intro q
  have p : 0 < 2 ^ k := Nat.two_pow_pos k
  have e0 : 2 ^ (k + 1) * q = 2 ^ k * (2 * q) := by rw [Nat.pow_succ, Nat.mul_assoc]
  have e1 : 2 ^ (k + 1) * q / 2 ^ k % 2 = 0 := by
    rw [e0, Nat.mul_div_cancel_left _ p]
    omega
  have e2 : 2 ^ (k + 1) * q + 2 ^ k = 2 ^ k * (2 * q + 1) := by rw [e0, Nat.mul_add, Nat.mul_one]
  show (if 2 ^ (k + 1) * q / 2 ^ k % 2 = 0 then v (2 ^ (k + 1) * q) + v (2 ^ (k + 1) * q + 2 ^ k) else _) = _
  rw [if_pos e1, e2, e0, h, h]
  have e3 : 2 ^ (k + 1) = 2 ^ k + 2 ^ k := by rw [Nat.pow_succ]; omega
  rw [e3, qs_split]
  congr 1
  apply qs_congr
  intro j hj
  rw [Nat.mul_add, Nat.mul_one]
  show w (2 ^ k * (2 * q) + 2 ^ k + j) = w (2 ^ k * (2 * q) + (2 ^ k + j))
  rw [Nat.add_assoc]
theorem qe_stB {R : Type} [Lean.Grind.CommRing R] (k : Nat) (v : Nat → R) : qs_sm (qe_st k v) (2 ^ (k + 1)) = 2 * qs_sm v (2 ^ k) := by
  have p : 0 < 2 ^ k := Nat.two_pow_pos k
  have e3 : 2 ^ (k + 1) = 2 ^ k + 2 ^ k := by rw [Nat.pow_succ]; omega
  have e1 : qs_sm (qe_st k v) (2 ^ k) = qs_sm (fun i => v i + v (i + 2 ^ k)) (2 ^ k) := by
    apply qs_congr
    intro i hi
    show (if i / 2 ^ k % 2 = 0 then v i + v (i + 2 ^ k) else _) = _
    rw [if_pos (by rw [Nat.div_eq_of_lt hi])]
  have e2 : qs_sm (fun i => qe_st k v (2 ^ k + i)) (2 ^ k) = qs_sm (fun i => v i - v (i + 2 ^ k)) (2 ^ k) := by
    apply qs_congr
    intro i hi
    show (if (2 ^ k + i) / 2 ^ k % 2 = 0 then _ else v (2 ^ k + i - 2 ^ k) - v (2 ^ k + i)) = _
    rw [if_neg (by rw [Nat.add_div_left i p, Nat.div_eq_of_lt hi]; omega), Nat.add_sub_cancel_left, Nat.add_comm]
  rw [e3, qs_split, e1, e2, qs_add, qs_sub]
  grobner
def qe_H {R : Type} [Lean.Grind.CommRing R] (v : Nat → R) : Nat → R := qe_st 4 (qe_st 3 (qe_st 2 (qe_st 1 (qe_st 0 v))))
theorem qe_HA {R : Type} [Lean.Grind.CommRing R] (v : Nat → R) : qe_H v 0 = qs_sm v 32 := by
  have a0 : ∀ q, v (2 ^ 0 * q) = qs_sm (fun j => v (2 ^ 0 * q + j)) (2 ^ 0) := by
    intro q
    show v (2 ^ 0 * q) = 0 + v (2 ^ 0 * q + 0)
    rw [Nat.add_zero]
    grobner
  have a5 := qe_stA (qe_stA (qe_stA (qe_stA (qe_stA a0)))) 0
  have e : qs_sm (fun j => v (2 ^ (0 + 1 + 1 + 1 + 1 + 1) * 0 + j)) (2 ^ (0 + 1 + 1 + 1 + 1 + 1)) = qs_sm v 32 := by
    show qs_sm (fun j => v (2 ^ (0 + 1 + 1 + 1 + 1 + 1) * 0 + j)) 32 = _
    apply qs_congr
    intro i hi
    rw [Nat.mul_zero, Nat.zero_add]
  rw [e] at a5
  exact a5
theorem qe_HB {R : Type} [Lean.Grind.CommRing R] (v : Nat → R) : qs_sm (qe_H v) 32 = 32 * v 0 := by
  have b4 : qs_sm (qe_H v) 32 = 2 * qs_sm (qe_st 3 (qe_st 2 (qe_st 1 (qe_st 0 v)))) 16 := qe_stB 4 _
  have b3 : qs_sm (qe_st 3 (qe_st 2 (qe_st 1 (qe_st 0 v)))) 16 = 2 * qs_sm (qe_st 2 (qe_st 1 (qe_st 0 v))) 8 := qe_stB 3 _
  have b2 : qs_sm (qe_st 2 (qe_st 1 (qe_st 0 v))) 8 = 2 * qs_sm (qe_st 1 (qe_st 0 v)) 4 := qe_stB 2 _
  have b1 : qs_sm (qe_st 1 (qe_st 0 v)) 4 = 2 * qs_sm (qe_st 0 v) 2 := qe_stB 1 _
  have b0 : qs_sm (qe_st 0 v) 2 = 2 * qs_sm v 1 := qe_stB 0 _
  have c : qs_sm v 1 = v 0 := by
    rw [qs_sms, qs_sm0]
    grobner
  rw [b4, b3, b2, b1, b0, c]
  grobner
/-! division -/
theorem qe_revmul {R : Type} [Lean.Grind.CommRing R] {n m i : Nat} (hmn : m ≤ n) (hi : m ≤ i) (hin : i ≤ n) {g q Q one : Nat → R} (hg : ∀ j, m < j → j ≤ n → g j = 0) (hq : ∀ j, j ≤ n → q j = if j ≤ n - m then Q (n - m - j) else 0) (h1 : ∀ j, j ≤ n → one j = if j ≤ m then g (m - j) else 0) : qp_mul q g i = qp_mul Q one (n - i) := by
  have e1 : qp_mul q g i = qs_sm (fun j => if j ≤ i then Q (n - m - j) * g (i - j) else 0) (n - m + 1) := by
    have a : qp_mul q g i = qs_sm (fun j => if j ≤ i then (if j ≤ n - m then Q (n - m - j) * g (i - j) else 0) else 0) (i + 1 + n) := by
      symm
      rw [qs_ext (m := i + 1) (by omega)]
      · apply qs_congr
        intro j hj
        rw [if_pos (by omega), hq j (by omega)]
        by_cases h : j ≤ n - m
        · rw [if_pos h, if_pos h]
        · rw [if_neg h, if_neg h]
          grobner
      · intro j h2 h3
        rw [if_neg (by omega)]
    rw [a, qs_ext (m := n - m + 1) (by omega)]
    · apply qs_congr
      intro j hj
      by_cases h : j ≤ i
      · rw [if_pos h, if_pos h, if_pos (by omega)]
      · rw [if_neg h, if_neg h]
    · intro j h2 h3
      by_cases h : j ≤ i
      · rw [if_pos h, if_neg (by omega)]
      · rw [if_neg h]
  have e2 : qp_mul Q one (n - i) = qs_sm (fun a => if a ≤ n - i ∧ n - i - a ≤ m then Q a * g (m - (n - i - a)) else 0) (n - m + 1) := by
    symm
    rw [qs_ext (m := n - i + 1) (by omega)]
    · apply qs_congr
      intro a ha
      rw [h1 (n - i - a) (by omega)]
      by_cases h : n - i - a ≤ m
      · rw [if_pos ⟨by omega, h⟩, if_pos h]
      · rw [if_neg (fun z => h z.2), if_neg h]
        grobner
    · intro a h2 h3
      rw [if_neg (fun z => by omega)]
  rw [e1, e2, qs_rev]
  apply qs_congr
  intro a ha
  show (if n - m + 1 - 1 - a ≤ i then Q (n - m - (n - m + 1 - 1 - a)) * g (i - (n - m + 1 - 1 - a)) else 0) = _
  rw [show n - m - (n - m + 1 - 1 - a) = a by omega]
  by_cases h : a ≤ n - i
  · by_cases h2 : n - i - a ≤ m
    · rw [if_pos (by omega), if_pos ⟨h, h2⟩, show i - (n - m + 1 - 1 - a) = m - (n - i - a) by omega]
    · rw [if_neg (by omega), if_neg (fun z => h2 z.2)]
  · rw [if_pos (by omega), if_neg (fun z => h z.1), hg (i - (n - m + 1 - 1 - a)) (by omega) (by omega)]
    grobner
theorem qe_rest {R : Type} [Lean.Grind.CommRing R] {n m : Nat} (hmn : m ≤ n) (hn : n < 32) {f g one two five o q o2 r : Nat → R}
    (hf : ∀ j, n < j → j < 32 → f j = 0) (hg : ∀ j, m < j → j < 32 → g j = 0)
    (h1 : ∀ j, j < 32 → one j = if j ≤ m then g (m - j) else 0) (h2 : qp_e 32 (qp_mul one two) (qp_c 1))
    (h5 : ∀ j, j < 32 → five j = if j ≤ n then f (n - j) else 0) (ho : ∀ j, j ≤ n - m → o j = qp_mul five two j)
    (hq : ∀ j, j < 32 → q j = if j ≤ n - m then o (n - m - j) else 0) (ho2 : qp_e 32 o2 (qp_mul q g)) (hr : ∀ j, j < 32 → r j = f j - o2 j) :
    ∀ i, m ≤ i → i < 32 → r i = 0 := by
  intro i hi hi2
  rw [hr i hi2, ho2 i hi2]
  by_cases h : i ≤ n
  · rw [qe_revmul hmn hi h (fun j a b => hg j a (by omega)) (fun j a => hq j (by omega)) (fun j a => h1 j (by omega))]
    have e1 : qp_mul o one (n - i) = qp_mul (qp_mul five two) one (n - i) := by
      apply qs_congr
      intro j hj
      rw [ho j (by omega)]
    have e2 : qp_mul (qp_mul five two) one = qp_mul five (qp_mul one two) := by
      rw [qp_assoc, qp_comm two one]
    have e3 := qp_e_mul (qp_e_refl 32 five) h2 (n - i) (by omega)
    rw [qp_comm five (qp_c 1), qp_one] at e3
    rw [e1, e2, e3, h5 (n - i) (by omega), if_pos (by omega), show n - (n - i) = i by omega]
    grobner
  · rw [hf i (by omega) hi2]
    have e : qp_mul q g i = 0 := by
      apply qs_zero
      intro j hj
      rw [hq j (by omega)]
      by_cases h3 : j ≤ n - m
      · rw [if_pos h3, hg (i - j) (by omega) (by omega)]
        grobner
      · rw [if_neg h3]
        grobner
    rw [e]
    grobner
end
section
/-! engine 1: halves -/
def qk_lo {R : Type} [Lean.Grind.CommRing R] (h : Nat) (f : Nat → R) : Nat → R := fun i => if i < h then f i else 0
def qk_hi {R : Type} [Lean.Grind.CommRing R] (h : Nat) (f : Nat → R) : Nat → R := fun i => if i < h then f (h + i) else 0
/-- block b after k rounds of spreading -/
def qk_P {R : Type} [Lean.Grind.CommRing R] (f : Nat → R) : Nat → Nat → Nat → R
  | 0 => fun _ => qk_lo 32 f
  | k + 1 => fun b => if b % 3 = 0 then qk_lo (2 ^ (4 - k)) (qk_P f k (b / 3)) else if b % 3 = 1 then qk_hi (2 ^ (4 - k)) (qk_P f k (b / 3)) else qp_add (qk_lo (2 ^ (4 - k)) (qk_P f k (b / 3))) (qk_hi (2 ^ (4 - k)) (qk_P f k (b / 3)))
theorem qk_P0 {R : Type} [Lean.Grind.CommRing R] (f : Nat → R) (k b : Nat) : qk_P f (k + 1) (3 * b) = qk_lo (2 ^ (4 - k)) (qk_P f k b) := by
  show (if 3 * b % 3 = 0 then qk_lo (2 ^ (4 - k)) (qk_P f k (3 * b / 3)) else _) = _
  rw [if_pos (by omega), show 3 * b / 3 = b by omega]
theorem qk_P1 {R : Type} [Lean.Grind.CommRing R] (f : Nat → R) (k b : Nat) : qk_P f (k + 1) (3 * b + 1) = qk_hi (2 ^ (4 - k)) (qk_P f k b) := by
  show (if (3 * b + 1) % 3 = 0 then _ else if (3 * b + 1) % 3 = 1 then qk_hi (2 ^ (4 - k)) (qk_P f k ((3 * b + 1) / 3)) else _) = _
  rw [if_neg (by omega), if_pos (by omega), show (3 * b + 1) / 3 = b by omega]
theorem qk_P2 {R : Type} [Lean.Grind.CommRing R] (f : Nat → R) (k b : Nat) : qk_P f (k + 1) (3 * b + 2) = qp_add (qk_lo (2 ^ (4 - k)) (qk_P f k b)) (qk_hi (2 ^ (4 - k)) (qk_P f k b)) := by
  show (if (3 * b + 2) % 3 = 0 then _ else if (3 * b + 2) % 3 = 1 then _ else qp_add (qk_lo (2 ^ (4 - k)) (qk_P f k ((3 * b + 2) / 3))) (qk_hi (2 ^ (4 - k)) (qk_P f k ((3 * b + 2) / 3)))) = _
  rw [if_neg (by omega), if_neg (by omega), show (3 * b + 2) / 3 = b by omega]
theorem qk_sup {R : Type} [Lean.Grind.CommRing R] (f : Nat → R) : ∀ k, k ≤ 5 → ∀ b i, 2 ^ (5 - k) ≤ i → qk_P f k b i = 0 := by
  intro k
  cases k with
  | zero =>
    intro _ b i hi
    show (if i < 32 then f i else 0) = 0
    rw [if_neg (by omega)]
  | succ k =>
    intro hk b i hi
    have e : 5 - (k + 1) = 4 - k := by omega
    rw [e] at hi
    have e1 : ∀ g : Nat → R, qk_lo (2 ^ (4 - k)) g i = 0 := by
      intro g
      show (if i < 2 ^ (4 - k) then g i else 0) = 0
      rw [if_neg (by omega)]
    have e2 : ∀ g : Nat → R, qk_hi (2 ^ (4 - k)) g i = 0 := by
      intro g
      show (if i < 2 ^ (4 - k) then g (2 ^ (4 - k) + i) else 0) = 0
      rw [if_neg (by omega)]
    have hb : b = 3 * (b / 3) ∨ b = 3 * (b / 3) + 1 ∨ b = 3 * (b / 3) + 2 := by omega
    rcases hb with h | h | h
    · rw [h, qk_P0, e1]
    · rw [h, qk_P1, e2]
    · rw [h, qk_P2]
      show qk_lo (2 ^ (4 - k)) (qk_P f k (b / 3)) i + qk_hi (2 ^ (4 - k)) (qk_P f k (b / 3)) i = 0
      rw [e1, e2]
      grobner
theorem qk_dec {R : Type} [Lean.Grind.CommRing R] (f : Nat → R) (k b : Nat) (hk : k < 5) : qk_P f k b = qp_add (qk_P f (k + 1) (3 * b)) (qp_mul (qp_x (2 ^ (4 - k))) (qk_P f (k + 1) (3 * b + 1))) := by
  rw [qk_P0, qk_P1, qp_xmul]
  funext i
  show qk_P f k b i = (if i < 2 ^ (4 - k) then qk_P f k b i else 0) + (if i < 2 ^ (4 - k) then 0 else (if i - 2 ^ (4 - k) < 2 ^ (4 - k) then qk_P f k b (2 ^ (4 - k) + (i - 2 ^ (4 - k))) else 0))
  by_cases h : i < 2 ^ (4 - k)
  · rw [if_pos h, if_pos h]
    grobner
  · rw [if_neg h, if_neg h]
    by_cases h2 : i - 2 ^ (4 - k) < 2 ^ (4 - k)
    · rw [if_pos h2, show 2 ^ (4 - k) + (i - 2 ^ (4 - k)) = i by omega]
      grobner
    · rw [if_neg h2, qk_sup f k (by omega) b i (by
        rw [show 5 - k = (4 - k) + 1 by omega, Nat.pow_succ]
        omega)]
      grobner
theorem qa_halves {A : Type} [Lean.Grind.CommRing A] (f0 f1 f2 g0 g1 g2 f g x : A) (hf : f = f0 + x * f1) (hg : g = g0 + x * g1) (hf2 : f2 = f0 + f1) (hg2 : g2 = g0 + g1) : f * g = (f0 * g0 + x * ((f2 * g2 - f0 * g0) - f1 * g1)) + (x * x) * (f1 * g1) := by
  grobner
/-- the product of block b out of those of its three parts -/
theorem qk_join {R : Type} [Lean.Grind.CommRing R] (f g : Nat → R) (k b : Nat) (hk : k < 5) (j : Nat) :
    qp_mul (qk_P f k b) (qk_P g k b) j = (qp_mul (qk_P f (k + 1) (3 * b)) (qk_P g (k + 1) (3 * b)) j
      + (if j < 2 ^ (4 - k) then 0 else (qp_mul (qk_P f (k + 1) (3 * b + 2)) (qk_P g (k + 1) (3 * b + 2)) (j - 2 ^ (4 - k)) - qp_mul (qk_P f (k + 1) (3 * b)) (qk_P g (k + 1) (3 * b)) (j - 2 ^ (4 - k))) - qp_mul (qk_P f (k + 1) (3 * b + 1)) (qk_P g (k + 1) (3 * b + 1)) (j - 2 ^ (4 - k))))
      + (if j < 2 ^ (4 - k) + 2 ^ (4 - k) then 0 else qp_mul (qk_P f (k + 1) (3 * b + 1)) (qk_P g (k + 1) (3 * b + 1)) (j - (2 ^ (4 - k) + 2 ^ (4 - k)))) := by
  have e2 : ∀ h : Nat → R, qk_P h (k + 1) (3 * b + 2) = qp_add (qk_P h (k + 1) (3 * b)) (qk_P h (k + 1) (3 * b + 1)) := by
    intro h
    rw [qk_P2, qk_P0, qk_P1]
  have e := @qa_halves _ (qp_ring R) (qk_P f (k + 1) (3 * b)) (qk_P f (k + 1) (3 * b + 1)) (qk_P f (k + 1) (3 * b + 2)) (qk_P g (k + 1) (3 * b)) (qk_P g (k + 1) (3 * b + 1)) (qk_P g (k + 1) (3 * b + 2)) (qk_P f k b) (qk_P g k b) (qp_x (2 ^ (4 - k))) (qk_dec f k b hk) (qk_dec g k b hk) (e2 f) (e2 g)
  have e' : qp_mul (qk_P f k b) (qk_P g k b) = qp_add (qp_add (qp_mul (qk_P f (k + 1) (3 * b)) (qk_P g (k + 1) (3 * b))) (qp_mul (qp_x (2 ^ (4 - k))) (qp_sub (qp_sub (qp_mul (qk_P f (k + 1) (3 * b + 2)) (qk_P g (k + 1) (3 * b + 2))) (qp_mul (qk_P f (k + 1) (3 * b)) (qk_P g (k + 1) (3 * b)))) (qp_mul (qk_P f (k + 1) (3 * b + 1)) (qk_P g (k + 1) (3 * b + 1)))))) (qp_mul (qp_mul (qp_x (2 ^ (4 - k))) (qp_x (2 ^ (4 - k)))) (qp_mul (qk_P f (k + 1) (3 * b + 1)) (qk_P g (k + 1) (3 * b + 1)))) := e
  rw [e', ← qp_xx, qp_xmul, qp_xmul]
  rfl
/-- a product of two short series is short -/
theorem qp_short {R : Type} [Lean.Grind.CommRing R] {f g : Nat → R} {m n : Nat} (hf : ∀ i, m ≤ i → f i = 0) (hg : ∀ i, n ≤ i → g i = 0) {k : Nat} (hk : m + n ≤ k + 1) : qp_mul f g k = 0 := by
  apply qs_zero
  intro i hi
  by_cases h : m ≤ i
  · rw [hf i h]
    grobner
  · rw [hg (k - i) (by omega)]
    grobner
theorem qk_top {R : Type} [Lean.Grind.CommRing R] (f g : Nat → R) : qp_e 32 (qp_mul (qk_P f 0 0) (qk_P g 0 0)) (qp_mul f g) := by
  have e : ∀ h : Nat → R, qp_e 32 (qk_P h 0 0) h := by
    intro h i hi
    show (if i < 32 then h i else 0) = h i
    rw [if_pos hi]
  exact qp_e_mul (e f) (e g)
end
section
/-! engine 2: thirds -/
def qt_T {R : Type} [Lean.Grind.CommRing R] (f : Nat → R) (t : Nat) : Nat → R := fun i => if i < 11 then (if 11 * t + i < 32 then f (11 * t + i) else 0) else 0
theorem qt_sup {R : Type} [Lean.Grind.CommRing R] (f : Nat → R) (t : Nat) : ∀ i, 11 ≤ i → qt_T f t i = 0 := by
  intro i hi
  show (if i < 11 then (if 11 * t + i < 32 then f (11 * t + i) else 0) else 0) = 0
  rw [if_neg (by omega)]
theorem qt_dec {R : Type} [Lean.Grind.CommRing R] (f : Nat → R) : qp_e 32 (qp_add (qp_add (qt_T f 0) (qp_mul (qp_x 11) (qt_T f 1))) (qp_mul (qp_mul (qp_x 11) (qp_x 11)) (qt_T f 2))) f := by
  rw [← qp_xx, qp_xmul, qp_xmul]
  intro i hi
  show ((if i < 11 then (if 11 * 0 + i < 32 then f (11 * 0 + i) else 0) else 0) + (if i < 11 then 0 else (if i - 11 < 11 then (if 11 * 1 + (i - 11) < 32 then f (11 * 1 + (i - 11)) else 0) else 0))) + (if i < 11 + 11 then 0 else (if i - (11 + 11) < 11 then (if 11 * 2 + (i - (11 + 11)) < 32 then f (11 * 2 + (i - (11 + 11))) else 0) else 0)) = f i
  by_cases h : i < 11
  · rw [if_pos h, if_pos h, if_pos (by omega), if_pos (by omega), show 11 * 0 + i = i by omega]
    grobner
  · by_cases h2 : i < 22
    · rw [if_neg h, if_neg h, if_pos (by omega), if_pos (by omega), if_pos (by omega), show 11 * 1 + (i - 11) = i by omega]
      grobner
    · rw [if_neg h, if_neg h, if_neg (by omega), if_neg (by omega), if_pos (by omega), if_pos (by omega), show 11 * 2 + (i - (11 + 11)) = i by omega]
      grobner
/-- the value at a point -/
def qt_V {R : Type} [Lean.Grind.CommRing R] (f : Nat → R) (p : Nat) : Nat → R := fun i =>
  if p = 0 then qt_T f 0 i else if p = 1 then (qt_T f 0 i + qt_T f 2 i) + qt_T f 1 i else if p = 2 then (qt_T f 0 i + qt_T f 2 i) - qt_T f 1 i else if p = 3 then (qt_T f 0 i + 2 * qt_T f 1 i) + 4 * qt_T f 2 i else qt_T f 2 i
theorem qt_Vsup {R : Type} [Lean.Grind.CommRing R] (f : Nat → R) (p : Nat) : ∀ i, 11 ≤ i → qt_V f p i = 0 := by
  intro i hi
  show (if p = 0 then qt_T f 0 i else if p = 1 then (qt_T f 0 i + qt_T f 2 i) + qt_T f 1 i else if p = 2 then (qt_T f 0 i + qt_T f 2 i) - qt_T f 1 i else if p = 3 then (qt_T f 0 i + 2 * qt_T f 1 i) + 4 * qt_T f 2 i else qt_T f 2 i) = 0
  rw [qt_sup f 0 i hi, qt_sup f 1 i hi, qt_sup f 2 i hi]
  split
  · rfl
  · split
    · grobner
    · split
      · grobner
      · split
        · grobner
        · rfl
/-- a product of thirds -/
def qt_p {R : Type} [Lean.Grind.CommRing R] (f g : Nat → R) (a b : Nat) (i : Nat) : R := qp_mul (qt_T f a) (qt_T g b) i
theorem qa_t1 {A : Type} [Lean.Grind.CommRing A] (a b c d e f : A) : ((a + c) + b) * ((d + f) + e) = ((((((((a * d + a * e) + a * f) + b * d) + b * e) + b * f) + c * d) + c * e) + c * f) := by
  grobner
theorem qa_t2 {A : Type} [Lean.Grind.CommRing A] (a b c d e f : A) : ((a + c) - b) * ((d + f) - e) = ((((((((a * d - a * e) + a * f) - b * d) + b * e) - b * f) + c * d) - c * e) + c * f) := by
  grobner
theorem qa_t3 {A : Type} [Lean.Grind.CommRing A] (a b c d e f : A) : ((a + 2 * b) + 4 * c) * ((d + 2 * e) + 4 * f) = ((((((((a * d + 2 * (a * e)) + 4 * (a * f)) + 2 * (b * d)) + 4 * (b * e)) + 8 * (b * f)) + 4 * (c * d)) + 8 * (c * e)) + 16 * (c * f)) := by
  grobner
theorem qt_C0 {R : Type} [Lean.Grind.CommRing R] (f g : Nat → R) (i : Nat) : qp_mul (qt_V f 0) (qt_V g 0) i = qt_p f g 0 0 i := rfl
theorem qt_C4 {R : Type} [Lean.Grind.CommRing R] (f g : Nat → R) (i : Nat) : qp_mul (qt_V f 4) (qt_V g 4) i = qt_p f g 2 2 i := rfl
theorem qt_C1 {R : Type} [Lean.Grind.CommRing R] (f g : Nat → R) (i : Nat) : qp_mul (qt_V f 1) (qt_V g 1) i = ((((((((qt_p f g 0 0 i + qt_p f g 0 1 i) + qt_p f g 0 2 i) + qt_p f g 1 0 i) + qt_p f g 1 1 i) + qt_p f g 1 2 i) + qt_p f g 2 0 i) + qt_p f g 2 1 i) + qt_p f g 2 2 i) :=
  congrFun (@qa_t1 _ (qp_ring R) (qt_T f 0) (qt_T f 1) (qt_T f 2) (qt_T g 0) (qt_T g 1) (qt_T g 2)) i
theorem qt_C2 {R : Type} [Lean.Grind.CommRing R] (f g : Nat → R) (i : Nat) : qp_mul (qt_V f 2) (qt_V g 2) i = ((((((((qt_p f g 0 0 i - qt_p f g 0 1 i) + qt_p f g 0 2 i) - qt_p f g 1 0 i) + qt_p f g 1 1 i) - qt_p f g 1 2 i) + qt_p f g 2 0 i) - qt_p f g 2 1 i) + qt_p f g 2 2 i) :=
  congrFun (@qa_t2 _ (qp_ring R) (qt_T f 0) (qt_T f 1) (qt_T f 2) (qt_T g 0) (qt_T g 1) (qt_T g 2)) i
theorem qt_V3 {R : Type} [Lean.Grind.CommRing R] (f : Nat → R) : qt_V f 3 = qp_add (qp_add (qt_T f 0) (qp_mul (qp_c 2) (qt_T f 1))) (qp_mul (qp_c 4) (qt_T f 2)) := by
  rw [qp_cmul, qp_cmul]
  rfl
theorem qt_C3 {R : Type} [Lean.Grind.CommRing R] (f g : Nat → R) (i : Nat) : qp_mul (qt_V f 3) (qt_V g 3) i = ((((((((qt_p f g 0 0 i + 2 * qt_p f g 0 1 i) + 4 * qt_p f g 0 2 i) + 2 * qt_p f g 1 0 i) + 4 * qt_p f g 1 1 i) + 8 * qt_p f g 1 2 i) + 4 * qt_p f g 2 0 i) + 8 * qt_p f g 2 1 i) + 16 * qt_p f g 2 2 i) := by
  rw [qt_V3, qt_V3]
  have e := congrFun (@qa_t3 _ (qp_ring R) (qt_T f 0) (qt_T f 1) (qt_T f 2) (qt_T g 0) (qt_T g 1) (qt_T g 2)) i
  refine Eq.trans e ?_
  show ((((((qp_mul (qt_T f 0) (qt_T g 0) i + qp_mul (qp_c 2) (qp_mul (qt_T f 0) (qt_T g 1)) i) + qp_mul (qp_c 4) (qp_mul (qt_T f 0) (qt_T g 2)) i) + qp_mul (qp_c 2) (qp_mul (qt_T f 1) (qt_T g 0)) i) + qp_mul (qp_c 4) (qp_mul (qt_T f 1) (qt_T g 1)) i) + qp_mul (qp_c 8) (qp_mul (qt_T f 1) (qt_T g 2)) i) + qp_mul (qp_c 4) (qp_mul (qt_T f 2) (qt_T g 0)) i) + qp_mul (qp_c 8) (qp_mul (qt_T f 2) (qt_T g 1)) i + qp_mul (qp_c 16) (qp_mul (qt_T f 2) (qt_T g 2)) i = _
  rw [qp_cmul, qp_cmul, qp_cmul, qp_cmul, qp_cmul, qp_cmul, qp_cmul, qp_cmul]
  rfl
/-- the five coefficients -/
def qt_c {R : Type} [Lean.Grind.CommRing R] (f g : Nat → R) (t : Nat) (i : Nat) : R :=
  if t = 0 then qt_p f g 0 0 i else if t = 1 then qt_p f g 0 1 i + qt_p f g 1 0 i else if t = 2 then (qt_p f g 0 2 i + qt_p f g 1 1 i) + qt_p f g 2 0 i else if t = 3 then qt_p f g 1 2 i + qt_p f g 2 1 i else qt_p f g 2 2 i
theorem qt_psup {R : Type} [Lean.Grind.CommRing R] (f g : Nat → R) (a b : Nat) {i : Nat} (hi : 21 ≤ i) : qt_p f g a b i = 0 := qp_short (qt_sup f a) (qt_sup g b) (by omega)
theorem qt_csup {R : Type} [Lean.Grind.CommRing R] (f g : Nat → R) (t : Nat) {i : Nat} (hi : 21 ≤ i) : qt_c f g t i = 0 := by
  show (if t = 0 then qt_p f g 0 0 i else if t = 1 then qt_p f g 0 1 i + qt_p f g 1 0 i else if t = 2 then (qt_p f g 0 2 i + qt_p f g 1 1 i) + qt_p f g 2 0 i else if t = 3 then qt_p f g 1 2 i + qt_p f g 2 1 i else qt_p f g 2 2 i) = 0
  rw [qt_psup f g 0 0 hi, qt_psup f g 0 1 hi, qt_psup f g 0 2 hi, qt_psup f g 1 0 hi, qt_psup f g 1 1 hi, qt_psup f g 1 2 hi, qt_psup f g 2 0 hi, qt_psup f g 2 1 hi, qt_psup f g 2 2 hi]
  split
  · rfl
  · split
    · grobner
    · split
      · grobner
      · split
        · grobner
        · rfl
/-- from the values at five points -/
theorem qt_solve {R : Type} [Lean.Grind.CommRing R] (f g : Nat → R) (i : Nat) (h2 h3 : R) (k2 : 2 * h2 = 1) (k3 : 3 * h3 = 1) {c0 c1 c2 c3 c4 even odd third known rest fourth second : R}
    (e0 : c0 = qp_mul (qt_V f 0) (qt_V g 0) i) (e1 : c1 = qp_mul (qt_V f 1) (qt_V g 1) i) (e2 : c2 = qp_mul (qt_V f 2) (qt_V g 2) i) (e3 : c3 = qp_mul (qt_V f 3) (qt_V g 3) i) (e4 : c4 = qp_mul (qt_V f 4) (qt_V g 4) i)
    (he : even = (c1 + c2) * h2) (ho : odd = (c1 - c2) * h2) (ht : third = (even - c0) - c4) (hk : known = (c0 + 4 * third) + 16 * c4) (hr : rest = (c3 - known) * h2) (hf : fourth = (rest - odd) * h3) (hs : second = odd - fourth) :
    c0 = qt_c f g 0 i ∧ second = qt_c f g 1 i ∧ third = qt_c f g 2 i ∧ fourth = qt_c f g 3 i ∧ c4 = qt_c f g 4 i := by
  rw [qt_C0] at e0
  rw [qt_C1] at e1
  rw [qt_C2] at e2
  rw [qt_C3] at e3
  rw [qt_C4] at e4
  show c0 = qt_p f g 0 0 i ∧ second = qt_p f g 0 1 i + qt_p f g 1 0 i ∧ third = (qt_p f g 0 2 i + qt_p f g 1 1 i) + qt_p f g 2 0 i ∧ fourth = qt_p f g 1 2 i + qt_p f g 2 1 i ∧ c4 = qt_p f g 2 2 i
  generalize qt_p f g 0 0 i = p00 at *
  generalize qt_p f g 0 1 i = p01 at *
  generalize qt_p f g 0 2 i = p02 at *
  generalize qt_p f g 1 0 i = p10 at *
  generalize qt_p f g 1 1 i = p11 at *
  generalize qt_p f g 1 2 i = p12 at *
  generalize qt_p f g 2 0 i = p20 at *
  generalize qt_p f g 2 1 i = p21 at *
  generalize qt_p f g 2 2 i = p22 at *
  have x1 : c1 + c2 = 2 * ((((p00 + p02) + p11) + p20) + p22) := by
    rw [e1, e2]
    grobner
  have x2 : c1 - c2 = 2 * (((p01 + p10) + p12) + p21) := by
    rw [e1, e2]
    grobner
  have y1 : even = (((p00 + p02) + p11) + p20) + p22 := by
    rw [he, x1]
    generalize (((p00 + p02) + p11) + p20) + p22 = q
    grobner
  have y2 : odd = ((p01 + p10) + p12) + p21 := by
    rw [ho, x2]
    generalize ((p01 + p10) + p12) + p21 = q
    grobner
  have y3 : third = (p02 + p11) + p20 := by
    rw [ht, y1, e0, e4]
    grobner
  have x3 : c3 - known = 2 * ((p01 + p10) + 4 * (p12 + p21)) := by
    rw [hk, e3, y3, e0, e4]
    grobner
  have y4 : rest = (p01 + p10) + 4 * (p12 + p21) := by
    rw [hr, x3]
    generalize (p01 + p10) + 4 * (p12 + p21) = q
    grobner
  have x4 : rest - odd = 3 * (p12 + p21) := by
    rw [y4, y2]
    grobner
  have y5 : fourth = p12 + p21 := by
    rw [hf, x4]
    generalize p12 + p21 = q
    grobner
  refine ⟨e0, ?_, y3, y5, e4⟩
  rw [hs, y2, y5]
  grobner
theorem qa_t9 {A : Type} [Lean.Grind.CommRing A] (a b c d e f x : A) : ((a + x * b) + (x * x) * c) * ((d + x * e) + (x * x) * f) = (((a * d + x * (a * e + b * d)) + (x * x) * ((a * f + b * e) + c * d)) + ((x * x) * x) * (b * f + c * e)) + ((x * x) * (x * x)) * (c * f) := by
  grobner
theorem qt_sum {R : Type} [Lean.Grind.CommRing R] (f g : Nat → R) {k : Nat} (hk : k < 32) :
    (((qt_c f g 0 k + (if k < 11 then 0 else qt_c f g 1 (k - 11))) + (if k < 22 then 0 else qt_c f g 2 (k - 22))) + (if k < 33 then 0 else qt_c f g 3 (k - 33))) + (if k < 44 then 0 else qt_c f g 4 (k - 44)) = qp_mul f g k := by
  have e := congrFun (@qa_t9 _ (qp_ring R) (qt_T f 0) (qt_T f 1) (qt_T f 2) (qt_T g 0) (qt_T g 1) (qt_T g 2) (qp_x 11)) k
  have e' : qp_mul (qp_add (qp_add (qt_T f 0) (qp_mul (qp_x 11) (qt_T f 1))) (qp_mul (qp_mul (qp_x 11) (qp_x 11)) (qt_T f 2))) (qp_add (qp_add (qt_T g 0) (qp_mul (qp_x 11) (qt_T g 1))) (qp_mul (qp_mul (qp_x 11) (qp_x 11)) (qt_T g 2))) k
     = (((qp_mul (qt_T f 0) (qt_T g 0) k + qp_mul (qp_x 11) (qp_add (qp_mul (qt_T f 0) (qt_T g 1)) (qp_mul (qt_T f 1) (qt_T g 0))) k) + qp_mul (qp_mul (qp_x 11) (qp_x 11)) (qp_add (qp_add (qp_mul (qt_T f 0) (qt_T g 2)) (qp_mul (qt_T f 1) (qt_T g 1))) (qp_mul (qt_T f 2) (qt_T g 0))) k) + qp_mul (qp_mul (qp_mul (qp_x 11) (qp_x 11)) (qp_x 11)) (qp_add (qp_mul (qt_T f 1) (qt_T g 2)) (qp_mul (qt_T f 2) (qt_T g 1))) k) + qp_mul (qp_mul (qp_mul (qp_x 11) (qp_x 11)) (qp_mul (qp_x 11) (qp_x 11))) (qp_mul (qt_T f 2) (qt_T g 2)) k := e
  rw [← qp_e_mul (qt_dec f) (qt_dec g) k hk, e', ← qp_xx, ← qp_xx, ← qp_xx, qp_xmul, qp_xmul, qp_xmul, qp_xmul]
  rfl
end
section
/-! engine 3: roots of one -/
/-- m bits turned around -/
def qn_rv : Nat → Nat → Nat
  | 0, _ => 0
  | m + 1, q => 2 ^ m * (q % 2) + qn_rv m (q / 2)
theorem qn_rv0 (m q : Nat) : qn_rv (m + 1) (2 * q) = qn_rv m q := by
  show 2 ^ m * (2 * q % 2) + qn_rv m (2 * q / 2) = _
  rw [show 2 * q % 2 = 0 by omega, show 2 * q / 2 = q by omega, Nat.mul_zero, Nat.zero_add]
theorem qn_rv1 (m q : Nat) : qn_rv (m + 1) (2 * q + 1) = 2 ^ m + qn_rv m q := by
  show 2 ^ m * ((2 * q + 1) % 2) + qn_rv m ((2 * q + 1) / 2) = _
  rw [show (2 * q + 1) % 2 = 1 by omega, show (2 * q + 1) / 2 = q by omega, Nat.mul_one]
theorem qs_even {R : Type} [Lean.Grind.CommRing R] (f : Nat → R) (n : Nat) : qs_sm f (n + n) = qs_sm (fun j => f (2 * j)) n + qs_sm (fun j => f (2 * j + 1)) n := by
  induction n with
  | zero =>
    show (0 : R) = 0 + 0
    grobner
  | succ n ih =>
    rw [show n + 1 + (n + 1) = (n + n) + 1 + 1 by omega, qs_sms, qs_sms, ih, qs_sms, qs_sms, show 2 * n = n + n by omega]
    grobner
/-- what stands at block q, place k, when blocks have 2^s places -/
def qn_W {R : Type} [Lean.Grind.CommRing R] (a : Nat → R) (w : R) (s q k : Nat) : R := qs_sm (fun j => a (j * 2 ^ (6 - s) + qn_rv (6 - s) q) * qs_pw w (2 ^ (6 - s) * (j * k))) (2 ^ s)
theorem qn_W0 {R : Type} [Lean.Grind.CommRing R] (a : Nat → R) (w : R) (q k : Nat) : qn_W a w 0 q k = a (qn_rv 6 q) := by
  show 0 + a (0 * 2 ^ (6 - 0) + qn_rv (6 - 0) q) * qs_pw w (2 ^ (6 - 0) * (0 * k)) = _
  rw [Nat.zero_mul, Nat.zero_mul, Nat.mul_zero, Nat.zero_add, qs_pw0]
  grobner
theorem qn_W6 {R : Type} [Lean.Grind.CommRing R] (a : Nat → R) (w : R) (k : Nat) : qn_W a w 6 0 k = qs_sm (fun j => a j * qs_pw w (j * k)) 64 := by
  show qs_sm (fun j => a (j * 2 ^ (6 - 6) + qn_rv (6 - 6) 0) * qs_pw w (2 ^ (6 - 6) * (j * k))) 64 = _
  apply qs_congr
  intro j hj
  show a (j * 1 + 0) * qs_pw w (1 * (j * k)) = _
  rw [Nat.mul_one, Nat.one_mul, Nat.add_zero]
theorem qn_split {R : Type} [Lean.Grind.CommRing R] (a : Nat → R) (w : R) {s : Nat} (hs : s < 6) (q k : Nat) : qn_W a w (s + 1) q k = qs_sm (fun j => a (j * 2 ^ (6 - s) + qn_rv (6 - s) (2 * q)) * qs_pw w (2 ^ (6 - s) * (j * k))) (2 ^ s) + qs_sm (fun j => a (j * 2 ^ (6 - s) + qn_rv (6 - s) (2 * q + 1)) * qs_pw w (2 ^ (6 - s) * (j * k))) (2 ^ s) * qs_pw w (k * 2 ^ (5 - s)) := by
  have e0 : 6 - s = (5 - s) + 1 := by omega
  have e1 : 6 - (s + 1) = 5 - s := by omega
  have e2 : 2 ^ (s + 1) = 2 ^ s + 2 ^ s := by rw [Nat.pow_succ]; omega
  have e3 : 2 ^ (5 - s + 1) = 2 * 2 ^ (5 - s) := by rw [Nat.pow_succ]; omega
  show qs_sm (fun j => a (j * 2 ^ (6 - (s + 1)) + qn_rv (6 - (s + 1)) q) * qs_pw w (2 ^ (6 - (s + 1)) * (j * k))) (2 ^ (s + 1)) = _
  rw [e1, e2, qs_even, ← qs_mulR, e0, qn_rv0, qn_rv1]
  congr 1
  · apply qs_congr
    intro j hj
    show a (2 * j * 2 ^ (5 - s) + qn_rv (5 - s) q) * qs_pw w (2 ^ (5 - s) * (2 * j * k)) = _
    rw [e3, show 2 * j * 2 ^ (5 - s) = j * (2 * 2 ^ (5 - s)) by rw [Nat.mul_comm 2 j, Nat.mul_assoc], show 2 ^ (5 - s) * (2 * j * k) = 2 * 2 ^ (5 - s) * (j * k) by rw [Nat.mul_assoc 2 j k, ← Nat.mul_assoc, Nat.mul_comm (2 ^ (5 - s)) 2]]
  · apply qs_congr
    intro j hj
    show a ((2 * j + 1) * 2 ^ (5 - s) + qn_rv (5 - s) q) * qs_pw w (2 ^ (5 - s) * ((2 * j + 1) * k)) = a (j * 2 ^ (5 - s + 1) + (2 ^ (5 - s) + qn_rv (5 - s) q)) * qs_pw w (2 ^ (5 - s + 1) * (j * k)) * qs_pw w (k * 2 ^ (5 - s))
    have x1 : (2 * j + 1) * 2 ^ (5 - s) + qn_rv (5 - s) q = j * 2 ^ (5 - s + 1) + (2 ^ (5 - s) + qn_rv (5 - s) q) := by
      rw [e3, Nat.add_mul, Nat.one_mul, Nat.mul_comm 2 j, Nat.mul_assoc, Nat.add_assoc]
    have x2 : 2 ^ (5 - s) * ((2 * j + 1) * k) = 2 ^ (5 - s + 1) * (j * k) + k * 2 ^ (5 - s) := by
      rw [e3, Nat.add_mul, Nat.one_mul, Nat.mul_add, Nat.mul_comm (2 ^ (5 - s)) k, Nat.mul_assoc 2 j k, ← Nat.mul_assoc (2 ^ (5 - s)) 2, Nat.mul_comm (2 ^ (5 - s)) 2]
    rw [x1, x2, qs_pwA]
    grobner
theorem qn_lo {R : Type} [Lean.Grind.CommRing R] (a : Nat → R) (w : R) {s : Nat} (hs : s < 6) (q k : Nat) : qn_W a w (s + 1) q k = qn_W a w s (2 * q) k + qn_W a w s (2 * q + 1) k * qs_pw w (k * 2 ^ (5 - s)) := qn_split a w hs q k
theorem qn_hi {R : Type} [Lean.Grind.CommRing R] (a : Nat → R) (w : R) (hw : qs_pw w 32 = -1) {s : Nat} (hs : s < 6) (q k : Nat) : qn_W a w (s + 1) q (k + 2 ^ s) = qn_W a w s (2 * q) k - qn_W a w s (2 * q + 1) k * qs_pw w (k * 2 ^ (5 - s)) := by
  have e0 : 2 ^ (6 - s) * 2 ^ s = 64 := by
    rw [← Nat.pow_add, show 6 - s + s = 6 by omega]
  have e1 : 2 ^ s * 2 ^ (5 - s) = 32 := by
    rw [← Nat.pow_add, show s + (5 - s) = 5 by omega]
  have w64 : qs_pw w 64 = 1 := by
    rw [show 64 = 32 + 32 by rfl, qs_pwA, hw]
    grobner
  have x : ∀ j, qs_pw w (2 ^ (6 - s) * (j * (k + 2 ^ s))) = qs_pw w (2 ^ (6 - s) * (j * k)) := by
    intro j
    have e : 2 ^ (6 - s) * (j * (k + 2 ^ s)) = 2 ^ (6 - s) * (j * k) + 64 * j := by
      rw [Nat.mul_add, Nat.mul_add, ← e0, Nat.mul_comm j (2 ^ s), Nat.mul_assoc]
    rw [e, qs_pwA, qs_pwM w 64 j, w64, qs_pwO]
    grobner
  have y : qs_pw w ((k + 2 ^ s) * 2 ^ (5 - s)) = - qs_pw w (k * 2 ^ (5 - s)) := by
    rw [Nat.add_mul, e1, qs_pwA, hw]
    grobner
  rw [qn_split a w hs, y]
  show qs_sm (fun j => a (j * 2 ^ (6 - s) + qn_rv (6 - s) (2 * q)) * qs_pw w (2 ^ (6 - s) * (j * (k + 2 ^ s)))) (2 ^ s) + qs_sm (fun j => a (j * 2 ^ (6 - s) + qn_rv (6 - s) (2 * q + 1)) * qs_pw w (2 ^ (6 - s) * (j * (k + 2 ^ s)))) (2 ^ s) * (- qs_pw w (k * 2 ^ (5 - s))) = qs_sm (fun j => a (j * 2 ^ (6 - s) + qn_rv (6 - s) (2 * q)) * qs_pw w (2 ^ (6 - s) * (j * k))) (2 ^ s) - qs_sm (fun j => a (j * 2 ^ (6 - s) + qn_rv (6 - s) (2 * q + 1)) * qs_pw w (2 ^ (6 - s) * (j * k))) (2 ^ s) * qs_pw w (k * 2 ^ (5 - s))
  have z : ∀ r, qs_sm (fun j => a (j * 2 ^ (6 - s) + r) * qs_pw w (2 ^ (6 - s) * (j * (k + 2 ^ s)))) (2 ^ s) = qs_sm (fun j => a (j * 2 ^ (6 - s) + r) * qs_pw w (2 ^ (6 - s) * (j * k))) (2 ^ s) := by
    intro r
    apply qs_congr
    intro j hj
    rw [x j]
  rw [z, z]
  grobner
/-- the values at the powers of w -/
def qn_F {R : Type} [Lean.Grind.CommRing R] (a : Nat → R) (w : R) (k : Nat) : R := qs_sm (fun j => a j * qs_pw w (j * k)) 64
theorem qn_Fval {R : Type} [Lean.Grind.CommRing R] (a : Nat → R) (w : R) (k : Nat) : qn_F a w k = qe_val a (qs_pw w k) 64 := by
  apply qs_congr
  intro j hj
  rw [Nat.mul_comm, qs_pwM]
theorem qn_F6 {R : Type} [Lean.Grind.CommRing R] (a : Nat → R) (w : R) (k : Nat) : qn_W a w 6 0 k = qn_F a w k := qn_W6 a w k
/-- back again -/
theorem qn_back {R : Type} [Lean.Grind.CommRing R] (w v part : R) (hv : ∀ m n, m < 64 → n < 64 → m ≠ n → ∃ u, u * (qs_pw w m * qs_pw v n - 1) = 1) (h1 : w * v = 1) (hw : qs_pw w 64 = 1) (hp : qs_nat 64 * part = 1) (f g : Nat → R) (hf : ∀ i, 32 ≤ i → f i = 0) (hg : ∀ i, 32 ≤ i → g i = 0) {n : Nat} (hn : n < 64) : qn_F (fun k => qn_F f w k * qn_F g w k) v n * part = qp_mul f g n := by
  have hv64 : qs_pw v 64 = 1 := by
    have e : qs_pw (w * v) 64 = 1 := by rw [h1, qs_pwO]
    rw [qs_pwX, hw] at e
    grobner
  have e1 : ∀ k, qn_F f w k * qn_F g w k = qe_val (qp_mul f g) (qs_pw w k) 64 := by
    intro k
    rw [qn_Fval, qn_Fval, qe_mul]
    intro i j hi hj hij
    by_cases h : 32 ≤ i
    · rw [hf i h]
      grobner
    · rw [hg j (by omega)]
      grobner
  have e2 : qn_F (fun k => qn_F f w k * qn_F g w k) v n = qs_sm (fun m => qp_mul f g m * qs_sm (fun k => qs_pw (qs_pw w m * qs_pw v n) k) 64) 64 := by
    have e3 : qn_F (fun k => qn_F f w k * qn_F g w k) v n = qs_sm (fun k => qs_sm (fun m => (fun k m => qp_mul f g m * qs_pw (qs_pw w m * qs_pw v n) k) k m) 64) 64 := by
      apply qs_congr
      intro k hk
      show (qn_F f w k * qn_F g w k) * qs_pw v (k * n) = _
      rw [e1]
      show qs_sm (fun m => qp_mul f g m * qs_pw (qs_pw w k) m) 64 * qs_pw v (k * n) = _
      rw [← qs_mulR]
      apply qs_congr
      intro m hm
      show qp_mul f g m * qs_pw (qs_pw w k) m * qs_pw v (k * n) = qp_mul f g m * qs_pw (qs_pw w m * qs_pw v n) k
      rw [qs_pwX, ← qs_pwM, ← qs_pwM, ← qs_pwM, Nat.mul_comm k m, Nat.mul_comm n k]
      grobner
    rw [e3, qs_swap (fun k m => qp_mul f g m * qs_pw (qs_pw w m * qs_pw v n) k)]
    apply qs_congr
    intro m hm
    rw [← qs_mulL]
  rw [e2, qs_pick (k := n) hn]
  · have e4 : qs_sm (fun k => qs_pw (qs_pw w n * qs_pw v n) k) 64 = qs_nat 64 := by
      rw [← qs_pwX, h1, qs_pwO, ← qs_one]
      apply qs_congr
      intro k hk
      rw [qs_pwO]
    show qp_mul f g n * qs_sm (fun k => qs_pw (qs_pw w n * qs_pw v n) k) 64 * part = _
    rw [e4]
    generalize qp_mul f g n = q
    generalize (qs_nat 64 : R) = s at hp
    grobner
  · intro m hm hmn
    obtain ⟨u, hu⟩ := hv m n hm hn hmn
    have e5 := qs_geo (qs_pw w m * qs_pw v n) 64
    have e6 : qs_pw (qs_pw w m * qs_pw v n) 64 = 1 := by
      rw [qs_pwX, ← qs_pwM, ← qs_pwM, Nat.mul_comm m 64, Nat.mul_comm n 64, qs_pwM, qs_pwM, hw, hv64, qs_pwO, qs_pwO]
      grobner
    rw [e6] at e5
    show qp_mul f g m * qs_sm (fun k => qs_pw (qs_pw w m * qs_pw v n) k) 64 = 0
    generalize qs_sm (fun k => qs_pw (qs_pw w m * qs_pw v n) k) 64 = S at e5
    generalize qs_pw w m * qs_pw v n = z at hu e5
    have e7 : S = 0 := by
      have : S = u * ((z - 1) * S) := by grobner
      rw [this, e5]
      grobner
    rw [e7]
    grobner
end
section
/-! engine 4: points -/
/-- X - m -/
def qd_l {R : Type} [Lean.Grind.CommRing R] (m : Nat) : Nat → R := fun i => if i = 0 then - qs_nat m else if i = 1 then 1 else 0
theorem qd_lmul {R : Type} [Lean.Grind.CommRing R] (m : Nat) (f : Nat → R) (i : Nat) : qp_mul (qd_l m) f i = (if i = 0 then 0 else f (i - 1)) - f i * qs_nat m := by
  have e : (qd_l m : Nat → R) = qp_add (qp_c (- qs_nat m)) (qp_x 1) := by
    funext j
    show (if j = 0 then - qs_nat m else if j = 1 then 1 else 0) = (if j = 0 then - qs_nat m else 0) + (if j = 1 then (1 : R) else 0)
    by_cases h : j = 0
    · rw [if_pos h, if_pos h, if_neg (by omega)]
      grobner
    · rw [if_neg h, if_neg h]
      grobner
  rw [e, qp_comm, qp_addM, qp_comm f (qp_c _), qp_comm f (qp_x 1), qp_cmul, qp_xmul]
  show - qs_nat m * f i + (if i < 1 then 0 else f (i - 1)) = _
  by_cases h : i = 0
  · rw [if_pos h, if_pos (by omega)]
    grobner
  · rw [if_neg h, if_neg (by omega)]
    grobner
/-- X (X - 1) .. (X - (m - 1)) -/
def qd_N {R : Type} [Lean.Grind.CommRing R] : Nat → Nat → R
  | 0 => qp_c 1
  | m + 1 => qp_mul (qd_l m) (qd_N m)
theorem qd_Nsup {R : Type} [Lean.Grind.CommRing R] (m : Nat) : (∀ i, m < i → (qd_N m i : R) = 0) ∧ (qd_N m m : R) = 1 := by
  induction m with
  | zero =>
    constructor
    · intro i hi
      show (if i = 0 then (1 : R) else 0) = 0
      rw [if_neg (by omega)]
    · rfl
  | succ m ih =>
    constructor
    · intro i hi
      show qp_mul (qd_l m) (qd_N m) i = (0 : R)
      rw [qd_lmul, if_neg (by omega), ih.1 (i - 1) (by omega), ih.1 i (by omega)]
      grobner
    · show qp_mul (qd_l m) (qd_N m) (m + 1) = (1 : R)
      rw [qd_lmul, if_neg (by omega), show m + 1 - 1 = m by omega, ih.2, ih.1 (m + 1) (by omega)]
      grobner
/-- every polynomial is a sum of these -/
theorem qd_basis {R : Type} [Lean.Grind.CommRing R] (d : Nat) : ∀ h : Nat → R, (∀ i, d ≤ i → h i = 0) → ∃ b : Nat → R, ∀ i, h i = qs_sm (fun m => b m * qd_N m i) d := by
  induction d with
  | zero =>
    intro h hh
    exact ⟨fun _ => 0, fun i => by rw [qs_sm0, hh i (by omega)]⟩
  | succ d ih =>
    intro h hh
    obtain ⟨b, hb⟩ := ih (fun i => h i - h d * qd_N d i) (by
      intro i hi
      show h i - h d * qd_N d i = 0
      by_cases e : i = d
      · rw [e, (qd_Nsup d).2]
        grobner
      · rw [hh i (by omega), (qd_Nsup d).1 i (by omega)]
        grobner)
    refine ⟨fun m => if m = d then h d else b m, fun i => ?_⟩
    rw [qs_sms]
    have e1 : qs_sm (fun m => (if m = d then h d else b m) * qd_N m i) d = qs_sm (fun m => b m * qd_N m i) d := by
      apply qs_congr
      intro m hm
      rw [if_neg (by omega)]
    have e2 : h i - h d * qd_N d i = qs_sm (fun m => b m * qd_N m i) d := hb i
    rw [e1, ← e2]
    show h i = h i - h d * qd_N d i + (if d = d then h d else b d) * qd_N d i
    rw [if_pos rfl]
    grobner
/-- falling products -/
def qd_ff {R : Type} [Lean.Grind.CommRing R] (x : R) : Nat → R
  | 0 => 1
  | m + 1 => (x - qs_nat m) * qd_ff x m
theorem qd_ffs {R : Type} [Lean.Grind.CommRing R] (x : R) (m : Nat) : qd_ff x (m + 1) = (x - qs_nat m) * qd_ff x m := rfl
theorem qd_Nval {R : Type} [Lean.Grind.CommRing R] (x : R) (m : Nat) (hm : m < 63) : qe_val (qd_N m) x 63 = qd_ff x m := by
  induction m with
  | zero =>
    show qs_sm (fun i => qp_c 1 i * qs_pw x i) 63 = 1
    rw [qs_pick (k := 0) (by omega)]
    · show (if 0 = 0 then (1 : R) else 0) * qs_pw x 0 = 1
      rw [if_pos rfl, qs_pw0]
      grobner
    · intro i hi h0
      show (if i = 0 then (1 : R) else 0) * qs_pw x i = 0
      rw [if_neg h0]
      grobner
  | succ m ih =>
    show qe_val (qp_mul (qd_l m) (qd_N m)) x 63 = (x - qs_nat m) * qd_ff x m
    rw [qe_mul, ih (by omega)]
    · have e : qe_val (qd_l m) x 63 = x - qs_nat m := by
        show qs_sm (fun i => qd_l m i * qs_pw x i) 63 = _
        rw [qs_ext (m := 2) (by omega), qs_sms, qs_sms, qs_sm0]
        · show 0 + (- qs_nat m) * qs_pw x 0 + 1 * qs_pw x 1 = _
          rw [qs_pw0, qs_pw1]
          grobner
        · intro i h1 h2
          show (if i = 0 then - qs_nat m else if i = 1 then (1 : R) else 0) * qs_pw x i = 0
          rw [if_neg (by omega), if_neg (by omega)]
          grobner
      rw [e]
    · intro i j hi hj hij
      by_cases h : m < j
      · rw [(qd_Nsup m).1 j h]
        grobner
      · show (if i = 0 then - qs_nat m else if i = 1 then (1 : R) else 0) * qd_N m j = 0
        rw [if_neg (by omega), if_neg (by omega)]
        grobner
theorem qd_val {R : Type} [Lean.Grind.CommRing R] {h b : Nat → R} (hb : ∀ i, h i = qs_sm (fun m => b m * qd_N m i) 63) (x : R) : qe_val h x 63 = qs_sm (fun m => b m * qd_ff x m) 63 := by
  have e1 : qe_val h x 63 = qs_sm (fun i => qs_sm (fun m => (fun i m => b m * (qd_N m i * qs_pw x i)) i m) 63) 63 := by
    apply qs_congr
    intro i hi
    show h i * qs_pw x i = _
    rw [hb i, ← qs_mulR]
    apply qs_congr
    intro m hm
    grobner
  rw [e1, qs_swap (fun i m => b m * (qd_N m i * qs_pw x i))]
  apply qs_congr
  intro m hm
  rw [← qd_Nval x m hm]
  show qs_sm (fun i => b m * (qd_N m i * qs_pw x i)) 63 = _
  rw [qs_mulL]
  rfl
/-- m (m - 1) .. (m - k + 1) -/
def qd_P : Nat → Nat → Nat
  | _, 0 => 1
  | m, k + 1 => qd_P m k * (m - k)
theorem qd_Ps (m k : Nat) : qd_P m (k + 1) = qd_P m k * (m - k) := rfl
theorem qd_PP (m k : Nat) : qd_P (m + 1) (k + 1) = (m + 1) * qd_P m k := by
  induction k with
  | zero => show 1 * (m + 1 - 0) = (m + 1) * 1; omega
  | succ k ih => rw [qd_Ps, ih, qd_Ps, show m + 1 - (k + 1) = m - k by omega, Nat.mul_assoc]
theorem qd_P0 (m k : Nat) (h : m < k) : qd_P m k = 0 := by
  obtain ⟨d, rfl⟩ := Nat.exists_eq_add_of_lt h
  induction d with
  | zero =>
    show qd_P m m * (m - m) = 0
    rw [Nat.sub_self, Nat.mul_zero]
  | succ d ih =>
    rw [show m + (d + 1) + 1 = (m + d + 1) + 1 by omega, qd_Ps, ih (by omega), Nat.zero_mul]
theorem qs_natM {R : Type} [Lean.Grind.CommRing R] (a b : Nat) : (qs_nat (a * b) : R) = qs_nat a * qs_nat b := by
  induction b with
  | zero =>
    rw [Nat.mul_zero, qs_nat0]
    grobner
  | succ b ih =>
    rw [Nat.mul_succ, qs_natA, ih, qs_nats]
    grobner
theorem qd_ffd {R : Type} [Lean.Grind.CommRing R] (y : R) (j : Nat) : qd_ff (y + 1) j - qd_ff y j = qs_nat j * qd_ff y (j - 1) ∧ qd_ff (y + 1) (j + 1) = (y + 1) * qd_ff y j := by
  induction j with
  | zero =>
    constructor
    · show (1 : R) - 1 = 0 * _
      grobner
    · show (y + 1 - 0) * 1 = (y + 1) * (1 : R)
      grobner
  | succ j ih =>
    have e2 : qd_ff (y + 1) (j + 1 + 1) = (y + 1) * qd_ff y (j + 1) := by
      rw [qd_ffs, ih.2, qd_ffs, qs_nats]
      grobner
    refine ⟨?_, e2⟩
    rw [ih.2, qd_ffs, show j + 1 - 1 = j by omega, qs_nats]
    grobner
/-- differences of order k -/
def qd_E {R : Type} [Lean.Grind.CommRing R] (b : Nat → R) (k : Nat) (y : R) : R := qs_sm (fun m => b m * (qs_nat (qd_P m k) * qd_ff y (m - k))) 63
theorem qd_E0 {R : Type} [Lean.Grind.CommRing R] (b : Nat → R) (y : R) : qd_E b 0 y = qs_sm (fun m => b m * qd_ff y m) 63 := by
  apply qs_congr
  intro m hm
  show b m * (qs_nat 1 * qd_ff y (m - 0)) = _
  rw [qs_nat1, Nat.sub_zero]
  grobner
theorem qd_Es {R : Type} [Lean.Grind.CommRing R] (b : Nat → R) (k : Nat) (y : R) : qd_E b k (y + 1) - qd_E b k y = qd_E b (k + 1) y := by
  show qs_sm (fun m => b m * (qs_nat (qd_P m k) * qd_ff (y + 1) (m - k))) 63 - qs_sm (fun m => b m * (qs_nat (qd_P m k) * qd_ff y (m - k))) 63 = qs_sm (fun m => b m * (qs_nat (qd_P m (k + 1)) * qd_ff y (m - (k + 1)))) 63
  rw [← qs_sub]
  apply qs_congr
  intro m hm
  have e := (qd_ffd y (m - k)).1
  rw [qd_Ps, qs_natM, show m - (k + 1) = m - k - 1 by omega]
  grobner
theorem qd_ff0 {R : Type} [Lean.Grind.CommRing R] (j : Nat) : (qd_ff 0 (j + 1) : R) = 0 := by
  induction j with
  | zero =>
    show (0 - 0) * (1 : R) = 0
    grobner
  | succ j ih =>
    rw [qd_ffs, ih]
    grobner
/-- 1 / k! -/
def qd_if {R : Type} [Lean.Grind.CommRing R] (inv : Nat → R) : Nat → R
  | 0 => 1
  | k + 1 => qd_if inv k * inv (k + 1)
theorem qd_Pif {R : Type} [Lean.Grind.CommRing R] (inv : Nat → R) (hi : ∀ i, 0 < i → i < 64 → qs_nat i * inv i = 1) (k : Nat) (hk : k < 64) : qs_nat (qd_P k k) * qd_if inv k = 1 := by
  induction k with
  | zero =>
    show (0 + 1) * (1 : R) = 1
    grobner
  | succ k ih =>
    have e1 := ih (by omega)
    have e2 := hi (k + 1) (by omega) hk
    show qs_nat (qd_P (k + 1) (k + 1)) * (qd_if inv k * inv (k + 1)) = 1
    rw [qd_PP, qs_natM]
    generalize (qs_nat (qd_P k k) : R) = p at e1
    generalize (qs_nat (k + 1) : R) = q at e2
    grobner
theorem qd_Ek {R : Type} [Lean.Grind.CommRing R] (inv b : Nat → R) (hi : ∀ i, 0 < i → i < 64 → qs_nat i * inv i = 1) (k : Nat) (hk : k < 63) : qd_if inv k * qd_E b k 0 = b k := by
  have e : qd_E b k 0 = b k * (qs_nat (qd_P k k) * qd_ff 0 (k - k)) := by
    show qs_sm (fun m => b m * (qs_nat (qd_P m k) * qd_ff 0 (m - k))) 63 = _
    rw [qs_pick (k := k) hk]
    intro m hm hmk
    by_cases h : m < k
    · rw [qd_P0 m k h, qs_nat0]
      grobner
    · obtain ⟨d, hd⟩ := Nat.exists_eq_add_of_lt (show k < m by omega)
      rw [show m - k = d + 1 by omega, qd_ff0]
      grobner
  have e2 := qd_Pif inv hi k (by omega)
  rw [e, Nat.sub_self]
  show qd_if inv k * (b k * (qs_nat (qd_P k k) * 1)) = b k
  grobner
/-- putting together, from the last point on; n points are done -/
def qd_Q {R : Type} [Lean.Grind.CommRing R] (b : Nat → R) : Nat → Nat → R
  | 0 => qp_c 0
  | n + 1 => fun i => if i = 0 then b (62 - n) - qd_Q b n 0 * qs_nat (62 - n) else qd_Q b n (i - 1) - qd_Q b n i * qs_nat (62 - n)
theorem qd_Qs {R : Type} [Lean.Grind.CommRing R] (b : Nat → R) (n : Nat) : qd_Q b (n + 1) = qp_add (qp_c (b (62 - n))) (qp_mul (qd_l (62 - n)) (qd_Q b n)) := by
  funext i
  show (if i = 0 then b (62 - n) - qd_Q b n 0 * qs_nat (62 - n) else qd_Q b n (i - 1) - qd_Q b n i * qs_nat (62 - n)) = (if i = 0 then b (62 - n) else 0) + qp_mul (qd_l (62 - n)) (qd_Q b n) i
  rw [qd_lmul]
  by_cases h : i = 0
  · rw [if_pos h, if_pos h, if_pos h, h]
    grobner
  · rw [if_neg h, if_neg h, if_neg h]
    grobner
theorem qa_Q {A : Type} [Lean.Grind.CommRing A] (N b l Q : A) : b * N + (l * N) * Q = N * (b + l * Q) := by
  grobner
theorem qd_Qinv {R : Type} [Lean.Grind.CommRing R] (b : Nat → R) (n : Nat) (hn : n ≤ 63) (i : Nat) : qs_sm (fun m => b m * qd_N m i) (63 - n) + qp_mul (qd_N (63 - n)) (qd_Q b n) i = qs_sm (fun m => b m * qd_N m i) 63 := by
  induction n with
  | zero =>
    show qs_sm (fun m => b m * qd_N m i) 63 + qp_mul (qd_N 63) (qp_c 0) i = _
    rw [qp_comm, qp_zeroM, qp_c0]
    grobner
  | succ n ih =>
    rw [← ih (by omega), qd_Qs, show 63 - n = (63 - (n + 1)) + 1 by omega, qs_sms, show 62 - n = 63 - (n + 1) by omega]
    have e := congrFun (@qa_Q _ (qp_ring R) (qd_N (63 - (n + 1))) (qp_c (b (63 - (n + 1)))) (qd_l (63 - (n + 1))) (qd_Q b n)) i
    have e' : qp_mul (qp_c (b (63 - (n + 1)))) (qd_N (63 - (n + 1))) i + qp_mul (qd_N (63 - (n + 1) + 1)) (qd_Q b n) i = qp_mul (qd_N (63 - (n + 1))) (qp_add (qp_c (b (63 - (n + 1)))) (qp_mul (qd_l (63 - (n + 1))) (qd_Q b n))) i := e
    rw [← e', qp_cmul]
    grobner
theorem qd_Qend {R : Type} [Lean.Grind.CommRing R] {b h : Nat → R} (hb : ∀ i, h i = qs_sm (fun m => b m * qd_N m i) 63) (i : Nat) : qd_Q b 63 i = h i := by
  have e := qd_Qinv b 63 (by omega) i
  rw [← hb i, show 63 - 63 = 0 by omega, qs_sm0] at e
  have e2 : qp_mul (qd_N 0) (qd_Q b 63) = qd_Q b 63 := qp_one _
  rw [e2] at e
  rw [← e]
  grobner
end
section
/-! the field of 12289 numbers, and ints that hold them -/
abbrev qf_F : Type := Fin 12289
def qf_i (x : qf_F) : Int32 := nI x.val
def qf_of (n : Nat) : qf_F := Fin.ofNat 12289 n
theorem qf_ofv (n : Nat) : (qf_of n).val = n % 12289 := rfl
theorem qf_add (x y : qf_F) : (x + y).val = (x.val + y.val) % 12289 := Fin.val_add x y
theorem qf_mulv (x y : qf_F) : (x * y).val = x.val * y.val % 12289 := Fin.val_mul x y
theorem qf_subv (x y : qf_F) : (x - y).val = (12289 - y.val + x.val) % 12289 := rfl
theorem qf_lt (x : qf_F) : x.val < 12289 := x.isLt
theorem qf_b (x y : qf_F) : x.val * y.val ≤ 150994944 := by
  have a := qf_lt x
  have b := qf_lt y
  have c : x.val * y.val ≤ 12288 * 12288 := Nat.mul_le_mul (by omega) (by omega)
  omega
theorem qf_inj {x y : qf_F} (h : qf_i x = qf_i y) : x = y := by
  have a := qf_lt x
  have b := qf_lt y
  exact Fin.ext ((nI_eq (by omega) (by omega)).mp h)
/-- the form that '% PRIME' takes -/
theorem qf_red {n : Nat} (h : n < 2 ^ 31) {x : qf_F} (hx : x.val = n % 12289) : nI n - nI n / 12289 * 12289 = qf_i x := by
  show _ = nI x.val
  rw [hx]
  exact pk_rem h (by decide) (by decide)
theorem qf_mul (x y : qf_F) : qf_i x * qf_i y - qf_i x * qf_i y / 12289 * 12289 = qf_i (x * y) := by
  have a := qf_b x y
  show nI x.val * nI y.val - nI x.val * nI y.val / 12289 * 12289 = _
  rw [pk_mul]
  exact qf_red (by omega) (qf_mulv x y)
theorem qf_madd (x y z : qf_F) : (qf_i x * qf_i y + qf_i z) - (qf_i x * qf_i y + qf_i z) / 12289 * 12289 = qf_i (x * y + z) := by
  have a := qf_b x y
  have b := qf_lt z
  show (nI x.val * nI y.val + nI z.val) - (nI x.val * nI y.val + nI z.val) / 12289 * 12289 = _
  rw [pk_mul, nI_add]
  exact qf_red (by omega) (by rw [qf_add, qf_mulv]; omega)
theorem qf_addm (z x y : qf_F) : (qf_i z + qf_i x * qf_i y) - (qf_i z + qf_i x * qf_i y) / 12289 * 12289 = qf_i (z + x * y) := by
  have a := qf_b x y
  have b := qf_lt z
  show (nI z.val + nI x.val * nI y.val) - (nI z.val + nI x.val * nI y.val) / 12289 * 12289 = _
  rw [pk_mul, nI_add]
  exact qf_red (by omega) (by rw [qf_add, qf_mulv]; omega)
theorem qf_addr (x y : qf_F) : (qf_i x + qf_i y) - (qf_i x + qf_i y) / 12289 * 12289 = qf_i (x + y) := by
  have a := qf_lt x
  have b := qf_lt y
  show (nI x.val + nI y.val) - (nI x.val + nI y.val) / 12289 * 12289 = _
  rw [nI_add]
  exact qf_red (by omega) (qf_add x y)
theorem qf_lin3 (x y z : qf_F) : ((qf_i x + 2 * qf_i y) + 4 * qf_i z) - ((qf_i x + 2 * qf_i y) + 4 * qf_i z) / 12289 * 12289 = qf_i ((x + 2 * y) + 4 * z) := by
  have a := qf_lt x
  have b := qf_lt y
  have c := qf_lt z
  have e : (qf_i x + 2 * qf_i y) + 4 * qf_i z = nI (x.val + 2 * y.val + 4 * z.val) := by
    show (nI x.val + nI 2 * nI y.val) + nI 4 * nI z.val = _
    rw [pk_mul, pk_mul, nI_add, nI_add]
  rw [e]
  refine qf_red (by omega) ?_
  rw [qf_add, qf_add, qf_mulv, qf_mulv]
  show (((x.val + 2 * y.val % 12289) % 12289) + 4 * z.val % 12289) % 12289 = _
  omega
theorem qf_lin16 (x y z : qf_F) : ((qf_i x + 4 * qf_i y) + 16 * qf_i z) - ((qf_i x + 4 * qf_i y) + 16 * qf_i z) / 12289 * 12289 = qf_i ((x + 4 * y) + 16 * z) := by
  have a := qf_lt x
  have b := qf_lt y
  have c := qf_lt z
  have e : (qf_i x + 4 * qf_i y) + 16 * qf_i z = nI (x.val + 4 * y.val + 16 * z.val) := by
    show (nI x.val + nI 4 * nI y.val) + nI 16 * nI z.val = _
    rw [pk_mul, pk_mul, nI_add, nI_add]
  rw [e]
  refine qf_red (by omega) ?_
  rw [qf_add, qf_add, qf_mulv, qf_mulv]
  show (((x.val + 4 * y.val % 12289) % 12289) + 16 * z.val % 12289) % 12289 = _
  omega
theorem qf_natv (n : Nat) : (qs_nat n : qf_F).val = n % 12289 := by
  induction n with
  | zero => rfl
  | succ n ih =>
    rw [qs_nats, qf_add, ih]
    show (n % 12289 + 1) % 12289 = (n + 1) % 12289
    omega
theorem qf_nat {n : Nat} (h : n < 12289) : nI n = qf_i (qs_nat n) := by
  show nI n = nI (qs_nat n : qf_F).val
  rw [qf_natv, Nat.mod_eq_of_lt h]
theorem qf_pwv (x : qf_F) (n : Nat) : (qs_pw x n).val = x.val ^ n % 12289 := by
  induction n with
  | zero => rfl
  | succ n ih => rw [qs_pws, qf_mulv, ih, Nat.pow_succ, Nat.mod_mul_mod]
theorem qf_0 : (0 : Int32) = qf_i 0 := rfl
theorem qf_1 : (1 : Int32) = qf_i 1 := rfl
theorem qf_2 : (2 : Int32) = qf_i 2 := rfl
/-! the small methods -/
theorem qf_plus {post : Int32 → Prop} {x y : qf_F} (H : post (qf_i (x + y))) : wpX_plus post () (qf_i x) (qf_i y) := by
  have a := qf_lt x
  have b := qf_lt y
  refine nm_r (show qf_i x + qf_i y = nI (x.val + y.val) from nI_add _ _) ?_
  refine pk_lt (x.val + y.val) 12289 (fun h => ?_) (fun h => ?_)
  · have e : qf_i (x + y) = nI (x.val + y.val) := by
      show nI (x + y).val = _
      rw [qf_add, Nat.mod_eq_of_lt h]
    rw [e] at H
    exact H
  · have e : qf_i (x + y) = nI (x.val + y.val) - 12289 := by
      show nI (x + y).val = nI (x.val + y.val) - nI 12289
      rw [qf_add, pk_sub h, show (x.val + y.val) % 12289 = x.val + y.val - 12289 by omega]
    rw [e] at H
    exact H
theorem qf_minus {post : Int32 → Prop} {x y : qf_F} (H : post (qf_i (x - y))) : wpX_minus post () (qf_i x) (qf_i y) := by
  have a := qf_lt x
  have b := qf_lt y
  refine nm_e ?_
  rcases Nat.lt_or_ge x.val y.val with h | h
  · refine br_f ?_ ?_
    · have g : nI x.val - nI y.val < 0 := pk_sneg (by omega) h
      exact Int32.not_le.mpr g
    · have e : qf_i (x - y) = qf_i x - qf_i y + 12289 := by
        show nI (x - y).val = nI x.val - nI y.val + nI 12289
        rw [qf_subv, show (12289 - y.val + x.val) % 12289 = (x.val + 12289) - y.val by omega, ← pk_sub (by omega), ← nI_add]
        generalize nI x.val = p
        generalize nI y.val = q
        generalize nI 12289 = r
        grind
      rw [e] at H
      exact H
  · have e : qf_i (x - y) = qf_i x - qf_i y := by
      show nI (x - y).val = nI x.val - nI y.val
      rw [qf_subv, pk_sub h, show (12289 - y.val + x.val) % 12289 = x.val - y.val by omega]
    refine br_t ?_ ?_
    · show 0 ≤ nI x.val - nI y.val
      rw [pk_sub h]
      exact nI_pos' (by omega)
    · rw [e] at H
      exact H
/-- the number of an int -/
def qf_Z (z : Int) : qf_F := qf_of (z % 12289).toNat
def qf_z (v : Int32) : qf_F := qf_Z v.toInt
theorem qf_Zn (n : Nat) : qf_Z (n : Int) = qf_of n := by
  apply Fin.ext
  show ((n : Int) % 12289).toNat % 12289 = n % 12289
  omega
theorem qf_Zi (x : qf_F) : qf_Z (x.val : Int) = x := by
  have a := qf_lt x
  rw [qf_Zn]
  apply Fin.ext
  show x.val % 12289 = x.val
  omega
theorem qf_iI (x : qf_F) : (qf_i x).toInt = (x.val : Int) := nI_toInt (by have := qf_lt x; omega)
theorem qf_zi (x : qf_F) : qf_z (qf_i x) = x := by
  show qf_Z (qf_i x).toInt = x
  rw [qf_iI, qf_Zi]
theorem qf_Zval (z : Int) : ((qf_Z z).val : Int) = z % 12289 := by
  show (((z % 12289).toNat % 12289 : Nat) : Int) = _
  omega
theorem qf_rem32 (x y : Int32) : (x - (x / y) * y).toInt = x.toInt.tmod y.toInt := by
  have a := (x % y).toInt_lt
  have b := (x % y).le_toInt
  rw [Int32.toInt_mod] at a b
  rw [Int32.toInt_sub, Int32.toInt_mul, Int32.toInt_div, Int.bmod_mul_bmod, Int.sub_bmod_bmod, Int.mul_comm, ← Int.tmod_def]
  exact Jvm.Kit.bmod32 b a
theorem qf_tmod (z : Int) : (0 ≤ z.tmod 12289 → z.tmod 12289 = z % 12289) ∧ (z.tmod 12289 < 0 → z.tmod 12289 + 12289 = z % 12289) ∧ -12289 < z.tmod 12289 ∧ z.tmod 12289 < 12289 := by
  have e := Int.tmod_def z 12289
  have h : z = 12289 * z.tdiv 12289 + z.tmod 12289 := by omega
  have l1 : z.tmod 12289 < 12289 := Int.tmod_lt_of_pos z (by omega)
  have l2 : -12289 < z.tmod 12289 := by
    have := Int.tmod_lt_of_pos (-z) (b := 12289) (by omega)
    rw [Int.neg_tmod] at this
    omega
  generalize z.tdiv 12289 = d at h
  generalize z.tmod 12289 = r at h l1 l2
  refine ⟨fun q => ?_, fun q => ?_, l2, l1⟩ <;> omega
theorem qf_normal {post : Int32 → Prop} (v : Int32) (H : post (qf_i (qf_z v))) : wpX_normal post () v := by
  have t := qf_tmod v.toInt
  have e : (v - v / 12289 * 12289).toInt = v.toInt.tmod 12289 := qf_rem32 v 12289
  refine ⟨by decide, nm_e ?_⟩
  by_cases h : 0 ≤ v.toInt.tmod 12289
  · refine br_t (Jvm.Kit.i32_nonneg.mpr (by rw [e]; exact h)) ?_
    have e2 : v - v / 12289 * 12289 = qf_i (qf_z v) := by
      apply Int32.toInt_inj.mp
      rw [e, qf_iI, t.1 h]
      exact (qf_Zval v.toInt).symm
    rw [e2]
    exact H
  · refine br_f (fun z => h (by rw [← e]; exact Jvm.Kit.i32_nonneg.mp z)) ?_
    have e2 : v - v / 12289 * 12289 + 12289 = qf_i (qf_z v) := by
      apply Int32.toInt_inj.mp
      have c : (12289 : Int32).toInt = 12289 := by decide
      rw [Jvm.Kit.i32_add (by rw [e, c]; omega) (by rw [e, c]; omega), e, c, qf_iI, t.2.1 (by omega)]
      exact (qf_Zval v.toInt).symm
    rw [e2]
    exact H
theorem qf_mod {post : Int32 → Prop} (v : Int64) (H : post (qf_i (qf_Z v.toInt))) : wpL_mod post () v := by
  have t := qf_tmod v.toInt
  have e : (v - v / 12289 * 12289).toInt = v.toInt.tmod 12289 := Jvm.Kit.i64_rem v 12289
  refine ⟨by decide, nm_e ?_⟩
  by_cases h : 0 ≤ v.toInt.tmod 12289
  · refine br_t (Jvm.Kit.i64_nonneg.mpr (by rw [e]; exact h)) ?_
    have e2 : (v - v / 12289 * 12289).toInt32 = qf_i (qf_Z v.toInt) := by
      apply Int32.toInt_inj.mp
      rw [Jvm.Kit.i32_of_i64 (by rw [e]; omega) (by rw [e]; omega), e, qf_iI, t.1 h]
      exact (qf_Zval v.toInt).symm
    first | exact e2 ▸ H | (rw [e2]; exact H)
  · refine br_f (fun z => h (by rw [← e]; exact Jvm.Kit.i64_nonneg.mp z)) ?_
    have c : (12289 : Int64).toInt = 12289 := by decide
    have e3 : (v - v / 12289 * 12289 + 12289).toInt = v.toInt.tmod 12289 + 12289 := by
      rw [Jvm.Kit.i64_add (by rw [e, c]; omega) (by rw [e, c]; omega), e, c]
    have e2 : (v - v / 12289 * 12289 + 12289).toInt32 = qf_i (qf_Z v.toInt) := by
      apply Int32.toInt_inj.mp
      rw [Jvm.Kit.i32_of_i64 (by rw [e3]; omega) (by rw [e3]; omega), e3, qf_iI, t.2.1 (by omega)]
      exact (qf_Zval v.toInt).symm
    first | exact e2 ▸ H | (rw [e2]; exact H)
theorem qf_ofA (x y : qf_F) : qf_Z ((x.val : Int) + (y.val : Int)) = x + y := by
  have e : ((x.val : Int) + (y.val : Int)) = ((x.val + y.val : Nat) : Int) := by omega
  rw [e, qf_Zn]
  exact Fin.ext (qf_add x y).symm
theorem qf_ofM (x y : qf_F) : qf_Z ((x.val : Int) * (y.val : Int)) = x * y := by
  have e : ((x.val : Int) * (y.val : Int)) = ((x.val * y.val : Nat) : Int) := by
    rw [Int.natCast_mul]
  rw [e, qf_Zn]
  exact Fin.ext (qf_mulv x y).symm
/-! powers -/
theorem qf_power {post : Int32 → Prop} {x : qf_F} {e : Nat} (he : e < 2 ^ 31) (H : post (qf_i (qs_pw x e))) : wpX_power post () (qf_i x) (nI e) := by
  refine lp3 (wX_power_7 post) (fun a b c => ∃ (r y : qf_F) (k : Nat), a = qf_i r ∧ b = qf_i y ∧ c = nI k ∧ k < 2 ^ 31 ∧ r * qs_pw y k = qs_pw x e) (fun a b c => c.toNatClampNeg) ?_ _ _ _ ⟨1, x, e, rfl, rfl, rfl, he, by grobner⟩
  rintro n a b c ⟨r, y, k, rfl, rfl, rfl, hk, hI⟩ hw
  have key : ∀ (z : qf_F), 0 < k → z * qs_pw (y * y) (k / 2) = qs_pw x e → wX_power_30 post (wX_power_7 post n) (qf_i y) (nI k) (qf_i z) := by
    intro z h0 hz
    refine ⟨by decide, nm_r (qf_mul y y) (nm_r (pk_shrN hk _ 1 (by decide)) ?_)⟩
    refine hw _ _ _ ⟨z, y * y, k / 2 ^ 1, rfl, rfl, rfl, by omega, hz⟩ ?_
    show (nI (k / 2 ^ 1)).toNatClampNeg < (nI k).toNatClampNeg
    rw [nI_clamp (by omega), nI_clamp hk]
    omega
  have split : qs_pw y k = qs_pw (y * y) (k / 2) * qs_pw y (k % 2) := by
    have e1 : qs_pw (y * y) (k / 2) = qs_pw y (2 * (k / 2)) := by
      rw [qs_pwM]
      congr 1
      show y * y = 1 * y * y
      grobner
    rw [e1, ← qs_pwA, show 2 * (k / 2) + k % 2 = k by omega]
  refine pk_le k 0 (fun h => ?_) (fun h => ?_)
  · have k0 : k = 0 := by omega
    subst k0
    have e1 : r = qs_pw x e := by
      rw [← hI, qs_pw0]
      grobner
    rw [e1]
    exact H
  · have e1 : nI k &&& 1 = nI (k % 2 ^ 1) := pk_andN (by omega) 1 (by decide)
    rw [e1]
    refine pk_eq (k % 2 ^ 1) 0 (fun h2 => key r h ?_) (fun h2 => ⟨by decide, ?_⟩)
    · rw [← hI, split, show k % 2 = 0 by omega, qs_pw0]
      grobner
    · rw [qf_mul]
      refine key (r * y) h ?_
      rw [← hI, split, show k % 2 = 1 by omega, qs_pw1]
      grobner
/-! inverses -/
theorem qf_fermatN : ∀ q, q < 111 → ∀ r, r < 111 → 111 * q + r = 0 ∨ 12289 ≤ 111 * q + r ∨ (111 * q + r) ^ 12288 % 12289 = 1 := by
  decide +kernel
theorem qf_fermat {x : qf_F} (hx : x ≠ 0) : x * qs_pw x 12287 = 1 := by
  have a := qf_lt x
  have h := qf_fermatN (x.val / 111) (by omega) (x.val % 111) (by omega)
  rw [show 111 * (x.val / 111) + x.val % 111 = x.val by omega] at h
  rcases h with h | h | h
  · exact absurd (Fin.ext h) hx
  · omega
  · apply Fin.ext
    have e : x * qs_pw x 12287 = qs_pw x 12288 := by
      show x * qs_pw x 12287 = qs_pw x 12287 * x
      grobner
    rw [e, qf_pwv, h]
    rfl
theorem qf_nz {i : Nat} (h0 : 0 < i) (h : i < 12289) : (qs_nat i : qf_F) ≠ 0 := by
  intro e
  have e2 := congrArg Fin.val e
  rw [qf_natv] at e2
  have e3 : (0 : qf_F).val = 0 := rfl
  omega
def qf_inv (i : Nat) : qf_F := qs_pw (qs_nat i) 12287
theorem qf_invM (i : Nat) (h0 : 0 < i) (h : i < 64) : qs_nat i * qf_inv i = 1 := qf_fermat (qf_nz h0 (by omega))
theorem qf_inv1 : qf_inv 1 = 1 := by
  show qs_pw (qs_nat 1) 12287 = (1 : qf_F)
  rw [qs_nat1, qs_pwO]
theorem qf_pnz : qp_nz qf_F := by
  intro i h0 h a e
  have e1 := qf_invM i h0 (by omega)
  generalize (qs_nat i : qf_F) = q at e e1
  generalize qf_inv i = r at e1
  grobner
def qf_fac : Nat → qf_F
  | 0 => 1
  | i + 1 => qf_fac i * qs_nat (i + 1)
def qf_ifac : Nat → qf_F
  | 0 => 1
  | i + 1 => qf_ifac i * qf_inv (i + 1)
theorem qf_ifacs (i : Nat) (h : i < 31) : qs_nat (i + 1) * qf_ifac (i + 1) = qf_ifac i := by
  have e1 := qf_invM (i + 1) (by omega) (by omega)
  show qs_nat (i + 1) * (qf_ifac i * qf_inv (i + 1)) = qf_ifac i
  generalize (qs_nat (i + 1) : qf_F) = q at e1
  generalize qf_inv (i + 1) = r at e1
  grobner
theorem qf_h2 : 2 * qf_inv 2 = 1 := by
  have e := qf_invM 2 (by omega) (by omega)
  rw [qs_nat2] at e
  exact e
theorem qf_h3 : 3 * qf_inv 3 = 1 := by
  have e := qf_invM 3 (by omega) (by omega)
  rw [qs_nats, qs_nat2] at e
  generalize qf_inv 3 = r at e
  grobner
theorem qf_h32 : 32 * qf_inv 32 = 1 := by
  have e := qf_invM 32 (by omega) (by omega)
  have e2 : (qs_nat 32 : qf_F) = 32 := Fin.ext (qf_natv 32)
  rw [e2] at e
  exact e
/-! the root of one -/
def qf_w : qf_F := 7311
def qf_v : qf_F := 9650
theorem qf_w1 : qs_pw (11 : qf_F) 192 = qf_w := by
  apply Fin.ext
  rw [qf_pwv]
  show 11 ^ 192 % 12289 = 7311
  decide +kernel
theorem qf_v1 : qs_pw qf_w 63 = qf_v := by
  apply Fin.ext
  rw [qf_pwv]
  show 7311 ^ 63 % 12289 = 9650
  decide +kernel
theorem qf_w32 : qs_pw qf_w 32 = -1 := by
  apply Fin.ext
  rw [qf_pwv]
  show 7311 ^ 32 % 12289 = 12288
  decide +kernel
theorem qf_v32 : qs_pw qf_v 32 = -1 := by
  apply Fin.ext
  rw [qf_pwv]
  show 9650 ^ 32 % 12289 = 12288
  decide +kernel
theorem qf_wv : qf_w * qf_v = 1 := by
  apply Fin.ext
  rw [qf_mulv]
  show 7311 * 9650 % 12289 = 1
  decide +kernel
theorem qf_tabN : ∀ m, m < 64 → ∀ n, n < 64 → m = n ∨ (7311 ^ m % 12289) * (9650 ^ n % 12289) % 12289 ≠ 1 := by
  decide +kernel
theorem qf_tab : ∀ m n, m < 64 → n < 64 → m ≠ n → ∃ u : qf_F, u * (qs_pw qf_w m * qs_pw qf_v n - 1) = 1 := by
  intro m n hm hn hmn
  have h : qs_pw qf_w m * qs_pw qf_v n - 1 ≠ 0 := by
    intro e
    have e1 : qs_pw qf_w m * qs_pw qf_v n = 1 := by
      generalize qs_pw qf_w m * qs_pw qf_v n = z at e
      grobner
    have e2 := congrArg Fin.val e1
    rw [qf_mulv, qf_pwv, qf_pwv] at e2
    rcases qf_tabN m hm n hn with h | h
    · exact hmn h
    · exact h e2
  refine ⟨qs_pw (qs_pw qf_w m * qs_pw qf_v n - 1) 12287, ?_⟩
  have e := qf_fermat h
  generalize qs_pw qf_w m * qs_pw qf_v n - 1 = z at e
  generalize qs_pw z 12287 = y at e
  grobner
theorem qf_w64 : qs_pw qf_w 64 = 1 := by
  rw [show 64 = 32 + 32 by rfl, qs_pwA, qf_w32]
  grobner
end
section
/-! the picture of the rows and of the tables -/
abbrev qw_K : Type := (Nat → Int32) → (Nat → Int32) → (Nat → Int32) → (Nat → Int32) → (Nat → Int32) → (Nat → Int32) → (Nat → Int32) → (Nat → Int32) → (Nat → Int32) → (Nat → Int32) → (Nat → Int32) → (Nat → Int32) → (Nat → Int32) → (Nat → Int32) → (Nat → Int32) → Prop
def qw_rows (R : Nat → Nat → qf_F) (a : Nat → Int32) : Prop := ∀ r i, r < 12 → i < 32 → a (32 * r + i) = qf_i (R r i)
def qw_tab (a2 a3 a4 : Nat → Int32) : Prop := (∀ i, 0 < i → i < 64 → a2 i = qf_i (qf_inv i)) ∧ (∀ i, i < 32 → a3 i = qf_i (qf_fac i)) ∧ (∀ i, i < 32 → a4 i = qf_i (qf_ifac i))
def qw_ok (R : Nat → Nat → qf_F) (u : St1) : Prop := qw_rows R u.1 ∧ qw_tab u.2.1 u.2.2.1 u.2.2.2.1
/-- row r holds f below k -/
def qw_part (R : Nat → Nat → qf_F) (r : Nat) (f : Nat → qf_F) (k : Nat) : Nat → Nat → qf_F := fun r' i => if r' = r ∧ i < k then f i else R r' i
def qw_set (R : Nat → Nat → qf_F) (r : Nat) (f : Nat → qf_F) : Nat → Nat → qf_F := fun r' => if r' = r then f else R r'
theorem qw_partN {R : Nat → Nat → qf_F} {r k r' i : Nat} {f : Nat → qf_F} (h : ¬ (r' = r ∧ i < k)) : qw_part R r f k r' i = R r' i := if_neg h
theorem qw_partP {R : Nat → Nat → qf_F} {r k i : Nat} {f : Nat → qf_F} (h : i < k) : qw_part R r f k r i = f i := if_pos ⟨rfl, h⟩
theorem qw_setP {R : Nat → Nat → qf_F} {r : Nat} {f : Nat → qf_F} : qw_set R r f r = f := if_pos rfl
theorem qw_setN {R : Nat → Nat → qf_F} {r r' : Nat} {f : Nat → qf_F} (h : r' ≠ r) : qw_set R r f r' = R r' := if_neg h
theorem qw_cong {R R' : Nat → Nat → qf_F} {a : Nat → Int32} (h : qw_rows R a) (e : ∀ r, r < 12 → qp_e 32 (R' r) (R r)) : qw_rows R' a := by
  intro r i hr hi
  rw [h r i hr hi, e r hr i hi]
theorem qw_part0 {R : Nat → Nat → qf_F} {a : Nat → Int32} {r : Nat} {f : Nat → qf_F} (h : qw_rows R a) : qw_rows (qw_part R r f 0) a := by
  intro r' i hr hi
  rw [h r' i hr hi, qw_partN (by omega)]
theorem qw_part32 {R : Nat → Nat → qf_F} {a : Nat → Int32} {r : Nat} {f : Nat → qf_F} (h : qw_rows (qw_part R r f 32) a) : qw_rows (qw_set R r f) a := by
  refine qw_cong h (fun r' _ i hi => ?_)
  by_cases e : r' = r
  · rw [e, qw_setP, qw_partP hi]
  · rw [qw_setN e, qw_partN (fun z => e z.1)]
theorem qw_step {R : Nat → Nat → qf_F} {a : Nat → Int32} {r i : Nat} {f : Nat → qf_F} {v : Int32} (h : qw_rows (qw_part R r f i) a) (hr : r < 12) (hi : i < 32) (hv : v = qf_i (f i)) : qw_rows (qw_part R r f (i + 1)) (upd a (32 * r + i) v) := by
  intro r' j hr' hj
  by_cases e : r' = r ∧ j = i
  · obtain ⟨rfl, rfl⟩ := e
    rw [pk_us, hv, qw_partP (by omega)]
  · rw [pk_un (by omega), h r' j hr' hj]
    by_cases e2 : r' = r ∧ j < i
    · rw [e2.1, qw_partP e2.2, qw_partP (by omega)]
    · rw [qw_partN e2, qw_partN (by omega)]
theorem qw_put {R : Nat → Nat → qf_F} {a : Nat → Int32} {r i : Nat} {x : qf_F} {v : Int32} (h : qw_rows R a) (hr : r < 12) (hi : i < 32) (hv : v = qf_i x) : qw_rows (qw_set R r (fun j => if j = i then x else R r j)) (upd a (32 * r + i) v) := by
  intro r' j hr' hj
  by_cases e : r' = r ∧ j = i
  · obtain ⟨rfl, rfl⟩ := e
    rw [pk_us, hv, qw_setP, if_pos rfl]
  · rw [pk_un (by omega), h r' j hr' hj]
    by_cases e2 : r' = r
    · rw [e2, qw_setP, if_neg (fun z => e ⟨e2, z⟩)]
    · rw [qw_setN e2]
theorem qw_ix (r i : Nat) : nI r * 32 + nI i = nI (32 * r + i) := by
  show nI r * nI 32 + nI i = _
  rw [pk_mul, nI_add, Nat.mul_comm]
theorem qw_cl {r i : Nat} (hr : r < 12) (hi : i < 32) : (nI r * 32 + nI i).toNatClampNeg = 32 * r + i := pk_cl (32 * r + i) (qw_ix r i)
theorem qw_in {r i : Nat} (hr : r < 12) (hi : i < 32) : vp_in (nI r * 32 + nI i) 384 := pk_in (32 * r + i) 384 (by omega) (qw_ix r i)
theorem qw_at {R : Nat → Nat → qf_F} {a : Nat → Int32} {r i : Nat} (h : qw_rows R a) (hr : r < 12) (hi : i < 32) : a (nI r * 32 + nI i).toNatClampNeg = qf_i (R r i) := by
  rw [qw_cl hr hi]
  exact h r i hr hi
/-- a place of a row whose number is a literal -/
theorem qw_kin {i : Nat} (k : Nat) (c : Int32) (hc : c = nI (32 * k)) (hk : k < 12) (hi : i < 32) : vp_in (c + nI i) 384 := pk_in (32 * k + i) 384 (by omega) (by rw [hc, nI_add])
theorem qw_kat {R : Nat → Nat → qf_F} {a : Nat → Int32} {i : Nat} (k : Nat) (c : Int32) (hc : c = nI (32 * k)) (h : qw_rows R a) (hk : k < 12) (hi : i < 32) : a (c + nI i).toNatClampNeg = qf_i (R k i) := by
  rw [pk_cl (x := c + nI i) (32 * k + i) (by rw [hc, nI_add])]
  exact h k i hk hi
theorem qw_cell {post : Int32 → Prop} {R : Nat → Nat → qf_F} {u : St1} {r i : Nat} (hr : r < 12) (hi : i < 32) (h : qw_rows R u.1) (H : post (qf_i (R r i))) : wpX_cell post u (nI r) (nI i) := by
  obtain ⟨a1, a2, a3, a4, a5, a6, a7, a8, a9, a10, a11, a12, a13, a14, a15⟩ := u
  exact ⟨qw_in hr hi, ek_v (P := post) (qw_at h hr hi) H⟩
theorem qw_write {post : St1 → Prop} {u : St1} {r i : Nat} {v : Int32} (hr : r < 12) (hi : i < 32) (H : post (upd u.1 (32 * r + i) v, u.2)) : wpX_write post u (nI r) (nI i) v := by
  obtain ⟨a1, a2, a3, a4, a5, a6, a7, a8, a9, a10, a11, a12, a13, a14, a15⟩ := u
  exact ⟨qw_in hr hi, nm_r (by rw [qw_cl hr hi]) H⟩
theorem qw_copyRow {post : St1 → Prop} {R : Nat → Nat → qf_F} {u : St1} {r t : Nat} (hr : r < 12) (ht : t < 12) (h : qw_rows R u.1) (H : ∀ b, qw_rows (qw_set R t (R r)) b → post (b, u.2)) : wpX_copyRow post u (nI r) (nI t) := by
  obtain ⟨a1, a2, a3, a4, a5, a6, a7, a8, a9, a10, a11, a12, a13, a14, a15⟩ := u
  exact pk_loop (fun n i s => wX_copyRow_2 post (nI r) (nI t) n (nI i) s a2 a3 a4 a5 a6 a7 a8 a9 a10 a11 a12 a13 a14 a15) (fun i s => qw_rows (qw_part R t (R r) i) s) 32 0 a1 (by omega) (qw_part0 h)
    (fun n s hs => pk_le 32 32 (fun _ => H s (qw_part32 hs)) (fun z => absurd z (by omega)))
    (fun n i s hi hs hw => pk_le 32 i (fun z => absurd z (by omega)) (fun _ => ⟨qw_in hr hi, qw_in ht hi, nm_r (by rw [qw_cl ht hi]) (nm_r (nI_1 i) (hw _ (qw_step hs ht hi ((qw_at hs hr hi).trans (congrArg qf_i (qw_partN (by omega)))))))⟩))
theorem qw_clearRow {post : St1 → Prop} {R : Nat → Nat → qf_F} {u : St1} {r : Nat} (hr : r < 12) (h : qw_rows R u.1) (H : ∀ b, qw_rows (qw_set R r (fun _ => 0)) b → post (b, u.2)) : wpX_clearRow post u (nI r) := by
  obtain ⟨a1, a2, a3, a4, a5, a6, a7, a8, a9, a10, a11, a12, a13, a14, a15⟩ := u
  exact pk_loop (fun n i s => wX_clearRow_2 post (nI r) n (nI i) s a2 a3 a4 a5 a6 a7 a8 a9 a10 a11 a12 a13 a14 a15) (fun i s => qw_rows (qw_part R r (fun _ => 0) i) s) 32 0 a1 (by omega) (qw_part0 h)
    (fun n s hs => pk_le 32 32 (fun _ => H s (qw_part32 hs)) (fun z => absurd z (by omega)))
    (fun n i s hi hs hw => pk_le 32 i (fun z => absurd z (by omega)) (fun _ => ⟨qw_in hr hi, nm_r (by rw [qw_cl hr hi]; rfl) (nm_r (nI_1 i) (hw _ (qw_step hs hr hi rfl)))⟩))
/-- a row turned around -/
def qw_turn (f : Nat → qf_F) (d : Nat) : Nat → qf_F := fun i => if i ≤ d then f (d - i) else 0
theorem qw_turnRow {post : St1 → Prop} {R : Nat → Nat → qf_F} {u : St1} {r t d : Nat} (hr : r < 12) (ht : t < 12) (hrt : r ≠ t) (hd : d < 32) (h : qw_rows R u.1) (H : ∀ b, qw_rows (qw_set R t (qw_turn (R r) d)) b → post (b, u.2)) : wpX_turnRow post u (nI r) (nI t) (nI d) := by
  obtain ⟨a1, a2, a3, a4, a5, a6, a7, a8, a9, a10, a11, a12, a13, a14, a15⟩ := u
  refine pk_loop (fun n i s => wX_turnRow_3 post (nI r) (nI t) (nI d) n (nI i) s a2 a3 a4 a5 a6 a7 a8 a9 a10 a11 a12 a13 a14 a15) (fun i s => qw_rows (qw_part R t (qw_turn (R r) d) i) s) 32 0 a1 (by omega) (qw_part0 h)
    (fun n s hs => pk_le 32 32 (fun _ => H s (qw_part32 hs)) (fun z => absurd z (by omega)))
    (fun n i s hi hs hw => pk_le 32 i (fun z => absurd z (by omega)) (fun _ => pk_lt d i (fun z => ?_) (fun z => ?_)))
  · refine qw_write (u := (s, a2, a3, a4, a5, a6, a7, a8, a9, a10, a11, a12, a13, a14, a15)) ht hi (nm_r (nI_1 i) (hw _ (qw_step hs ht hi ?_)))
    show qf_i 0 = qf_i (if i ≤ d then R r (d - i) else 0)
    rw [if_neg (by omega)]
  · rw [pk_sub z]
    refine qw_cell (u := (s, a2, a3, a4, a5, a6, a7, a8, a9, a10, a11, a12, a13, a14, a15)) (R := qw_part R t (qw_turn (R r) d) i) hr (show d - i < 32 by omega) hs ?_
    refine qw_write (u := (s, a2, a3, a4, a5, a6, a7, a8, a9, a10, a11, a12, a13, a14, a15)) ht hi (nm_r (nI_1 i) (hw _ (qw_step hs ht hi ?_)))
    show qf_i (qw_part R t (qw_turn (R r) d) i r (d - i)) = qf_i (if i ≤ d then R r (d - i) else 0)
    rw [if_pos z, qw_partN (fun q => hrt q.1)]
/-! degrees -/
def qw_dg (f : Nat → qf_F) : Nat → Nat
  | 0 => 0
  | n + 1 => if f n = 0 then qw_dg f n else n + 1
theorem qw_dgs (f : Nat → qf_F) (n : Nat) : qw_dg f n ≤ n ∧ (∀ i, qw_dg f n ≤ i → i < n → f i = 0) ∧ (0 < qw_dg f n → f (qw_dg f n - 1) ≠ 0) := by
  induction n with
  | zero => exact ⟨Nat.le_refl 0, fun i _ h => absurd h (by omega), fun h => absurd h (by show ¬ 0 < 0; omega)⟩
  | succ n ih =>
    by_cases e : f n = 0
    · have e2 : qw_dg f (n + 1) = qw_dg f n := if_pos e
      rw [e2]
      refine ⟨by omega, fun i h1 h2 => ?_, ih.2.2⟩
      by_cases e3 : i = n
      · rw [e3, e]
      · exact ih.2.1 i h1 (by omega)
    · have e2 : qw_dg f (n + 1) = n + 1 := if_neg e
      rw [e2]
      exact ⟨Nat.le_refl _, fun i h1 h2 => absurd h1 (by omega), fun _ => e⟩
theorem qw_dgc {f g : Nat → qf_F} {n : Nat} (h : qp_e n f g) : qw_dg f n = qw_dg g n := by
  induction n with
  | zero => rfl
  | succ n ih =>
    show (if f n = 0 then qw_dg f n else n + 1) = (if g n = 0 then qw_dg g n else n + 1)
    rw [h n (by omega), ih (fun i hi => h i (by omega))]
theorem qf_eq0 (x : qf_F) {A B : Prop} (f : x = 0 → A) (g : x ≠ 0 → B) : (qf_i x = 0 → A) ∧ (¬ qf_i x = 0 → B) :=
  ⟨fun h => f (qf_inj h), fun h => g (fun z => h (by rw [z]; rfl))⟩
theorem qf_eq1 (x : qf_F) {A B : Prop} (f : x = 1 → A) (g : x ≠ 1 → B) : (qf_i x = 1 → A) ∧ (¬ qf_i x = 1 → B) :=
  ⟨fun h => f (qf_inj h), fun h => g (fun z => h (by rw [z]; rfl))⟩
theorem qw_degreeOf {post : Int32 → Prop} {R : Nat → Nat → qf_F} {u : St1} {r : Nat} (hr : r < 12) (h : qw_rows R u.1) (H : post (nI (qw_dg (R r) 32) + (-1))) : wpX_degreeOf post u (nI r) := by
  obtain ⟨a1, a2, a3, a4, a5, a6, a7, a8, a9, a10, a11, a12, a13, a14, a15⟩ := u
  refine ⟨33, ?_⟩
  refine pk_loopD (σ := Unit) (fun n i _ => wX_degreeOf_3 post (nI r) a1 a2 a3 a4 a5 a6 a7 a8 a9 a10 a11 a12 a13 a14 a15 n (nI i + (-1))) (fun i _ => i ≤ 32 ∧ qw_dg (R r) 32 = qw_dg (R r) i) (fun n _ hI => ?_) (fun n i _ hI hw => ?_) 32 () ⟨by omega, rfl⟩
  · refine br_t (by decide) ?_
    rw [hI.2] at H
    exact H
  · rw [pk_m1]
    refine br_f (nI_pos (by omega)) (qw_cell (u := (a1, a2, a3, a4, a5, a6, a7, a8, a9, a10, a11, a12, a13, a14, a15)) hr (show i < 32 by omega) h (qf_eq0 _ (fun z => nm_e ?_) (fun z => ?_)))
    · refine hw () ⟨by omega, ?_⟩
      rw [hI.2]
      exact if_pos z
    · have e : qw_dg (R r) (i + 1) = i + 1 := if_neg z
      rw [hI.2, e, pk_m1] at H
      exact H
/-! values -/
theorem qw_valueAt {post : Int32 → Prop} {R : Nat → Nat → qf_F} {u : St1} {r : Nat} {x : qf_F} (hr : r < 12) (h : qw_rows R u.1) (H : post (qf_i (qe_val (R r) x 32))) : wpX_valueAt post u (nI r) (qf_i x) := by
  obtain ⟨a1, a2, a3, a4, a5, a6, a7, a8, a9, a10, a11, a12, a13, a14, a15⟩ := u
  refine ⟨33, ?_⟩
  refine pk_loopD (σ := Int32) (fun n i v => wX_valueAt_6 post (nI r) (qf_i x) a1 a2 a3 a4 a5 a6 a7 a8 a9 a10 a11 a12 a13 a14 a15 n v (nI i + (-1))) (fun i v => i ≤ 32 ∧ v = qf_i (qe_h (R r) x i)) (fun n v hI => ?_) (fun n i v hI hw => ?_) 32 (qf_i 0) ⟨by omega, rfl⟩
  · refine br_t (by decide) ?_
    rw [hI.2, qe_h0]
    exact H
  · rw [pk_m1]
    refine br_f (nI_pos (by omega)) (qw_cell (u := (a1, a2, a3, a4, a5, a6, a7, a8, a9, a10, a11, a12, a13, a14, a15)) hr (show i < 32 by omega) h ⟨by decide, nm_r (by rw [hI.2, qf_madd, qe_hs _ _ (show i < 32 by omega)]) (nm_e (hw _ ⟨by omega, rfl⟩))⟩)
end
section
/-! engine 0 -/
theorem qw_plain1 {post : St1 → Prop} {J : Int32 → qw_K} {R : Nat → Nat → qf_F} {a1 a2 a3 a4 a5 a6 a7 a8 a9 a10 a11 a12 a13 a14 a15 : Nat → Int32} {a b m : Nat} (ha : a < 12) (hb : b < 12) (hm : m < 32) (h : qw_rows R a1) (H : J (nI m + (-1)) (upd a1 (32 * 5 + m) (qf_i (qp_mul (R a) (R b) m))) a2 a3 a4 a5 a6 a7 a8 a9 a10 a11 a12 a13 a14 a15) : ∃ n, wX_multiplyPlain_13 post J (nI a) (nI b) (nI m) a1 a2 a3 a4 a5 a6 a7 a8 a9 a10 a11 a12 a13 a14 a15 n 0 0 :=
  pk_loop (fun n i v => wX_multiplyPlain_13 post J (nI a) (nI b) (nI m) a1 a2 a3 a4 a5 a6 a7 a8 a9 a10 a11 a12 a13 a14 a15 n v (nI i)) (fun i v => v = qf_i (qs_sm (fun j => R a j * R b (m - j)) i)) (m + 1) 0 (qf_i 0) (by omega) rfl
    (fun n v hv => pk_lt m (m + 1) (fun _ => qw_write (u := (a1, a2, a3, a4, a5, a6, a7, a8, a9, a10, a11, a12, a13, a14, a15)) (r := 5) (by omega) hm (nm_e (by rw [hv]; exact H))) (fun z => absurd z (by omega)))
    (fun n i v hi hv hw => pk_lt m i (fun z => absurd z (by omega)) (fun z => qw_cell (u := (a1, a2, a3, a4, a5, a6, a7, a8, a9, a10, a11, a12, a13, a14, a15)) ha (show i < 32 by omega) h (by
      rw [pk_sub z]
      exact qw_cell (u := (a1, a2, a3, a4, a5, a6, a7, a8, a9, a10, a11, a12, a13, a14, a15)) hb (show m - i < 32 by omega) h ⟨by decide, nm_r (by rw [hv, qf_addm]; rfl) (nm_r (nI_1 i) (hw _ rfl))⟩)))
theorem qw_plain {post : St1 → Prop} {R : Nat → Nat → qf_F} {u : St1} {a b : Nat} (ha : a < 12) (hb : b < 12) (ha5 : a ≠ 5) (hb5 : b ≠ 5) (h : qw_rows R u.1) (H : ∀ c, qw_rows (qw_set R 5 (qp_mul (R a) (R b))) c → post (c, u.2)) : wpX_multiplyPlain post u (nI a) (nI b) := by
  obtain ⟨a1, a2, a3, a4, a5, a6, a7, a8, a9, a10, a11, a12, a13, a14, a15⟩ := u
  refine ⟨33, ?_⟩
  refine pk_loopD (fun n i s => wX_multiplyPlain_3 post (nI a) (nI b) n (nI i + (-1)) s a2 a3 a4 a5 a6 a7 a8 a9 a10 a11 a12 a13 a14 a15) (fun i s => i ≤ 32 ∧ ∃ R', qw_rows R' s ∧ (∀ r, r ≠ 5 → R' r = R r) ∧ ∀ j, i ≤ j → j < 32 → R' 5 j = qp_mul (R a) (R b) j) (fun n s hI => ?_) (fun n i s hI hw => ?_) 32 a1 ⟨by omega, R, h, fun _ _ => rfl, fun j h1 h2 => absurd h1 (by omega)⟩
  · obtain ⟨_, R', h1, h2, h3⟩ := hI
    refine br_t (by decide) (H s (qw_cong h1 (fun r _ j hj => ?_)))
    by_cases e : r = 5
    · rw [e, qw_setP, h3 j (by omega) hj]
    · rw [qw_setN e, h2 r e]
  · obtain ⟨hi, R', h1, h2, h3⟩ := hI
    rw [pk_m1]
    refine br_f (nI_pos (by omega)) (qw_plain1 (R := R') ha hb (show i < 32 by omega) h1 ?_)
    rw [h2 a ha5, h2 b hb5]
    refine hw _ ⟨by omega, _, qw_put (r := 5) (i := i) h1 (by omega) (by omega) rfl, fun r hr => ?_, fun j hj hj2 => ?_⟩
    · rw [qw_setN hr, h2 r hr]
    · rw [qw_setP]
      by_cases e : j = i
      · rw [if_pos e, e]
      · rw [if_neg e, h3 j (by omega) hj2]
end
section
/-! engine 1, the walk -/
theorem qk_i2 (b h i : Nat) : 2 * nI b * nI h + nI i = nI (2 * (b * h) + i) := by
  show nI 2 * nI b * nI h + nI i = _
  rw [pk_mul, pk_mul, nI_add, Nat.mul_assoc]
theorem qk_i21 (b h i : Nat) : (2 * nI b + 1) * nI h + nI i = nI (2 * (b * h) + h + i) := by
  show (nI 2 * nI b + nI 1) * nI h + nI i = _
  rw [pk_mul, nI_add, pk_mul, nI_add, Nat.add_mul, Nat.mul_assoc, Nat.one_mul]
theorem qk_i3 (b h i : Nat) : 3 * nI b * nI h + nI i = nI (3 * (b * h) + i) := by
  show nI 3 * nI b * nI h + nI i = _
  rw [pk_mul, pk_mul, nI_add, Nat.mul_assoc]
theorem qk_spreadAt {post : St1 → Prop} {a1 a2 a3 a4 a5 a6 a7 a8 a9 a10 a11 a12 a13 a14 a15 : Nat → Int32} {p h : Nat} {x y : qf_F} (hp : p + 2 * h < 243) (H : post (a1, a2, a3, a4, (upd (upd (upd a5 p (qf_i x)) (p + h) (qf_i y)) (p + 2 * h) (qf_i (x + y))), a6, a7, a8, a9, a10, a11, a12, a13, a14, a15)) : wpX_spreadAt post (a1, a2, a3, a4, a5, a6, a7, a8, a9, a10, a11, a12, a13, a14, a15) (nI p) (nI h) (qf_i x) (qf_i y) := by
  have e1 : nI p + nI h = nI (p + h) := nI_add p h
  have e2 : nI p + 2 * nI h = nI (p + 2 * h) := by
    show nI p + nI 2 * nI h = _
    rw [pk_mul, nI_add]
  refine ⟨pk_in p 243 (by omega), nm_r (by rw [pk_cl p]) ⟨pk_in (p + h) 243 (by omega) e1, nm_r (by rw [pk_cl (p + h) e1]) (qf_plus ⟨pk_in (p + 2 * h) 243 (by omega) e2, nm_r (by rw [pk_cl (p + 2 * h) e2]) H⟩)⟩⟩
/-- what block b, place i, has become -/
def qk_D (h : Nat) (p : Nat → Nat → qf_F) (c : Nat → Int32) (b i : Nat) : Prop := c (3 * (b * h) + i) = qf_i (p b i) ∧ c (3 * (b * h) + i + h) = qf_i (p b (h + i)) ∧ c (3 * (b * h) + i + 2 * h) = qf_i (p b i + p b (h + i))
theorem qk_Dstep {h : Nat} {p : Nat → Nat → qf_F} {c : Nat → Int32} {b i : Nat} (hi : i < h) : (∀ b' i', (b' < b ∨ b' = b ∧ i' < i) → i' < h → qk_D h p c b' i') → ∀ b' i', (b' < b ∨ b' = b ∧ i' < i + 1) → i' < h → qk_D h p (upd (upd (upd c (3 * (b * h) + i) (qf_i (p b i))) (3 * (b * h) + i + h) (qf_i (p b (h + i)))) (3 * (b * h) + i + 2 * h) (qf_i (p b i + p b (h + i)))) b' i' := by
  intro hc b' i' hb' hi'
  by_cases e : b' = b ∧ i' = i
  · obtain ⟨rfl, rfl⟩ := e
    refine ⟨?_, ?_, pk_us⟩
    · rw [pk_un (by omega), pk_un (by omega), pk_us]
    · rw [pk_un (by omega), pk_us]
  · have hd : b' * h + h ≤ b * h ∨ b' = b ∧ i' < i := by
      rcases hb' with z | z
      · left
        have := Nat.mul_le_mul_right h (show b' + 1 ≤ b by omega)
        rw [Nat.add_mul, Nat.one_mul] at this
        exact this
      · right
        omega
    have ho := hc b' i' (by omega) hi'
    rcases hd with z | ⟨rfl, z⟩
    · generalize b * h = t at z
      generalize hs : b' * h = t' at z
      unfold qk_D at ho ⊢
      rw [hs] at ho ⊢
      refine ⟨?_, ?_, ?_⟩
      · rw [pk_un (by omega), pk_un (by omega), pk_un (by omega)]
        exact ho.1
      · rw [pk_un (by omega), pk_un (by omega), pk_un (by omega)]
        exact ho.2.1
      · rw [pk_un (by omega), pk_un (by omega), pk_un (by omega)]
        exact ho.2.2
    · refine ⟨?_, ?_, ?_⟩
      · rw [pk_un (by omega), pk_un (by omega), pk_un (by omega)]
        exact ho.1
      · rw [pk_un (by omega), pk_un (by omega), pk_un (by omega)]
        exact ho.2.1
      · rw [pk_un (by omega), pk_un (by omega), pk_un (by omega)]
        exact ho.2.2
theorem qk_s48 {post : St1 → Prop} {J5 : Int32 → Int32 → qw_K} {J40 : Int32 → qw_K} {a1 a2 a3 a4 a5 a6 a7 a8 a9 a10 a11 a12 a13 a14 a15 : Nat → Int32} {B h b : Nat} {p : Nat → Nat → qf_F} (hB : 3 * (B * h) ≤ 243) (hb : b < B)
    (h7 : ∀ b i, b < B → i < 2 * h → a7 (2 * (b * h) + i) = qf_i (p b i)) (hc : ∀ b' i', b' < b → i' < h → qk_D h p a5 b' i')
    (H : ∀ c, (∀ b' i', b' < b + 1 → i' < h → qk_D h p c b' i') → J40 (nI (b + 1)) a1 a2 a3 a4 c a6 a7 a8 a9 a10 a11 a12 a13 a14 a15) : ∃ n, wX_spread_48 post J5 J40 (nI B) (nI h) (nI b) n 0 a1 a2 a3 a4 a5 a6 a7 a8 a9 a10 a11 a12 a13 a14 a15 := by
  have hbh : b * h + h ≤ B * h := by
    have := Nat.mul_le_mul_right h (show b + 1 ≤ B by omega)
    rw [Nat.add_mul, Nat.one_mul] at this
    exact this
  have hh : h ≤ B * h := by omega
  refine pk_loop (fun n i c => wX_spread_48 post J5 J40 (nI B) (nI h) (nI b) n (nI i) a1 a2 a3 a4 c a6 a7 a8 a9 a10 a11 a12 a13 a14 a15) (fun i c => ∀ b' i', (b' < b ∨ b' = b ∧ i' < i) → i' < h → qk_D h p c b' i') h 0 a5 (by omega) (fun b' i' z => hc b' i' (by omega)) (fun n c hI => ?_) (fun n i c hi hI hw => ?_)
  · exact pk_le h h (fun _ => nm_r (nI_1 b) (H c (fun b' i' z z2 => hI b' i' (by omega) z2))) (fun z => absurd z (by omega))
  · have e1 := qk_i2 b h i
    have e2 := qk_i21 b h i
    refine pk_le h i (fun z => absurd z (by omega)) (fun _ => ⟨pk_in _ 243 (by omega) e1, nm_r (by rw [pk_cl _ e1 (by omega), h7 b i hb (by omega)]) ⟨pk_in _ 243 (by omega) e2, nm_r (by rw [pk_cl _ e2 (by omega), Nat.add_assoc, h7 b (h + i) hb (by omega)]) ?_⟩⟩)
    rw [qk_i3]
    exact qk_spreadAt (by omega) (nm_r (nI_1 i) (hw _ (qk_Dstep hi hI)))
theorem qk_s40 {post : St1 → Prop} {J5 : Int32 → Int32 → qw_K} {a1 a2 a3 a4 a5 a6 a7 a8 a9 a10 a11 a12 a13 a14 a15 : Nat → Int32} {B h : Nat} {p : Nat → Nat → qf_F} (hB : 3 * (B * h) ≤ 243) (hh : 0 < h) (hB0 : 0 < B)
    (h7 : ∀ b i, b < B → i < 2 * h → a7 (2 * (b * h) + i) = qf_i (p b i))
    (H : ∀ c, (∀ b' i', b' < B → i' < h → qk_D h p c b' i') → J5 (nI (B * 3)) (nI (h / 2)) a1 a2 a3 a4 c a6 a7 a8 a9 a10 a11 a12 a13 a14 a15) : ∃ n, wX_spread_40 post J5 (nI B) (nI h) n 0 a1 a2 a3 a4 a5 a6 a7 a8 a9 a10 a11 a12 a13 a14 a15 := by
  have b1 : B ≤ B * h := Nat.le_mul_of_pos_right B hh
  have b2 : h ≤ B * h := Nat.le_mul_of_pos_left h hB0
  refine pk_loop (fun n b c => wX_spread_40 post J5 (nI B) (nI h) n (nI b) a1 a2 a3 a4 c a6 a7 a8 a9 a10 a11 a12 a13 a14 a15) (fun b c => ∀ b' i', b' < b → i' < h → qk_D h p c b' i') B 0 a5 (by omega) (fun b' i' z => absurd z (by omega)) (fun n c hI => ?_) (fun n b c hb hI hw => ?_)
  · exact pk_le B B (fun _ => nm_r (pk_mul B 3) ⟨by decide, nm_r (pk_div (d := 2) (by omega) (by omega) (by omega)) (H c hI)⟩) (fun z => absurd z (by omega))
  · exact pk_le B b (fun z => absurd z (by omega)) (fun _ => qk_s48 hB hb h7 hI (fun c' hc' => hw c' hc'))
theorem qk_s11 {post : St1 → Prop} {J5 : Int32 → Int32 → qw_K} {a1 a2 a3 a4 a5 a6 a7 a8 a9 a10 a11 a12 a13 a14 a15 : Nat → Int32} {B h : Nat} {p : Nat → Nat → qf_F} (hB : 3 * (B * h) ≤ 243) (hh : 0 < h) (hB0 : 0 < B)
    (h5 : ∀ b i, b < B → i < 2 * h → a5 (2 * (b * h) + i) = qf_i (p b i))
    (H : ∀ c c7, (∀ b' i', b' < B → i' < h → qk_D h p c b' i') → J5 (nI (B * 3)) (nI (h / 2)) a1 a2 a3 a4 c a6 c7 a8 a9 a10 a11 a12 a13 a14 a15) : ∃ n, wX_spread_11 post J5 (nI B) (nI h) n 0 a1 a2 a3 a4 a5 a6 a7 a8 a9 a10 a11 a12 a13 a14 a15 := by
  have e : nI B * 2 * nI h = nI (2 * (B * h)) := by
    show nI B * nI 2 * nI h = _
    rw [pk_mul, pk_mul, Nat.mul_comm B 2, Nat.mul_assoc]
  refine pk_loop (fun n i c => wX_spread_11 post J5 (nI B) (nI h) n (nI i) a1 a2 a3 a4 a5 a6 c a8 a9 a10 a11 a12 a13 a14 a15) (fun i c => ∀ j, j < i → c j = a5 j) (2 * (B * h)) 0 a7 (by omega) (fun j z => absurd z (by omega)) (fun n c hI => ?_) (fun n i c hi hI hw => ?_)
  · refine pk_le (2 * (B * h)) (2 * (B * h)) (fun _ => ?_) (fun z => absurd z (by omega)) e
    refine qk_s40 (p := p) hB hh hB0 (fun b i hb hi => ?_) (fun c5 h5' => H c5 c h5')
    have hbh : b * h + h ≤ B * h := by
      have := Nat.mul_le_mul_right h (show b + 1 ≤ B by omega)
      rw [Nat.add_mul, Nat.one_mul] at this
      exact this
    rw [hI _ (by omega)]
    exact h5 b i hb hi
  · refine pk_le (2 * (B * h)) i (fun z => absurd z (by omega)) (fun _ => ⟨pk_in i 243 (by omega), pk_in i 243 (by omega), nm_r (by rw [pk_cl i]) (nm_r (nI_1 i) (hw _ (fun j hj => ?_)))⟩) e
    by_cases z : j = i
    · rw [z, pk_us]
    · rw [pk_un z]
      exact hI j (by omega)
/-- spreadA after k rounds -/
def qk_A (f : Nat → qf_F) (k : Nat) (a : Nat → Int32) : Prop := ∀ b i, b < 3 ^ k → i < 2 ^ (5 - k) → a (b * 2 ^ (5 - k) + i) = qf_i (qk_P f k b i)
theorem qk_Anext {f : Nat → qf_F} {k : Nat} (hk : k < 5) {c : Nat → Int32} (hD : ∀ b i, b < 3 ^ k → i < 2 ^ (4 - k) → qk_D (2 ^ (4 - k)) (qk_P f k) c b i) : qk_A f (k + 1) c := by
  intro b i hb hi
  rw [show 5 - (k + 1) = 4 - k by omega] at hi ⊢
  have hb3 : b / 3 < 3 ^ k := by
    rw [Nat.pow_succ] at hb
    omega
  have hd := hD (b / 3) i hb3 hi
  have e1 : ∀ g : Nat → qf_F, qk_lo (2 ^ (4 - k)) g i = g i := fun g => if_pos hi
  have e2 : ∀ g : Nat → qf_F, qk_hi (2 ^ (4 - k)) g i = g (2 ^ (4 - k) + i) := fun g => if_pos hi
  have hb' : b = 3 * (b / 3) ∨ b = 3 * (b / 3) + 1 ∨ b = 3 * (b / 3) + 2 := by omega
  generalize b / 3 = q at hd hb'
  unfold qk_D at hd
  rcases hb' with h | h | h
  · rw [h, qk_P0, e1, Nat.mul_assoc]
    exact hd.1
  · rw [h, qk_P1, e2, Nat.add_mul, Nat.mul_assoc, Nat.one_mul, Nat.add_assoc, Nat.add_comm (2 ^ (4 - k)) i, ← Nat.add_assoc, Nat.add_comm i (2 ^ (4 - k))]
    exact hd.2.1
  · rw [h, qk_P2]
    show c ((3 * q + 2) * 2 ^ (4 - k) + i) = qf_i (qk_lo (2 ^ (4 - k)) (qk_P f k q) i + qk_hi (2 ^ (4 - k)) (qk_P f k q) i)
    rw [e1, e2, Nat.add_mul, Nat.mul_assoc, show 3 * (q * 2 ^ (4 - k)) + 2 * 2 ^ (4 - k) + i = 3 * (q * 2 ^ (4 - k)) + i + 2 * 2 ^ (4 - k) by omega]
    exact hd.2.2
theorem qk_pows {k : Nat} (hk : k < 5) : 3 * (3 ^ k * 2 ^ (4 - k)) ≤ 243 ∧ 0 < 2 ^ (4 - k) ∧ 0 < 3 ^ k ∧ 2 ^ (5 - k) = 2 * 2 ^ (4 - k) ∧ 3 ^ k * 3 = 3 ^ (k + 1) ∧ 6 * (3 ^ k * 2 ^ (4 - k)) ≤ 486 := by
  have h : k = 0 ∨ k = 1 ∨ k = 2 ∨ k = 3 ∨ k = 4 := by omega
  rcases h with rfl | rfl | rfl | rfl | rfl <;> decide
/-- the half that a round works with: 16, 8, 4, 2, 1, and then 0 -/
def qk_half (k : Nat) : Nat := if k < 5 then 2 ^ (4 - k) else 0
theorem qk_halfs {k : Nat} (hk : k < 5) : 2 ^ (4 - k) / 2 = qk_half (k + 1) := by
  have h : k = 0 ∨ k = 1 ∨ k = 2 ∨ k = 3 ∨ k = 4 := by omega
  rcases h with rfl | rfl | rfl | rfl | rfl <;> decide
theorem qk_spread {post : St1 → Prop} {a1 a2 a3 a4 a5 a6 a7 a8 a9 a10 a11 a12 a13 a14 a15 : Nat → Int32} {f : Nat → qf_F} (h : qk_A f 0 a5) (H : ∀ c5 c7, qk_A f 5 c5 → post (a1, a2, a3, a4, c5, a6, c7, a8, a9, a10, a11, a12, a13, a14, a15)) : wpX_spread post (a1, a2, a3, a4, a5, a6, a7, a8, a9, a10, a11, a12, a13, a14, a15) := by
  refine pk_loop (fun n k (s : (Nat → Int32) × (Nat → Int32)) => wX_spread_5 post n (nI (3 ^ k)) (nI (qk_half k)) a1 a2 a3 a4 s.1 a6 s.2 a8 a9 a10 a11 a12 a13 a14 a15) (fun k s => qk_A f k s.1) 5 0 (a5, a7) (by omega) h (fun n s hI => ?_) (fun n k s hk hI hw => ?_)
  · exact br_t (by decide) (H s.1 s.2 hI)
  · obtain ⟨p1, p2, p3, p4, p5, p6⟩ := qk_pows hk
    have eh : qk_half k = 2 ^ (4 - k) := if_pos hk
    have hle : 2 ^ (4 - k) ≤ 3 ^ k * 2 ^ (4 - k) := Nat.le_mul_of_pos_left _ p3
    show wX_spread_5 post (n + 1) (nI (3 ^ k)) (nI (qk_half k)) a1 a2 a3 a4 s.1 a6 s.2 a8 a9 a10 a11 a12 a13 a14 a15
    rw [eh]
    refine br_f (nI_nle p2 (by omega)) (qk_s11 (p := qk_P f k) p1 p2 p3 (fun b i hb hi => ?_) (fun c c7 hD => ?_))
    · have := hI b i hb (by rw [p4]; exact hi)
      rw [p4, ← Nat.mul_assoc, Nat.mul_comm b 2, Nat.mul_assoc] at this
      exact this
    · rw [p5, qk_halfs hk]
      exact hw (c, c7) (qk_Anext hk hD)
end
section
/-! engine 1: putting together -/
theorem qk_g6 (b s i : Nat) : 6 * nI b * nI s + nI i = nI (6 * (b * s) + i) := by
  show nI 6 * nI b * nI s + nI i = _
  rw [pk_mul, pk_mul, nI_add, Nat.mul_assoc]
theorem qk_g62 (b s i : Nat) : (6 * nI b + 2) * nI s + nI i = nI (6 * (b * s) + 2 * s + i) := by
  show (nI 6 * nI b + nI 2) * nI s + nI i = _
  rw [pk_mul, nI_add, pk_mul, nI_add, Nat.add_mul, Nat.mul_assoc]
theorem qk_g64 (b s i : Nat) : (6 * nI b + 4) * nI s + nI i = nI (6 * (b * s) + 4 * s + i) := by
  show (nI 6 * nI b + nI 4) * nI s + nI i = _
  rw [pk_mul, nI_add, pk_mul, nI_add, Nat.add_mul, Nat.mul_assoc]
theorem qk_g4 (b s i : Nat) : 4 * nI b * nI s + nI i = nI (4 * (b * s) + i) := by
  show nI 4 * nI b * nI s + nI i = _
  rw [pk_mul, pk_mul, nI_add, Nat.mul_assoc]
theorem qk_gatherAt {post : St1 → Prop} {a1 a2 a3 a4 a5 a6 a7 a8 a9 a10 a11 a12 a13 a14 a15 : Nat → Int32} {b s i : Nat} {l hi bo x y z : qf_F} (hs : 0 < s) (h6 : 6 * (b * s) + 4 * s + i < 486) (h4 : 4 * (b * s) + i + 2 * s < 486)
    (hl : a8 (6 * (b * s) + i) = qf_i l) (hh : a8 (6 * (b * s) + 2 * s + i) = qf_i hi) (hb : a8 (6 * (b * s) + 4 * s + i) = qf_i bo)
    (hx : a9 (4 * (b * s) + i) = qf_i x) (hy : a9 (4 * (b * s) + i + s) = qf_i y) (hz : a9 (4 * (b * s) + i + 2 * s) = qf_i z)
    (H : post (a1, a2, a3, a4, a5, a6, a7, a8, (upd (upd (upd a9 (4 * (b * s) + i) (qf_i (x + l))) (4 * (b * s) + i + s) (qf_i (y + ((bo - l) - hi)))) (4 * (b * s) + i + 2 * s) (qf_i (z + hi))), a10, a11, a12, a13, a14, a15)) : wpX_gatherAt post (a1, a2, a3, a4, a5, a6, a7, a8, a9, a10, a11, a12, a13, a14, a15) (nI b) (nI s) (nI i) := by
  have e6 := qk_g6 b s i
  have e62 := qk_g62 b s i
  have e64 := qk_g64 b s i
  have f1 : nI (4 * (b * s) + i) + nI s = nI (4 * (b * s) + i + s) := nI_add _ _
  have f2 : nI (4 * (b * s) + i) + 2 * nI s = nI (4 * (b * s) + i + 2 * s) := by
    show nI (4 * (b * s) + i) + nI 2 * nI s = _
    rw [pk_mul, nI_add]
  refine ⟨pk_in _ 486 (by omega) e6, nm_r (by rw [pk_cl _ e6 (by omega), hl]) ⟨pk_in _ 486 (by omega) e62, nm_r (by rw [pk_cl _ e62 (by omega), hh]) ⟨pk_in _ 486 (by omega) e64, nm_r (by rw [pk_cl _ e64 (by omega), hb]) ?_⟩⟩⟩
  refine qf_minus (qf_minus (nm_r (qk_g4 b s i) ⟨pk_in (4 * (b * s) + i) 486 (by omega), ?_⟩))
  rw [pk_cl (4 * (b * s) + i), hx]
  refine qf_plus ⟨pk_in (4 * (b * s) + i) 486 (by omega), nm_e ⟨pk_in _ 486 (by omega) f1, ?_⟩⟩
  rw [pk_cl _ f1 (by omega), pk_un (by omega), hy]
  refine qf_plus ⟨pk_in _ 486 (by omega) f1, nm_e ⟨pk_in _ 486 (by omega) f2, ?_⟩⟩
  rw [pk_cl _ f2 (by omega), pk_un (by omega), pk_un (by omega), hz]
  exact qf_plus ⟨pk_in _ 486 (by omega) f2, nm_e H⟩
/-- what stands at place j of a block when i places are done -/
def qk_acc (s : Nat) (L M H : Nat → qf_F) (i j : Nat) : qf_F := ((if j < i then L j else 0) + (if s ≤ j ∧ j < s + i then M (j - s) else 0)) + (if 2 * s ≤ j ∧ j < 2 * s + i then H (j - 2 * s) else 0)
theorem qk_ite {c d : Prop} [Decidable c] [Decidable d] (h : c ↔ d) (x : qf_F) : (if c then x else 0) = (if d then x else 0) := by
  by_cases hc : c
  · rw [if_pos hc, if_pos (h.mp hc)]
  · rw [if_neg hc, if_neg (fun z => hc (h.mpr z))]
theorem qk_acc0 (s : Nat) (L M H : Nat → qf_F) (j : Nat) : qk_acc s L M H 0 j = 0 := by
  show ((if j < 0 then L j else 0) + (if s ≤ j ∧ j < s + 0 then M (j - s) else 0)) + (if 2 * s ≤ j ∧ j < 2 * s + 0 then H (j - 2 * s) else 0) = 0
  rw [if_neg (by omega), if_neg (by omega), if_neg (by omega)]
  grobner
theorem qk_accA {s : Nat} (hs : 0 < s) (L M H : Nat → qf_F) (i : Nat) : qk_acc s L M H (i + 1) i = qk_acc s L M H i i + L i := by
  show ((if i < i + 1 then L i else 0) + (if s ≤ i ∧ i < s + (i + 1) then M (i - s) else 0)) + (if 2 * s ≤ i ∧ i < 2 * s + (i + 1) then H (i - 2 * s) else 0) = (((if i < i then L i else 0) + (if s ≤ i ∧ i < s + i then M (i - s) else 0)) + (if 2 * s ≤ i ∧ i < 2 * s + i then H (i - 2 * s) else 0)) + L i
  rw [if_pos (show i < i + 1 by omega), if_neg (show ¬ i < i by omega), qk_ite (show (s ≤ i ∧ i < s + (i + 1)) ↔ (s ≤ i ∧ i < s + i) by omega), qk_ite (show (2 * s ≤ i ∧ i < 2 * s + (i + 1)) ↔ (2 * s ≤ i ∧ i < 2 * s + i) by omega)]
  grobner
theorem qk_accB {s : Nat} (hs : 0 < s) (L M H : Nat → qf_F) (i : Nat) : qk_acc s L M H (i + 1) (i + s) = qk_acc s L M H i (i + s) + M i := by
  show ((if i + s < i + 1 then L (i + s) else 0) + (if s ≤ i + s ∧ i + s < s + (i + 1) then M (i + s - s) else 0)) + (if 2 * s ≤ i + s ∧ i + s < 2 * s + (i + 1) then H (i + s - 2 * s) else 0) = (((if i + s < i then L (i + s) else 0) + (if s ≤ i + s ∧ i + s < s + i then M (i + s - s) else 0)) + (if 2 * s ≤ i + s ∧ i + s < 2 * s + i then H (i + s - 2 * s) else 0)) + M i
  rw [if_neg (show ¬ i + s < i + 1 by omega), if_neg (show ¬ i + s < i by omega), if_pos (show s ≤ i + s ∧ i + s < s + (i + 1) by omega), if_neg (show ¬ (s ≤ i + s ∧ i + s < s + i) by omega), qk_ite (show (2 * s ≤ i + s ∧ i + s < 2 * s + (i + 1)) ↔ (2 * s ≤ i + s ∧ i + s < 2 * s + i) by omega), Nat.add_sub_cancel]
  grobner
theorem qk_accC {s : Nat} (hs : 0 < s) (L M H : Nat → qf_F) (i : Nat) : qk_acc s L M H (i + 1) (i + 2 * s) = qk_acc s L M H i (i + 2 * s) + H i := by
  show ((if i + 2 * s < i + 1 then L (i + 2 * s) else 0) + (if s ≤ i + 2 * s ∧ i + 2 * s < s + (i + 1) then M (i + 2 * s - s) else 0)) + (if 2 * s ≤ i + 2 * s ∧ i + 2 * s < 2 * s + (i + 1) then H (i + 2 * s - 2 * s) else 0) = (((if i + 2 * s < i then L (i + 2 * s) else 0) + (if s ≤ i + 2 * s ∧ i + 2 * s < s + i then M (i + 2 * s - s) else 0)) + (if 2 * s ≤ i + 2 * s ∧ i + 2 * s < 2 * s + i then H (i + 2 * s - 2 * s) else 0)) + H i
  rw [if_neg (show ¬ i + 2 * s < i + 1 by omega), if_neg (show ¬ i + 2 * s < i by omega), if_neg (show ¬ (s ≤ i + 2 * s ∧ i + 2 * s < s + (i + 1)) by omega), if_neg (show ¬ (s ≤ i + 2 * s ∧ i + 2 * s < s + i) by omega), if_pos (show 2 * s ≤ i + 2 * s ∧ i + 2 * s < 2 * s + (i + 1) by omega), if_neg (show ¬ (2 * s ≤ i + 2 * s ∧ i + 2 * s < 2 * s + i) by omega), Nat.add_sub_cancel]
  grobner
theorem qk_accN {s : Nat} (L M H : Nat → qf_F) {i j : Nat} (h0 : j ≠ i) (h1 : j ≠ i + s) (h2 : j ≠ i + 2 * s) : qk_acc s L M H (i + 1) j = qk_acc s L M H i j := by
  show ((if j < i + 1 then L j else 0) + (if s ≤ j ∧ j < s + (i + 1) then M (j - s) else 0)) + (if 2 * s ≤ j ∧ j < 2 * s + (i + 1) then H (j - 2 * s) else 0) = ((if j < i then L j else 0) + (if s ≤ j ∧ j < s + i then M (j - s) else 0)) + (if 2 * s ≤ j ∧ j < 2 * s + i then H (j - 2 * s) else 0)
  rw [qk_ite (show (j < i + 1) ↔ (j < i) by omega), qk_ite (show (s ≤ j ∧ j < s + (i + 1)) ↔ (s ≤ j ∧ j < s + i) by omega), qk_ite (show (2 * s ≤ j ∧ j < 2 * s + (i + 1)) ↔ (2 * s ≤ j ∧ j < 2 * s + i) by omega)]
/-- what a block becomes -/
def qk_new (s : Nat) (g : Nat → Nat → qf_F) (c i j : Nat) : qf_F := qk_acc s (g (3 * c)) (fun j => (g (3 * c + 2) j - g (3 * c) j) - g (3 * c + 1) j) (g (3 * c + 1)) i j
/-- all blocks, when i places of block b are done -/
def qk_G (s B : Nat) (g : Nat → Nat → qf_F) (a : Nat → Int32) (b i : Nat) : Prop := ∀ c j, c < B → j < 4 * s → a (4 * (c * s) + j) = qf_i (if c < b then qk_new s g c (2 * s) j else if c = b then qk_new s g b i j else 0)
theorem qk_Gstep {s B : Nat} {g : Nat → Nat → qf_F} {a : Nat → Int32} {b i : Nat} (hs : 0 < s) (hb : b < B) (hi : i < 2 * s) (h : qk_G s B g a b i) :
    a (4 * (b * s) + i) = qf_i (qk_new s g b i i) ∧ a (4 * (b * s) + i + s) = qf_i (qk_new s g b i (i + s)) ∧ a (4 * (b * s) + i + 2 * s) = qf_i (qk_new s g b i (i + 2 * s)) ∧
    qk_G s B g (upd (upd (upd a (4 * (b * s) + i) (qf_i (qk_new s g b i i + g (3 * b) i))) (4 * (b * s) + i + s) (qf_i (qk_new s g b i (i + s) + ((g (3 * b + 2) i - g (3 * b) i) - g (3 * b + 1) i)))) (4 * (b * s) + i + 2 * s) (qf_i (qk_new s g b i (i + 2 * s) + g (3 * b + 1) i))) b (i + 1) := by
  have at' : ∀ j, j < 4 * s → a (4 * (b * s) + j) = qf_i (qk_new s g b i j) := by
    intro j hj
    rw [h b j hb hj, if_neg (by omega), if_pos rfl]
  refine ⟨at' i (by omega), ?_, ?_, ?_⟩
  · rw [Nat.add_assoc]
    exact at' (i + s) (by omega)
  · rw [Nat.add_assoc]
    exact at' (i + 2 * s) (by omega)
  intro c j hc hj
  by_cases e : c = b
  · subst e
    rw [if_neg (by omega), if_pos rfl]
    by_cases e0 : j = i
    · subst e0
      rw [pk_un (by omega), pk_un (by omega), pk_us]
      exact congrArg qf_i (qk_accA hs _ _ _ _).symm
    · by_cases e1 : j = i + s
      · subst e1
        rw [pk_un (by omega), ← Nat.add_assoc, pk_us]
        exact congrArg qf_i (qk_accB hs _ _ _ _).symm
      · by_cases e2 : j = i + 2 * s
        · subst e2
          rw [← Nat.add_assoc, pk_us]
          exact congrArg qf_i (qk_accC hs _ _ _ _).symm
        · rw [pk_un (by omega), pk_un (by omega), pk_un (by omega), at' j hj]
          exact congrArg qf_i (qk_accN _ _ _ e0 e1 e2).symm
  · have hd : c * s + s ≤ b * s ∨ b * s + s ≤ c * s := by
      rcases Nat.lt_or_ge c b with z | z
      · left
        have := Nat.mul_le_mul_right s (show c + 1 ≤ b by omega)
        rw [Nat.add_mul, Nat.one_mul] at this
        exact this
      · right
        have := Nat.mul_le_mul_right s (show b + 1 ≤ c by omega)
        rw [Nat.add_mul, Nat.one_mul] at this
        exact this
    have hold := h c j hc hj
    rw [if_neg e] at hold ⊢
    generalize b * s = t at hd
    generalize c * s = t' at hd hold
    rw [pk_un (by omega), pk_un (by omega), pk_un (by omega)]
    exact hold
theorem qk_g50 {post : St1 → Prop} {J6 : Int32 → Int32 → qw_K} {J42 : Int32 → qw_K} {a1 a2 a3 a4 a5 a6 a7 a8 a9 a10 a11 a12 a13 a14 a15 : Nat → Int32} {B s b : Nat} {g : Nat → Nat → qf_F} (hs : 0 < s) (hB : 6 * (B * s) ≤ 486) (hb : b < B)
    (h8 : ∀ c j, c < 3 * B → j < 2 * s → a8 (2 * (c * s) + j) = qf_i (g c j)) (h9 : qk_G s B g a9 b 0)
    (H : ∀ c, qk_G s B g c (b + 1) 0 → J42 (nI (b + 1)) a1 a2 a3 a4 a5 a6 a7 a8 c a10 a11 a12 a13 a14 a15) : ∃ n, wX_gather_50 post J6 J42 (nI B) (nI s) (nI b) n 0 a1 a2 a3 a4 a5 a6 a7 a8 a9 a10 a11 a12 a13 a14 a15 := by
  have hbs : b * s + s ≤ B * s := by
    have := Nat.mul_le_mul_right s (show b + 1 ≤ B by omega)
    rw [Nat.add_mul, Nat.one_mul] at this
    exact this
  have e2 : 2 * nI s = nI (2 * s) := pk_mul 2 s
  refine pk_loop (fun n i c => wX_gather_50 post J6 J42 (nI B) (nI s) (nI b) n (nI i) a1 a2 a3 a4 a5 a6 a7 a8 c a10 a11 a12 a13 a14 a15) (fun i c => qk_G s B g c b i) (2 * s) 0 a9 (by omega) h9 (fun n c hI => ?_) (fun n i c hi hI hw => ?_)
  · refine pk_le (2 * s) (2 * s) (fun _ => nm_r (nI_1 b) (H c (fun d j hd hj => ?_))) (fun z => absurd z (by omega)) e2
    rw [hI d j hd hj]
    by_cases z : d < b
    · rw [if_pos z, if_pos (by omega)]
    · by_cases z2 : d = b
      · rw [if_neg z, if_pos z2, if_pos (by omega), z2]
      · rw [if_neg z, if_neg z2, if_neg (by omega)]
        by_cases z3 : d = b + 1
        · rw [if_pos z3]
          exact congrArg qf_i (qk_acc0 _ _ _ _ _).symm
        · rw [if_neg z3]
  · obtain ⟨x1, x2, x3, x4⟩ := qk_Gstep hs hb hi hI
    have r0 := h8 (3 * b) i (by omega) hi
    have r1 := h8 (3 * b + 1) i (by omega) hi
    have r2 := h8 (3 * b + 2) i (by omega) hi
    rw [show 2 * (3 * b * s) + i = 6 * (b * s) + i by rw [Nat.mul_assoc]; omega] at r0
    rw [show 2 * ((3 * b + 1) * s) + i = 6 * (b * s) + 2 * s + i by rw [Nat.add_mul, Nat.mul_assoc]; omega] at r1
    rw [show 2 * ((3 * b + 2) * s) + i = 6 * (b * s) + 4 * s + i by rw [Nat.add_mul, Nat.mul_assoc]; omega] at r2
    exact pk_le (2 * s) i (fun z => absurd z (by omega)) (fun _ => qk_gatherAt hs (by omega) (by omega) r0 r1 r2 x1 x2 x3 (nm_r (nI_1 i) (hw _ x4))) e2
theorem qk_g80 {post : St1 → Prop} {J6 : Int32 → Int32 → qw_K} {a1 a2 a3 a4 a5 a6 a7 a8 a9 a10 a11 a12 a13 a14 a15 : Nat → Int32} {B s : Nat} (hs : 0 < s) (hB0 : 0 < B) (hB : 6 * (B * s) ≤ 486)
    (H : ∀ c, (∀ j, j < 4 * (B * s) → c j = a9 j) → J6 (nI B) (nI (s * 2)) a1 a2 a3 a4 a5 a6 a7 c a9 a10 a11 a12 a13 a14 a15) : ∃ n, wX_gather_80 post J6 (nI B) (nI s) n 0 a1 a2 a3 a4 a5 a6 a7 a8 a9 a10 a11 a12 a13 a14 a15 := by
  have e : nI B * 4 * nI s = nI (4 * (B * s)) := by
    show nI B * nI 4 * nI s = _
    rw [pk_mul, pk_mul, Nat.mul_comm B 4, Nat.mul_assoc]
  refine pk_loop (fun n i c => wX_gather_80 post J6 (nI B) (nI s) n (nI i) a1 a2 a3 a4 a5 a6 a7 c a9 a10 a11 a12 a13 a14 a15) (fun i c => ∀ j, j < i → c j = a9 j) (4 * (B * s)) 0 a8 (by omega) (fun j z => absurd z (by omega)) (fun n c hI => ?_) (fun n i c hi hI hw => ?_)
  · exact pk_le (4 * (B * s)) (4 * (B * s)) (fun _ => nm_r (pk_mul s 2) (H c hI)) (fun z => absurd z (by omega)) e
  · refine pk_le (4 * (B * s)) i (fun z => absurd z (by omega)) (fun _ => ⟨pk_in i 486 (by omega), pk_in i 486 (by omega), nm_r (by rw [pk_cl i]) (nm_r (nI_1 i) (hw _ (fun j hj => ?_)))⟩) e
    by_cases z : j = i
    · rw [z, pk_us]
    · rw [pk_un z]
      exact hI j (by omega)
theorem qk_g18 {post : St1 → Prop} {J6 : Int32 → Int32 → qw_K} {a1 a2 a3 a4 a5 a6 a7 a8 a9 a10 a11 a12 a13 a14 a15 : Nat → Int32} {B s : Nat} {g : Nat → Nat → qf_F} (hs : 0 < s) (hB0 : 0 < B) (hB : 6 * (B * s) ≤ 486)
    (h8 : ∀ c j, c < 3 * B → j < 2 * s → a8 (2 * (c * s) + j) = qf_i (g c j))
    (H : ∀ c8 c9, (∀ c j, c < B → j < 4 * s → c8 (4 * (c * s) + j) = qf_i (qk_new s g c (2 * s) j)) → J6 (nI B) (nI (s * 2)) a1 a2 a3 a4 a5 a6 a7 c8 c9 a10 a11 a12 a13 a14 a15) : ∃ n, wX_gather_18 post J6 (nI B) (nI s) n 0 a1 a2 a3 a4 a5 a6 a7 a8 a9 a10 a11 a12 a13 a14 a15 := by
  have e : nI B * 4 * nI s = nI (4 * (B * s)) := by
    show nI B * nI 4 * nI s = _
    rw [pk_mul, pk_mul, Nat.mul_comm B 4, Nat.mul_assoc]
  have bs : ∀ c, c < B → c * s + s ≤ B * s := by
    intro c hc
    have := Nat.mul_le_mul_right s (show c + 1 ≤ B by omega)
    rw [Nat.add_mul, Nat.one_mul] at this
    exact this
  have b1 : B ≤ B * s := Nat.le_mul_of_pos_right B hs
  refine pk_loop (fun n i c => wX_gather_18 post J6 (nI B) (nI s) n (nI i) a1 a2 a3 a4 a5 a6 a7 a8 c a10 a11 a12 a13 a14 a15) (fun i c => ∀ j, j < i → c j = qf_i 0) (4 * (B * s)) 0 a9 (by omega) (fun j z => absurd z (by omega)) (fun n c hI => ?_) (fun n i c hi hI hw => ?_)
  · refine pk_le (4 * (B * s)) (4 * (B * s)) (fun _ => ?_) (fun z => absurd z (by omega)) e
    refine pk_loop (fun n b c => wX_gather_42 post J6 (nI B) (nI s) n (nI b) a1 a2 a3 a4 a5 a6 a7 a8 c a10 a11 a12 a13 a14 a15) (fun b c => qk_G s B g c b 0) B 0 c (by omega) (fun d j hd hj => ?_) (fun n c' hI' => ?_) (fun n b c' hb hI' hw' => ?_)
    · rw [hI _ (by have := bs d hd; omega), if_neg (by omega)]
      by_cases z : d = 0
      · rw [if_pos z]
        exact congrArg qf_i (qk_acc0 _ _ _ _ _).symm
      · rw [if_neg z]
    · refine pk_le B B (fun _ => qk_g80 hs hB0 hB (fun c8 hc8 => H c8 c' (fun d j hd hj => ?_))) (fun z => absurd z (by omega))
      rw [hc8 _ (by have := bs d hd; omega), hI' d j hd hj, if_pos hd]
    · exact pk_le B b (fun z => absurd z (by omega)) (fun _ => qk_g50 hs hB hb h8 hI' (fun c2 hc2 => hw' c2 hc2))
  · refine pk_le (4 * (B * s)) i (fun z => absurd z (by omega)) (fun _ => ⟨pk_in i 486 (by omega), nm_r (by rw [pk_cl i]) (nm_r (nI_1 i) (hw _ (fun j hj => ?_)))⟩) e
    by_cases z : j = i
    · rw [z, pk_us]
      rfl
    · rw [pk_un z]
      exact hI j (by omega)
/-- gathered, when the products of the blocks of round k stand there -/
def qk_Gt (f g : Nat → qf_F) (k : Nat) (a : Nat → Int32) : Prop := ∀ b j, b < 3 ^ k → j < 2 * 2 ^ (5 - k) → a (2 * (b * 2 ^ (5 - k)) + j) = qf_i (qp_mul (qk_P f k b) (qk_P g k b) j)
theorem qk_Gnext {f g : Nat → qf_F} {k : Nat} (hk : k < 5) {c j : Nat} (hj : j < 4 * 2 ^ (4 - k)) : qk_new (2 ^ (4 - k)) (fun b j => qp_mul (qk_P f (k + 1) b) (qk_P g (k + 1) b) j) c (2 * 2 ^ (4 - k)) j = qp_mul (qk_P f k c) (qk_P g k c) j := by
  have sup : ∀ b i, 2 * 2 ^ (4 - k) ≤ i → qp_mul (qk_P f (k + 1) b) (qk_P g (k + 1) b) i = 0 := by
    intro b i hi
    have e : 5 - (k + 1) = 4 - k := by omega
    refine qp_short (m := 2 ^ (4 - k)) (n := 2 ^ (4 - k)) (fun i h => qk_sup f (k + 1) (by omega) b i (by rw [e]; exact h)) (fun i h => qk_sup g (k + 1) (by omega) b i (by rw [e]; exact h)) (by omega)
  rw [qk_join f g k c hk j]
  generalize 2 ^ (4 - k) = s at *
  show ((if j < 2 * s then qp_mul (qk_P f (k + 1) (3 * c)) (qk_P g (k + 1) (3 * c)) j else 0) + (if s ≤ j ∧ j < s + 2 * s then ((qp_mul (qk_P f (k + 1) (3 * c + 2)) (qk_P g (k + 1) (3 * c + 2)) (j - s) - qp_mul (qk_P f (k + 1) (3 * c)) (qk_P g (k + 1) (3 * c)) (j - s)) - qp_mul (qk_P f (k + 1) (3 * c + 1)) (qk_P g (k + 1) (3 * c + 1)) (j - s)) else 0)) + (if 2 * s ≤ j ∧ j < 2 * s + 2 * s then qp_mul (qk_P f (k + 1) (3 * c + 1)) (qk_P g (k + 1) (3 * c + 1)) (j - 2 * s) else 0) = _
  congr 1
  · congr 1
    · by_cases z : j < 2 * s
      · rw [if_pos z]
      · rw [if_neg z, sup _ j (by omega)]
    · by_cases z : j < s
      · rw [if_pos z, if_neg (by omega)]
      · rw [if_neg z]
        by_cases z2 : j < s + 2 * s
        · rw [if_pos (by omega)]
        · rw [if_neg (by omega), sup _ (j - s) (by omega), sup _ (j - s) (by omega), sup _ (j - s) (by omega)]
          grobner
  · rw [show s + s = 2 * s by omega]
    by_cases z : j < 2 * s
    · rw [if_pos z, if_neg (by omega)]
    · rw [if_neg z, if_pos (by omega)]
theorem qk_gather {post : St1 → Prop} {a1 a2 a3 a4 a5 a6 a7 a8 a9 a10 a11 a12 a13 a14 a15 : Nat → Int32} {f g : Nat → qf_F} (h : qk_Gt f g 5 a8) (H : ∀ c8 c9, qk_Gt f g 0 c8 → post (a1, a2, a3, a4, a5, a6, a7, c8, c9, a10, a11, a12, a13, a14, a15)) : wpX_gather post (a1, a2, a3, a4, a5, a6, a7, a8, a9, a10, a11, a12, a13, a14, a15) := by
  refine pk_loop (fun n m (s : (Nat → Int32) × (Nat → Int32)) => wX_gather_6 post n (nI (3 ^ (5 - m))) (nI (2 ^ m)) a1 a2 a3 a4 a5 a6 a7 s.1 s.2 a10 a11 a12 a13 a14 a15) (fun m s => qk_Gt f g (5 - m) s.1) 5 0 (a8, a9) (by omega) h (fun n s hI => ?_) (fun n m s hm hI hw => ?_)
  · exact br_t (by decide) (H s.1 s.2 hI)
  · obtain ⟨k, hk, hkm⟩ : ∃ k, k < 5 ∧ m = 4 - k := ⟨4 - m, by omega, by omega⟩
    obtain ⟨p1, p2, p3, p4, p5, p6⟩ := qk_pows hk
    have e1 : 5 - m = k + 1 := by omega
    have e2 : 5 - (m + 1) = k := by omega
    have hlt : 2 ^ m < 32 := by
      have : 2 ^ m ≤ 2 ^ 4 := Nat.pow_le_pow_right (by omega) (by omega)
      omega
    have h3 : 3 ^ (k + 1) < 2 ^ 31 := by
      have : 3 ^ (k + 1) ≤ 3 ^ 5 := Nat.pow_le_pow_right (by omega) (by omega)
      omega
    refine br_f (nI_ge (b := 32) hlt (by decide)) ⟨by decide, nm_r (e' := nI (3 ^ k)) ?_ ?_⟩
    · show nI (3 ^ (5 - m)) / nI 3 = _
      rw [e1, pk_div h3 (by omega) (by omega), Nat.pow_succ, Nat.mul_div_cancel _ (by omega)]
    · have hI' : qk_Gt f g (k + 1) s.1 := by
        rw [← e1]
        exact hI
      rw [hkm]
      refine qk_g18 (g := fun b j => qp_mul (qk_P f (k + 1) b) (qk_P g (k + 1) b) j) p2 p3 p6 (fun c j hc hj => ?_) (fun c8 c9 h8 => ?_)
      · have e5 : 5 - (k + 1) = 4 - k := by omega
        have := hI' c j (by rw [← p5]; omega) (by rw [e5]; exact hj)
        rw [e5] at this
        exact this
      · have hn := hw (c8, c9) (by
          show qk_Gt f g (5 - (m + 1)) c8
          rw [e2]
          intro b j hb hj
          rw [p4] at hj ⊢
          have := h8 b j hb (by omega)
          rw [qk_Gnext hk (by omega)] at this
          rw [← this]
          congr 1
          rw [← Nat.mul_assoc b 2, Nat.mul_comm b 2, Nat.mul_assoc 2 b, ← Nat.mul_assoc 2 2])
        have hn' : wX_gather_6 post n (nI (3 ^ (5 - (m + 1)))) (nI (2 ^ (m + 1))) a1 a2 a3 a4 a5 a6 a7 c8 c9 a10 a11 a12 a13 a14 a15 := hn
        rw [e2, hkm, Nat.pow_succ] at hn'
        exact hn'
end
section
/-! engine 1, the whole -/
theorem qk_h144 {post : St1 → Prop} {R : Nat → Nat → qf_F} {a1 a2 a3 a4 a5 a6 a7 a8 a9 a10 a11 a12 a13 a14 a15 : Nat → Int32} {g : Nat → qf_F} (h : qw_rows R a1) (h8 : ∀ i, i < 32 → a8 i = qf_i (g i)) (H : ∀ b, qw_rows (qw_set R 5 g) b → post (b, a2, a3, a4, a5, a6, a7, a8, a9, a10, a11, a12, a13, a14, a15)) : ∃ n, wX_multiplyByHalves_144 post n 0 a1 a2 a3 a4 a5 a6 a7 a8 a9 a10 a11 a12 a13 a14 a15 :=
  pk_loop (fun n i s => wX_multiplyByHalves_144 post n (nI i) s a2 a3 a4 a5 a6 a7 a8 a9 a10 a11 a12 a13 a14 a15) (fun i s => qw_rows (qw_part R 5 g i) s) 32 0 a1 (by omega) (qw_part0 h)
    (fun n s hs => pk_le 32 32 (fun _ => H s (qw_part32 hs)) (fun z => absurd z (by omega)))
    (fun n i s hi hs hw => pk_le 32 i (fun z => absurd z (by omega)) (fun _ => ⟨pk_in i 486 (by omega), qw_write (u := (s, a2, a3, a4, a5, a6, a7, a8, a9, a10, a11, a12, a13, a14, a15)) (r := 5) (by omega) hi (nm_r (nI_1 i) (hw _ (qw_step hs (by omega) hi (by rw [pk_cl i]; exact h8 i hi))))⟩))
theorem qk_h89 {post : St1 → Prop} {R : Nat → Nat → qf_F} {a1 a2 a3 a4 a5 a6 a7 a8 a9 a10 a11 a12 a13 a14 a15 : Nat → Int32} {f g : Nat → qf_F} (h : qw_rows R a1) (h5 : qk_A f 5 a5) (h6 : ∀ i, i < 243 → a6 i = qf_i (qk_P g 5 i 0))
    (H : ∀ b c8 c9, qw_rows (qw_set R 5 (qp_mul f g)) b → post (b, a2, a3, a4, a5, a6, a7, c8, c9, a10, a11, a12, a13, a14, a15)) : ∃ n, wX_multiplyByHalves_89 post n 0 a1 a2 a3 a4 a5 a6 a7 a8 a9 a10 a11 a12 a13 a14 a15 := by
  have h5' : ∀ i, i < 243 → a5 i = qf_i (qk_P f 5 i 0) := by
    intro i hi
    have := h5 i 0 hi (by decide)
    rw [show 2 ^ (5 - 5) = 1 by rfl, Nat.mul_one, Nat.add_zero] at this
    exact this
  refine pk_loop (fun n i c => wX_multiplyByHalves_89 post n (nI i) a1 a2 a3 a4 a5 a6 a7 c a9 a10 a11 a12 a13 a14 a15) (fun i c => ∀ j, j < i → c (2 * j) = qf_i (qk_P f 5 j 0 * qk_P g 5 j 0) ∧ c (2 * j + 1) = qf_i 0) 243 0 a8 (by omega) (fun j z => absurd z (by omega)) (fun n c hI => ?_) (fun n i c hi hI hw => ?_)
  · refine pk_le 243 243 (fun _ => qk_gather (f := f) (g := g) (fun b j hb hj => ?_) (fun c8 c9 hg => ?_)) (fun z => absurd z (by omega))
    · have hb' : b < 243 := hb
      have hj' : j < 2 := hj
      show c (2 * (b * 1) + j) = _
      rw [Nat.mul_one]
      by_cases z : j = 0
      · subst z
        rw [qp_mul0]
        exact (hI b hb').1
      · have z1 : j = 1 := by omega
        subst z1
        rw [qp_short (m := 1) (n := 1) (fun i hi => qk_sup f 5 (by omega) b i hi) (fun i hi => qk_sup g 5 (by omega) b i hi) (by omega)]
        exact (hI b hb').2
    · refine qk_h144 (g := qp_mul f g) h (fun i hi => ?_) (fun b hb => H b c8 c9 hb)
      have := hg 0 i (by decide) (show i < 2 * 2 ^ (5 - 0) by omega)
      rw [qk_top f g i hi, Nat.zero_mul, Nat.mul_zero, Nat.zero_add] at this
      exact this
  · have e0 : 2 * nI i = nI (2 * i) := pk_mul 2 i
    have e1 : 2 * nI i + 1 = nI (2 * i + 1) := by
      show nI 2 * nI i + nI 1 = _
      rw [pk_mul, nI_add]
    refine pk_le 243 i (fun z => absurd z (by omega)) (fun _ => ⟨pk_in i 243 hi, pk_in i 243 hi, by decide, pk_in _ 486 (by omega) e0, nm_r (by rw [nI_clamp (n := i) (by omega), pk_cl _ e0, h5' i hi, h6 i hi, qf_mul]) ⟨pk_in _ 486 (by omega) e1, nm_r (by rw [pk_cl _ e1]) (nm_r (nI_1 i) (hw _ (fun j hj => ?_)))⟩⟩)
    by_cases z : j = i
    · subst z
      exact ⟨by rw [pk_un (by omega), pk_us], by rw [pk_us]; rfl⟩
    · exact ⟨by rw [pk_un (by omega), pk_un (by omega)]; exact (hI j (by omega)).1, by rw [pk_un (by omega), pk_un (by omega)]; exact (hI j (by omega)).2⟩
theorem qk_load {f : Nat → qf_F} {a : Nat → Int32} (h : ∀ i, i < 32 → a i = qf_i (f i)) : qk_A f 0 a := by
  intro b i hb hi
  have hb' : b < 1 := hb
  have hi' : i < 32 := hi
  have e : b = 0 := by omega
  subst e
  show a (0 * 32 + i) = qf_i (if i < 32 then f i else 0)
  rw [if_pos hi', Nat.zero_mul, Nat.zero_add]
  exact h i hi'
theorem qk_h59 {post : St1 → Prop} {R : Nat → Nat → qf_F} {a1 a2 a3 a4 a5 a6 a7 a8 a9 a10 a11 a12 a13 a14 a15 : Nat → Int32} {a : Nat} {g : Nat → qf_F} (ha : a < 12) (h : qw_rows R a1) (h6 : ∀ i, i < 243 → a6 i = qf_i (qk_P g 5 i 0))
    (H : ∀ b c5 c7 c8 c9, qw_rows (qw_set R 5 (qp_mul (R a) g)) b → post (b, a2, a3, a4, c5, a6, c7, c8, c9, a10, a11, a12, a13, a14, a15)) : ∃ n, wX_multiplyByHalves_59 post (nI a) n 0 a1 a2 a3 a4 a5 a6 a7 a8 a9 a10 a11 a12 a13 a14 a15 := by
  refine pk_loop (fun n i c => wX_multiplyByHalves_59 post (nI a) n (nI i) a1 a2 a3 a4 c a6 a7 a8 a9 a10 a11 a12 a13 a14 a15) (fun i c => ∀ j, j < i → c j = qf_i (R a j)) 32 0 a5 (by omega) (fun j z => absurd z (by omega)) (fun n c hI => ?_) (fun n i c hi hI hw => ?_)
  · exact pk_le 32 32 (fun _ => qk_spread (qk_load hI) (fun c5 c7 h5 => qk_h89 h h5 h6 (fun b c8 c9 hb => H b c5 c7 c8 c9 hb))) (fun z => absurd z (by omega))
  · refine pk_le 32 i (fun z => absurd z (by omega)) (fun _ => qw_cell (u := (a1, a2, a3, a4, c, a6, a7, a8, a9, a10, a11, a12, a13, a14, a15)) ha hi h ⟨pk_in i 243 (by omega), nm_r (by rw [pk_cl i]) (nm_r (nI_1 i) (hw _ (fun j hj => ?_)))⟩)
    by_cases z : j = i
    · rw [z, pk_us]
    · rw [pk_un z]
      exact hI j (by omega)
theorem qk_h32 {post : St1 → Prop} {R : Nat → Nat → qf_F} {a1 a2 a3 a4 a5 a6 a7 a8 a9 a10 a11 a12 a13 a14 a15 : Nat → Int32} {a : Nat} {g : Nat → qf_F} (ha : a < 12) (h : qw_rows R a1) (h5 : qk_A g 5 a5)
    (H : ∀ b c5 c6 c7 c8 c9, qw_rows (qw_set R 5 (qp_mul (R a) g)) b → post (b, a2, a3, a4, c5, c6, c7, c8, c9, a10, a11, a12, a13, a14, a15)) : ∃ n, wX_multiplyByHalves_32 post (nI a) n 0 a1 a2 a3 a4 a5 a6 a7 a8 a9 a10 a11 a12 a13 a14 a15 := by
  refine pk_loop (fun n i c => wX_multiplyByHalves_32 post (nI a) n (nI i) a1 a2 a3 a4 a5 c a7 a8 a9 a10 a11 a12 a13 a14 a15) (fun i c => ∀ j, j < i → c j = a5 j) 243 0 a6 (by omega) (fun j z => absurd z (by omega)) (fun n c hI => ?_) (fun n i c hi hI hw => ?_)
  · refine pk_le 243 243 (fun _ => qk_h59 ha h (fun i hi => ?_) (fun b c5 c7 c8 c9 hb => H b c5 c c7 c8 c9 hb)) (fun z => absurd z (by omega))
    rw [hI i hi]
    have := h5 i 0 hi (by decide)
    rw [show 2 ^ (5 - 5) = 1 by rfl, Nat.mul_one, Nat.add_zero] at this
    exact this
  · refine pk_le 243 i (fun z => absurd z (by omega)) (fun _ => ⟨pk_in i 243 hi, pk_in i 243 hi, nm_r (by rw [pk_cl i]) (nm_r (nI_1 i) (hw _ (fun j hj => ?_)))⟩)
    by_cases z : j = i
    · rw [z, pk_us]
    · rw [pk_un z]
      exact hI j (by omega)
theorem qw_halves {post : St1 → Prop} {R : Nat → Nat → qf_F} {u : St1} {a b : Nat} (ha : a < 12) (hb : b < 12) (h : qw_ok R u) (H : ∀ u', qw_ok (qw_set R 5 (qp_mul (R a) (R b))) u' → post u') : wpX_multiplyByHalves post u (nI a) (nI b) := by
  obtain ⟨a1, a2, a3, a4, a5, a6, a7, a8, a9, a10, a11, a12, a13, a14, a15⟩ := u
  have hr : qw_rows R a1 := h.1
  have ht : qw_tab a2 a3 a4 := h.2
  refine pk_loop (fun n i c => wX_multiplyByHalves_2 post (nI a) (nI b) n (nI i) a1 a2 a3 a4 c a6 a7 a8 a9 a10 a11 a12 a13 a14 a15) (fun i c => ∀ j, j < i → c j = qf_i (R b j)) 32 0 a5 (by omega) (fun j z => absurd z (by omega)) (fun n c hI => ?_) (fun n i c hi hI hw => ?_)
  · exact pk_le 32 32 (fun _ => qk_spread (qk_load hI) (fun c5 c7 h5 => qk_h32 ha hr h5 (fun b1 c5 c6 c7 c8 c9 hb => H _ ⟨hb, ht⟩))) (fun z => absurd z (by omega))
  · refine pk_le 32 i (fun z => absurd z (by omega)) (fun _ => qw_cell (u := (a1, a2, a3, a4, c, a6, a7, a8, a9, a10, a11, a12, a13, a14, a15)) hb hi hr ⟨pk_in i 243 (by omega), nm_r (by rw [pk_cl i]) (nm_r (nI_1 i) (hw _ (fun j hj => ?_)))⟩)
    by_cases z : j = i
    · rw [z, pk_us]
    · rw [pk_un z]
      exact hI j (by omega)
end
section
/-! engine 2, the walk -/
theorem qt_thirdOf {post : Int32 → Prop} {R : Nat → Nat → qf_F} {u : St1} {r t i : Nat} (hr : r < 12) (ht : t < 3) (hi : i < 11) (h : qw_rows R u.1) (H : post (qf_i (qt_T (R r) t i))) : wpX_thirdOf post u (nI r) (nI t) (nI i) := by
  obtain ⟨a1, a2, a3, a4, a5, a6, a7, a8, a9, a10, a11, a12, a13, a14, a15⟩ := u
  have e : nI t * 11 + nI i = nI (11 * t + i) := by
    show nI t * nI 11 + nI i = _
    rw [pk_mul, nI_add, Nat.mul_comm]
  have eT : qt_T (R r) t i = if 11 * t + i < 32 then R r (11 * t + i) else 0 := if_pos hi
  rw [eT] at H
  refine nm_r e (pk_le 32 (11 * t + i) (fun z => ?_) (fun z => ?_))
  · rw [if_neg (by omega)] at H
    exact H
  · rw [if_pos z] at H
    exact qw_cell (u := (a1, a2, a3, a4, a5, a6, a7, a8, a9, a10, a11, a12, a13, a14, a15)) hr z h H
/-- thirdsB when a row has been laid -/
def qt_B (f : Nat → qf_F) (a : Nat → Int32) : Prop := ∀ p j, p < 5 → j < 11 → a (11 * p + j) = qf_i (qt_V f p j)
theorem qt_Bstep {f : Nat → qf_F} {c : Nat → Int32} {i : Nat} (hi : i < 11) (hI : ∀ p j, p < 5 → j < i → c (11 * p + j) = qf_i (qt_V f p j)) :
    ∀ p j, p < 5 → j < i + 1 → upd (upd (upd (upd (upd c i (qf_i (qt_T f 0 i))) (11 + i) (qf_i ((qt_T f 0 i + qt_T f 2 i) + qt_T f 1 i))) (22 + i) (qf_i ((qt_T f 0 i + qt_T f 2 i) - qt_T f 1 i))) (33 + i) (qf_i ((qt_T f 0 i + 2 * qt_T f 1 i) + 4 * qt_T f 2 i))) (44 + i) (qf_i (qt_T f 2 i)) (11 * p + j) = qf_i (qt_V f p j) := by
  intro p j hp hj
  by_cases e : j = i
  · subst e
    have h5 : p = 0 ∨ p = 1 ∨ p = 2 ∨ p = 3 ∨ p = 4 := by omega
    rcases h5 with rfl | rfl | rfl | rfl | rfl
    · rw [pk_un (by omega), pk_un (by omega), pk_un (by omega), pk_un (by omega), show 11 * 0 + j = j by omega, pk_us]
      rfl
    · rw [pk_un (by omega), pk_un (by omega), pk_un (by omega), show 11 * 1 + j = 11 + j by omega, pk_us]
      rfl
    · rw [pk_un (by omega), pk_un (by omega), show 11 * 2 + j = 22 + j by omega, pk_us]
      rfl
    · rw [pk_un (by omega), show 11 * 3 + j = 33 + j by omega, pk_us]
      rfl
    · rw [show 11 * 4 + j = 44 + j by omega, pk_us]
      rfl
  · rw [pk_un (by omega), pk_un (by omega), pk_un (by omega), pk_un (by omega), pk_un (by omega)]
    exact hI p j hp (by omega)
theorem qt_lay {post : St1 → Prop} {R : Nat → Nat → qf_F} {a1 a2 a3 a4 a5 a6 a7 a8 a9 a10 a11 a12 a13 a14 a15 : Nat → Int32} {r : Nat} (hr : r < 12) (h : qw_rows R a1) (H : ∀ c, qt_B (R r) c → post (a1, a2, a3, a4, a5, a6, a7, a8, a9, a10, c, a12, a13, a14, a15)) : wpX_layThirds post (a1, a2, a3, a4, a5, a6, a7, a8, a9, a10, a11, a12, a13, a14, a15) (nI r) := by
  refine pk_loop (fun n i c => wX_layThirds_2 post (nI r) n (nI i) a1 a2 a3 a4 a5 a6 a7 a8 a9 a10 c a12 a13 a14 a15) (fun i c => ∀ p j, p < 5 → j < i → c (11 * p + j) = qf_i (qt_V (R r) p j)) 11 0 a11 (by omega) (fun p j _ z => absurd z (by omega)) (fun n c hI => ?_) (fun n i c hi hI hw => ?_)
  · exact pk_le 11 11 (fun _ => H c hI) (fun z => absurd z (by omega))
  · have e1 : 11 + nI i = nI (11 + i) := nI_add 11 i
    have e2 : 22 + nI i = nI (22 + i) := nI_add 22 i
    have e3 : 33 + nI i = nI (33 + i) := nI_add 33 i
    have e4 : 44 + nI i = nI (44 + i) := nI_add 44 i
    refine pk_le 11 i (fun z => absurd z (by omega)) (fun _ => qt_thirdOf (u := (a1, a2, a3, a4, a5, a6, a7, a8, a9, a10, c, a12, a13, a14, a15)) (t := 0) hr (by omega) hi h (qt_thirdOf (u := (a1, a2, a3, a4, a5, a6, a7, a8, a9, a10, c, a12, a13, a14, a15)) (t := 1) hr (by omega) hi h (qt_thirdOf (u := (a1, a2, a3, a4, a5, a6, a7, a8, a9, a10, c, a12, a13, a14, a15)) (t := 2) hr (by omega) hi h (qf_plus ?_))))
    refine ⟨pk_in i 55 (by omega), nm_r (by rw [pk_cl i]) (qf_plus ⟨pk_in _ 55 (by omega) e1, nm_r (by rw [pk_cl _ e1]) (qf_minus ⟨pk_in _ 55 (by omega) e2, nm_r (by rw [pk_cl _ e2]) ⟨by decide, pk_in _ 55 (by omega) e3, nm_r (by rw [pk_cl _ e3, qf_lin3]) ⟨pk_in _ 55 (by omega) e4, nm_r (by rw [pk_cl _ e4]) (nm_r (nI_1 i) (hw _ (qt_Bstep hi hI)))⟩⟩⟩)⟩)⟩
/-- a product of thirds, when i places of one and j of the next are done -/
def qt_acc (A B : Nat → qf_F) (i j k : Nat) : qf_F := qs_sm (fun a => if a ≤ k ∧ k < a + 11 then A a * B (k - a) else 0) i + (if i ≤ k ∧ k < i + j then A i * B (k - i) else 0)
theorem qt_acc0 (A B : Nat → qf_F) (k : Nat) : qt_acc A B 0 0 k = 0 := by
  show (0 : qf_F) + (if 0 ≤ k ∧ k < 0 + 0 then A 0 * B (k - 0) else 0) = 0
  rw [if_neg (by omega)]
  grobner
theorem qt_accJ (A B : Nat → qf_F) (i j : Nat) : qt_acc A B i (j + 1) (i + j) = qt_acc A B i j (i + j) + A i * B j := by
  show qs_sm _ i + (if i ≤ i + j ∧ i + j < i + (j + 1) then A i * B (i + j - i) else 0) = qs_sm _ i + (if i ≤ i + j ∧ i + j < i + j then A i * B (i + j - i) else 0) + A i * B j
  rw [if_pos (by omega), if_neg (by omega), show i + j - i = j by omega]
  grobner
theorem qt_accN (A B : Nat → qf_F) {i j k : Nat} (h : k ≠ i + j) : qt_acc A B i (j + 1) k = qt_acc A B i j k := by
  show qs_sm _ i + (if i ≤ k ∧ k < i + (j + 1) then A i * B (k - i) else 0) = qs_sm _ i + (if i ≤ k ∧ k < i + j then A i * B (k - i) else 0)
  rw [qk_ite (show (i ≤ k ∧ k < i + (j + 1)) ↔ (i ≤ k ∧ k < i + j) by omega)]
theorem qt_accI (A B : Nat → qf_F) (i k : Nat) : qt_acc A B i 11 k = qt_acc A B (i + 1) 0 k := by
  show qs_sm (fun a => if a ≤ k ∧ k < a + 11 then A a * B (k - a) else 0) i + (if i ≤ k ∧ k < i + 11 then A i * B (k - i) else 0) = qs_sm (fun a => if a ≤ k ∧ k < a + 11 then A a * B (k - a) else 0) (i + 1) + (if i + 1 ≤ k ∧ k < i + 1 + 0 then A (i + 1) * B (k - (i + 1)) else 0)
  rw [qs_sms, if_neg (show ¬ (i + 1 ≤ k ∧ k < i + 1 + 0) by omega)]
  grobner
theorem qt_accE {A B : Nat → qf_F} (hA : ∀ i, 11 ≤ i → A i = 0) (hB : ∀ i, 11 ≤ i → B i = 0) (k : Nat) : qt_acc A B 11 0 k = qp_mul A B k := by
  have e1 : qs_sm (fun a => if a ≤ k ∧ k < a + 11 then A a * B (k - a) else 0) (k + 12) = qs_sm (fun a => if a ≤ k ∧ k < a + 11 then A a * B (k - a) else 0) 11 := by
    apply qs_ext (by omega)
    intro a h1 h2
    by_cases z : a ≤ k ∧ k < a + 11
    · rw [if_pos z, hA a h1]
      grobner
    · rw [if_neg z]
  have e2 : qs_sm (fun a => if a ≤ k ∧ k < a + 11 then A a * B (k - a) else 0) (k + 12) = qs_sm (fun a => if a ≤ k ∧ k < a + 11 then A a * B (k - a) else 0) (k + 1) := by
    apply qs_ext (by omega)
    intro a h1 h2
    rw [if_neg (by omega)]
  show qs_sm (fun a => if a ≤ k ∧ k < a + 11 then A a * B (k - a) else 0) 11 + (if 11 ≤ k ∧ k < 11 + 0 then A 11 * B (k - 11) else 0) = _
  rw [← e1, e2, if_neg (by omega)]
  have e3 : qs_sm (fun a => if a ≤ k ∧ k < a + 11 then A a * B (k - a) else 0) (k + 1) = qp_mul A B k := by
    apply qs_congr
    intro a ha
    by_cases z : k < a + 11
    · rw [if_pos (by omega)]
    · rw [if_neg (by omega), hB (k - a) (by omega)]
      grobner
  rw [e3]
  grobner
theorem qt_m36 {post : St1 → Prop} {J : Int32 → qw_K} {a1 a2 a3 a4 a5 a6 a7 a8 a9 a10 a11 a12 a13 a14 a15 : Nat → Int32} {p i : Nat} {A B : Nat → qf_F} (hp : p < 5) (hi : i < 11) (h10 : ∀ j, j < 11 → a10 (11 * p + j) = qf_i (A j)) (h11 : ∀ j, j < 11 → a11 (11 * p + j) = qf_i (B j)) (h12 : ∀ k, k < 21 → a12 (21 * p + k) = qf_i (qt_acc A B i 0 k))
    (H : ∀ c, (∀ k, k < 21 → c (21 * p + k) = qf_i (qt_acc A B (i + 1) 0 k)) → (∀ x, (x < 21 * p ∨ 21 * p + 21 ≤ x) → c x = a12 x) → J (nI (i + 1)) a1 a2 a3 a4 a5 a6 a7 a8 a9 a10 a11 c a13 a14 a15) : ∃ n, wX_multiplyThirds_36 post J (nI p) (nI i) n 0 a1 a2 a3 a4 a5 a6 a7 a8 a9 a10 a11 a12 a13 a14 a15 := by
  refine pk_loop (fun n j c => wX_multiplyThirds_36 post J (nI p) (nI i) n (nI j) a1 a2 a3 a4 a5 a6 a7 a8 a9 a10 a11 c a13 a14 a15) (fun j c => (∀ k, k < 21 → c (21 * p + k) = qf_i (qt_acc A B i j k)) ∧ ∀ x, (x < 21 * p ∨ 21 * p + 21 ≤ x) → c x = a12 x) 11 0 a12 (by omega) ⟨h12, fun _ _ => rfl⟩ (fun n c hI => ?_) (fun n j c hj hI hw => ?_)
  · exact pk_le 11 11 (fun _ => nm_r (nI_1 i) (H c (fun k hk => by rw [hI.1 k hk, qt_accI]) hI.2)) (fun z => absurd z (by omega))
  · have e0 : nI p * 21 + nI i + nI j = nI (21 * p + (i + j)) := by
      show nI p * nI 21 + nI i + nI j = _
      rw [pk_mul, nI_add, nI_add, Nat.mul_comm, Nat.add_assoc]
    have e1 : nI p * 11 + nI i = nI (11 * p + i) := by
      show nI p * nI 11 + nI i = _
      rw [pk_mul, nI_add, Nat.mul_comm]
    have e2 : nI p * 11 + nI j = nI (11 * p + j) := by
      show nI p * nI 11 + nI j = _
      rw [pk_mul, nI_add, Nat.mul_comm]
    refine pk_le 11 j (fun z => absurd z (by omega)) (fun _ => nm_r e0 ⟨pk_in (21 * p + (i + j)) 105 (by omega), pk_in _ 55 (by omega) e1, pk_in _ 55 (by omega) e2, by decide, pk_in (21 * p + (i + j)) 105 (by omega), nm_r (by rw [pk_cl (21 * p + (i + j)), pk_cl _ e1, pk_cl _ e2, h10 i hi, h11 j hj, hI.1 (i + j) (by omega), qf_addm]) (nm_r (nI_1 j) (hw _ ⟨fun k hk => ?_, fun x hx => ?_⟩))⟩)
    · by_cases z : k = i + j
      · rw [z, pk_us, qt_accJ]
      · rw [pk_un (by omega), hI.1 k hk, qt_accN A B z]
    · rw [pk_un (by omega)]
      exact hI.2 x hx
theorem qt_mul3 {post : St1 → Prop} {a1 a2 a3 a4 a5 a6 a7 a8 a9 a10 a11 a12 a13 a14 a15 : Nat → Int32} {p : Nat} {A B : Nat → qf_F} (hp : p < 5) (h10 : ∀ j, j < 11 → a10 (11 * p + j) = qf_i (A j)) (h11 : ∀ j, j < 11 → a11 (11 * p + j) = qf_i (B j)) (hA : ∀ i, 11 ≤ i → A i = 0) (hB : ∀ i, 11 ≤ i → B i = 0)
    (H : ∀ c, (∀ k, k < 21 → c (21 * p + k) = qf_i (qp_mul A B k)) → (∀ x, (x < 21 * p ∨ 21 * p + 21 ≤ x) → c x = a12 x) → post (a1, a2, a3, a4, a5, a6, a7, a8, a9, a10, a11, c, a13, a14, a15)) : wpX_multiplyThirds post (a1, a2, a3, a4, a5, a6, a7, a8, a9, a10, a11, a12, a13, a14, a15) (nI p) := by
  refine pk_loop (fun n i c => wX_multiplyThirds_2 post (nI p) n (nI i) a1 a2 a3 a4 a5 a6 a7 a8 a9 a10 a11 c a13 a14 a15) (fun i c => (∀ k, k < i → c (21 * p + k) = qf_i 0) ∧ ∀ x, (x < 21 * p ∨ 21 * p + 21 ≤ x) → c x = a12 x) 21 0 a12 (by omega) ⟨fun j z => absurd z (by omega), fun _ _ => rfl⟩ (fun n c hI => ?_) (fun n i c hi hI hw => ?_)
  · refine pk_le 21 21 (fun _ => ?_) (fun z => absurd z (by omega))
    refine pk_loop (fun n i c => wX_multiplyThirds_28 post (nI p) n (nI i) a1 a2 a3 a4 a5 a6 a7 a8 a9 a10 a11 c a13 a14 a15) (fun i c => (∀ k, k < 21 → c (21 * p + k) = qf_i (qt_acc A B i 0 k)) ∧ ∀ x, (x < 21 * p ∨ 21 * p + 21 ≤ x) → c x = a12 x) 11 0 c (by omega) ⟨fun k hk => by rw [hI.1 k hk, qt_acc0], hI.2⟩ (fun n c' hI' => ?_) (fun n i c' hi hI' hw' => ?_)
    · exact pk_le 11 11 (fun _ => H c' (fun k hk => by rw [hI'.1 k hk, qt_accE hA hB]) hI'.2) (fun z => absurd z (by omega))
    · exact pk_le 11 i (fun z => absurd z (by omega)) (fun _ => qt_m36 hp hi h10 h11 hI'.1 (fun c2 k1 k2 => hw' c2 ⟨k1, fun x hx => by rw [k2 x hx, hI'.2 x hx]⟩))
  · have e0 : nI p * 21 + nI i = nI (21 * p + i) := by
      show nI p * nI 21 + nI i = _
      rw [pk_mul, nI_add, Nat.mul_comm]
    refine pk_le 21 i (fun z => absurd z (by omega)) (fun _ => ⟨pk_in _ 105 (by omega) e0, nm_r (by rw [pk_cl _ e0]) (nm_r (nI_1 i) (hw _ ⟨fun k hk => ?_, fun x hx => ?_⟩))⟩)
    · by_cases z : k = i
      · rw [z, pk_us]
        rfl
      · rw [pk_un (by omega)]
        exact hI.1 k (by omega)
    · rw [pk_un (by omega)]
      exact hI.2 x hx
/-! joining -/
def qt_ad (v : Nat → qf_F) (k : Nat) (x : qf_F) : Nat → qf_F := fun j => v j + (if j = k then x else 0)
theorem qt_addTo {post : St1 → Prop} {R : Nat → Nat → qf_F} {a1 a2 a3 a4 a5 a6 a7 a8 a9 a10 a11 a12 a13 a14 a15 : Nat → Int32} {v : Nat → qf_F} {k : Nat} {x : qf_F} (hk : k < 100) (h : qw_rows (qw_set R 5 v) a1) (H : ∀ b, qw_rows (qw_set R 5 (qt_ad v k x)) b → post (b, a2, a3, a4, a5, a6, a7, a8, a9, a10, a11, a12, a13, a14, a15)) : wpX_addTo post (a1, a2, a3, a4, a5, a6, a7, a8, a9, a10, a11, a12, a13, a14, a15) (nI k) (qf_i x) := by
  refine pk_le 32 k (fun z => H a1 (qw_cong h (fun r _ j hj => ?_))) (fun z => ⟨qw_kin 5 160 rfl (by omega) z, ?_⟩)
  · by_cases e : r = 5
    · rw [e, qw_setP, qw_setP]
      show v j + (if j = k then x else 0) = v j
      rw [if_neg (by omega)]
      grobner
    · rw [qw_setN e, qw_setN e]
  · rw [qw_kat 5 160 rfl h (by omega) z, qw_setP]
    refine qf_plus ⟨qw_kin 5 160 rfl (by omega) z, nm_r (by rw [pk_cl (x := 160 + nI k) (32 * 5 + k) (nI_add 160 k)]) (H _ (qw_cong (qw_put (r := 5) (i := k) (x := v k + x) h (by omega) z rfl) (fun r _ j hj => ?_)))⟩
    by_cases e : r = 5
    · rw [e, qw_setP, qw_setP, qw_setP]
      show v j + (if j = k then x else 0) = if j = k then v k + x else v j
      by_cases e2 : j = k
      · rw [if_pos e2, if_pos e2, e2]
      · rw [if_neg e2, if_neg e2]
        grobner
    · rw [qw_setN e, qw_setN e, qw_setN e]
/-- place k of the row when i places are joined -/
def qt_tm (c : Nat → qf_F) (t i k : Nat) : qf_F := if t ≤ k ∧ k < t + i then c (k - t) else 0
theorem qt_tms (c : Nat → qf_F) (t i k : Nat) : qt_tm c t (i + 1) k = qt_tm c t i k + (if k = i + t then c i else 0) := by
  show (if t ≤ k ∧ k < t + (i + 1) then c (k - t) else 0) = (if t ≤ k ∧ k < t + i then c (k - t) else 0) + (if k = i + t then c i else 0)
  by_cases z : k = i + t
  · rw [if_pos z, if_pos (by omega), if_neg (by omega), show k - t = i by omega]
    grobner
  · rw [if_neg z, qk_ite (show (t ≤ k ∧ k < t + (i + 1)) ↔ (t ≤ k ∧ k < t + i) by omega)]
    grobner
def qt_S (f g : Nat → qf_F) (i : Nat) : Nat → qf_F := fun k => (((qt_tm (qt_c f g 0) 0 i k + qt_tm (qt_c f g 1) 11 i k) + qt_tm (qt_c f g 2) 22 i k) + qt_tm (qt_c f g 3) 33 i k) + qt_tm (qt_c f g 4) 44 i k
theorem qt_Ss (f g : Nat → qf_F) (i : Nat) : qt_S f g (i + 1) = qt_ad (qt_ad (qt_ad (qt_ad (qt_ad (qt_S f g i) i (qt_c f g 0 i)) (i + 11) (qt_c f g 1 i)) (i + 22) (qt_c f g 2 i)) (i + 33) (qt_c f g 3 i)) (i + 44) (qt_c f g 4 i) := by
  funext k
  show (((qt_tm (qt_c f g 0) 0 (i + 1) k + qt_tm (qt_c f g 1) 11 (i + 1) k) + qt_tm (qt_c f g 2) 22 (i + 1) k) + qt_tm (qt_c f g 3) 33 (i + 1) k) + qt_tm (qt_c f g 4) 44 (i + 1) k = (((((((((qt_tm (qt_c f g 0) 0 i k + qt_tm (qt_c f g 1) 11 i k) + qt_tm (qt_c f g 2) 22 i k) + qt_tm (qt_c f g 3) 33 i k) + qt_tm (qt_c f g 4) 44 i k) + (if k = i then qt_c f g 0 i else 0)) + (if k = i + 11 then qt_c f g 1 i else 0)) + (if k = i + 22 then qt_c f g 2 i else 0)) + (if k = i + 33 then qt_c f g 3 i else 0)) + (if k = i + 44 then qt_c f g 4 i else 0))
  rw [qt_tms, qt_tms, qt_tms, qt_tms, qt_tms, Nat.add_zero]
  generalize (if k = i then qt_c f g 0 i else 0) = e0
  generalize (if k = i + 11 then qt_c f g 1 i else 0) = e1
  generalize (if k = i + 22 then qt_c f g 2 i else 0) = e2
  generalize (if k = i + 33 then qt_c f g 3 i else 0) = e3
  generalize (if k = i + 44 then qt_c f g 4 i else 0) = e4
  grobner
theorem qt_S0 (f g : Nat → qf_F) : qt_S f g 0 = fun _ => 0 := by
  funext k
  have e : ∀ c t, qt_tm c t 0 k = 0 := fun c t => if_neg (by omega)
  show (((qt_tm (qt_c f g 0) 0 0 k + qt_tm (qt_c f g 1) 11 0 k) + qt_tm (qt_c f g 2) 22 0 k) + qt_tm (qt_c f g 3) 33 0 k) + qt_tm (qt_c f g 4) 44 0 k = 0
  rw [e, e, e, e, e]
  grobner
theorem qt_S21 (f g : Nat → qf_F) : qp_e 32 (qt_S f g 21) (qp_mul f g) := by
  intro k hk
  rw [← qt_sum f g hk]
  have e : ∀ t c, qt_tm (qt_c f g c) t 21 k = if k < t then 0 else qt_c f g c (k - t) := by
    intro t c
    show (if t ≤ k ∧ k < t + 21 then qt_c f g c (k - t) else 0) = _
    by_cases z : k < t
    · rw [if_pos z, if_neg (by omega)]
    · rw [if_neg z]
      by_cases z2 : k < t + 21
      · rw [if_pos (by omega)]
      · rw [if_neg (by omega), qt_csup f g c (by omega)]
  show (((qt_tm (qt_c f g 0) 0 21 k + qt_tm (qt_c f g 1) 11 21 k) + qt_tm (qt_c f g 2) 22 21 k) + qt_tm (qt_c f g 3) 33 21 k) + qt_tm (qt_c f g 4) 44 21 k = _
  rw [e, e, e, e, e, if_neg (show ¬ k < 0 by omega), Nat.sub_zero]
/-- thirdsC when all points are done -/
def qt_C (f g : Nat → qf_F) (n : Nat) (a : Nat → Int32) : Prop := ∀ p k, p < n → k < 21 → a (21 * p + k) = qf_i (qp_mul (qt_V f p) (qt_V g p) k)
theorem qt_join {post : St1 → Prop} {R : Nat → Nat → qf_F} {a1 a2 a3 a4 a5 a6 a7 a8 a9 a10 a11 a12 a13 a14 a15 : Nat → Int32} {f g v : Nat → qf_F} {i : Nat} (hi : i < 21) (ht : qw_tab a2 a3 a4) (hc : qt_C f g 5 a12) (h : qw_rows (qw_set R 5 v) a1)
    (H : ∀ b, qw_rows (qw_set R 5 (qt_ad (qt_ad (qt_ad (qt_ad (qt_ad v i (qt_c f g 0 i)) (i + 11) (qt_c f g 1 i)) (i + 22) (qt_c f g 2 i)) (i + 33) (qt_c f g 3 i)) (i + 44) (qt_c f g 4 i))) b → post (b, a2, a3, a4, a5, a6, a7, a8, a9, a10, a11, a12, a13, a14, a15)) : wpX_joinThirds post (a1, a2, a3, a4, a5, a6, a7, a8, a9, a10, a11, a12, a13, a14, a15) (nI i) := by
  have i2 : a2 2 = qf_i (qf_inv 2) := ht.1 2 (by omega) (by omega)
  have i3 : a2 3 = qf_i (qf_inv 3) := ht.1 3 (by omega) (by omega)
  have e1 : 21 + nI i = nI (21 * 1 + i) := nI_add 21 i
  have e2 : 42 + nI i = nI (21 * 2 + i) := nI_add 42 i
  have e3 : 63 + nI i = nI (21 * 3 + i) := nI_add 63 i
  have e4 : 84 + nI i = nI (21 * 4 + i) := nI_add 84 i
  have c0 : a12 (nI i).toNatClampNeg = _ := (by rw [pk_cl i]; exact (by have := hc 0 i (by omega) hi; rw [show 21 * 0 + i = i by omega] at this; exact this) : a12 (nI i).toNatClampNeg = qf_i (qp_mul (qt_V f 0) (qt_V g 0) i))
  have c1 : a12 (21 + nI i).toNatClampNeg = qf_i (qp_mul (qt_V f 1) (qt_V g 1) i) := by rw [pk_cl _ e1]; exact hc 1 i (by omega) hi
  have c2 : a12 (42 + nI i).toNatClampNeg = qf_i (qp_mul (qt_V f 2) (qt_V g 2) i) := by rw [pk_cl _ e2]; exact hc 2 i (by omega) hi
  have c3 : a12 (63 + nI i).toNatClampNeg = qf_i (qp_mul (qt_V f 3) (qt_V g 3) i) := by rw [pk_cl _ e3]; exact hc 3 i (by omega) hi
  have c4 : a12 (84 + nI i).toNatClampNeg = qf_i (qp_mul (qt_V f 4) (qt_V g 4) i) := by rw [pk_cl _ e4]; exact hc 4 i (by omega) hi
  obtain ⟨s0, s1, s2, s3, s4⟩ := qt_solve f g i (qf_inv 2) (qf_inv 3) qf_h2 qf_h3 rfl rfl rfl rfl rfl rfl rfl rfl rfl rfl rfl rfl
  rw [← s0, ← s1, ← s2, ← s3, ← s4] at H
  refine ⟨pk_in i 105 (by omega), nm_r c0 ⟨pk_in _ 105 (by omega) e4, nm_r c4 ⟨pk_in _ 105 (by omega) e1, pk_in _ 105 (by omega) e2, ?_⟩⟩⟩
  rw [c1, c2]
  refine qf_plus ⟨by decide, nm_r (by rw [i2, qf_mul]) ⟨pk_in _ 105 (by omega) e1, pk_in _ 105 (by omega) e2, ?_⟩⟩
  refine qf_minus ⟨by decide, nm_r (by rw [i2, qf_mul]) (qf_minus (qf_minus ⟨by decide, nm_r (by rw [qf_lin16]) ⟨pk_in _ 105 (by omega) e3, ?_⟩⟩))⟩
  rw [c3]
  refine qf_minus ⟨by decide, nm_r (by rw [i2, qf_mul]) (qf_minus ⟨by decide, nm_r (by rw [i3, qf_mul]) (qf_minus ?_)⟩)⟩
  have f1 : nI i + 11 = nI (i + 11) := nI_add i 11
  have f2 : nI i + 22 = nI (i + 22) := nI_add i 22
  have f3 : nI i + 33 = nI (i + 33) := nI_add i 33
  have f4 : nI i + 44 = nI (i + 44) := nI_add i 44
  refine qt_addTo (by omega) h (fun b1 h1 => ?_)
  rw [f1]
  refine qt_addTo (by omega) h1 (fun b2 h2 => ?_)
  rw [f2]
  refine qt_addTo (by omega) h2 (fun b3 h3 => ?_)
  rw [f3]
  refine qt_addTo (by omega) h3 (fun b4 h4 => ?_)
  rw [f4]
  exact qt_addTo (by omega) h4 (fun b5 h5 => H b5 h5)
theorem qt_m38 {post : St1 → Prop} {R : Nat → Nat → qf_F} {a1 a2 a3 a4 a5 a6 a7 a8 a9 a10 a11 a12 a13 a14 a15 : Nat → Int32} {f g : Nat → qf_F} (ht : qw_tab a2 a3 a4) (h : qw_rows R a1) (h10 : qt_B f a10) (h11 : qt_B g a11) (H : ∀ b c, qw_rows (qw_set R 5 (qp_mul f g)) b → post (b, a2, a3, a4, a5, a6, a7, a8, a9, a10, a11, c, a13, a14, a15)) : ∃ n, wX_multiplyByThirds_38 post n 0 a1 a2 a3 a4 a5 a6 a7 a8 a9 a10 a11 a12 a13 a14 a15 := by
  refine pk_loop (fun n p c => wX_multiplyByThirds_38 post n (nI p) a1 a2 a3 a4 a5 a6 a7 a8 a9 a10 a11 c a13 a14 a15) (fun p c => qt_C f g p c) 5 0 a12 (by omega) (fun p k z => absurd z (by omega)) (fun n c hI => ?_) (fun n p c hp hI hw => ?_)
  · refine pk_le 5 5 (fun _ => qw_clearRow (u := (a1, a2, a3, a4, a5, a6, a7, a8, a9, a10, a11, c, a13, a14, a15)) (r := 5) (by omega) h (fun b1 h1 => ?_)) (fun z => absurd z (by omega))
    refine pk_loop (fun n i b => wX_multiplyByThirds_61 post n (nI i) b a2 a3 a4 a5 a6 a7 a8 a9 a10 a11 c a13 a14 a15) (fun i b => qw_rows (qw_set R 5 (qt_S f g i)) b) 21 0 b1 (by omega) (by rw [qt_S0]; exact h1) (fun n b hb => ?_) (fun n i b hi hb hw => ?_)
    · refine pk_le 21 21 (fun _ => H b c (qw_cong hb (fun r _ j hj => ?_))) (fun z => absurd z (by omega))
      by_cases e : r = 5
      · rw [e, qw_setP, qw_setP]
        exact (qt_S21 f g j hj).symm
      · rw [qw_setN e, qw_setN e]
    · exact pk_le 21 i (fun z => absurd z (by omega)) (fun _ => qt_join hi ht hI hb (fun b' hb' => nm_r (nI_1 i) (hw b' (by rw [qt_Ss]; exact hb'))))
  · refine pk_le 5 p (fun z => absurd z (by omega)) (fun _ => qt_mul3 hp (fun j hj => h10 p j hp hj) (fun j hj => h11 p j hp hj) (qt_Vsup f p) (qt_Vsup g p) (fun c' k1 k2 => nm_r (nI_1 p) (hw c' (fun q k hq hk => ?_))))
    by_cases z : q = p
    · rw [z]
      exact k1 k hk
    · rw [k2 _ (by omega)]
      exact hI q k (by omega) hk
theorem qw_thirds {post : St1 → Prop} {R : Nat → Nat → qf_F} {u : St1} {a b : Nat} (ha : a < 12) (hb : b < 12) (h : qw_ok R u) (H : ∀ u', qw_ok (qw_set R 5 (qp_mul (R a) (R b))) u' → post u') : wpX_multiplyByThirds post u (nI a) (nI b) := by
  obtain ⟨a1, a2, a3, a4, a5, a6, a7, a8, a9, a10, a11, a12, a13, a14, a15⟩ := u
  have hr : qw_rows R a1 := h.1
  have ht : qw_tab a2 a3 a4 := h.2
  refine qt_lay ha hr (fun c11 hc => ?_)
  refine pk_loop (fun n i c => wX_multiplyByThirds_7 post (nI b) n (nI i) a1 a2 a3 a4 a5 a6 a7 a8 a9 c c11 a12 a13 a14 a15) (fun i c => ∀ j, j < i → c j = c11 j) 55 0 a10 (by omega) (fun j z => absurd z (by omega)) (fun n c hI => ?_) (fun n i c hi hI hw => ?_)
  · refine pk_le 55 55 (fun _ => qt_lay hb hr (fun d11 hd => qt_m38 ht hr (f := R a) (g := R b) (fun p j hp hj => ?_) hd (fun b1 c12 hb1 => H _ ⟨hb1, ht⟩))) (fun z => absurd z (by omega))
    rw [hI _ (by omega)]
    exact hc p j hp hj
  · refine pk_le 55 i (fun z => absurd z (by omega)) (fun _ => ⟨pk_in i 55 hi, pk_in i 55 hi, nm_r (by rw [pk_cl i]) (nm_r (nI_1 i) (hw _ (fun j hj => ?_)))⟩)
    by_cases z : j = i
    · rw [z, pk_us]
    · rw [pk_un z]
      exact hI j (by omega)
end
section
/-! engine 3, the walk -/
/-- wideA holds a -/
def qn_A (a : Nat → qf_F) (c : Nat → Int32) : Prop := ∀ p, p < 64 → c p = qf_i (a p)
theorem qn_load {post : St1 → Prop} {R : Nat → Nat → qf_F} {a1 a2 a3 a4 a5 a6 a7 a8 a9 a10 a11 a12 a13 a14 a15 : Nat → Int32} {r : Nat} (hr : r < 12) (h : qw_rows R a1) (H : ∀ c, qn_A (qk_lo 32 (R r)) c → post (a1, a2, a3, a4, a5, a6, a7, a8, a9, a10, a11, a12, c, a14, a15)) : wpX_loadWide post (a1, a2, a3, a4, a5, a6, a7, a8, a9, a10, a11, a12, a13, a14, a15) (nI r) := by
  refine pk_loop (fun n i c => wX_loadWide_2 post (nI r) n (nI i) a1 a2 a3 a4 a5 a6 a7 a8 a9 a10 a11 a12 c a14 a15) (fun i c => ∀ p, p < i → c p = qf_i (qk_lo 32 (R r) p)) 64 0 a13 (by omega) (fun p z => absurd z (by omega)) (fun n c hI => ?_) (fun n i c hi hI hw => ?_)
  · exact pk_le 64 64 (fun _ => H c hI) (fun z => absurd z (by omega))
  · have next : ∀ v : Int32, v = qf_i (qk_lo 32 (R r) i) → ∀ p, p < i + 1 → upd c i v p = qf_i (qk_lo 32 (R r) p) := by
      intro v hv p hp
      by_cases z : p = i
      · rw [z, pk_us, hv]
      · rw [pk_un z]
        exact hI p (by omega)
    refine pk_le 64 i (fun z => absurd z (by omega)) (fun _ => pk_le 32 i (fun z => ⟨pk_in i 64 hi, nm_r (by rw [pk_cl i]) (nm_r (nI_1 i) (hw _ (next _ ?_)))⟩) (fun z => qw_cell (u := (a1, a2, a3, a4, a5, a6, a7, a8, a9, a10, a11, a12, c, a14, a15)) hr z h ⟨pk_in i 64 hi, nm_r (by rw [pk_cl i]) (nm_r (nI_1 i) (hw _ (next _ ?_)))⟩))
    · have e : qk_lo 32 (R r) i = 0 := if_neg (by omega)
      rw [e]
      rfl
    · have e : qk_lo 32 (R r) i = R r i := if_pos z
      rw [e]
theorem qn_cross2 {post : St1 → Prop} {a1 a2 a3 a4 a5 a6 a7 a8 a9 a10 a11 a12 a13 a14 a15 : Nat → Int32} {p q : Nat} {x y w : qf_F} (hp : p < 64) (hq : q < 64) (hx : a13 p = qf_i x) (hy : a13 q = qf_i y) (H : post (a1, a2, a3, a4, a5, a6, a7, a8, a9, a10, a11, a12, (upd (upd a13 p (qf_i (x + y * w))) q (qf_i (x - y * w))), a14, a15)) : wpX_cross2 post (a1, a2, a3, a4, a5, a6, a7, a8, a9, a10, a11, a12, a13, a14, a15) (nI p) (nI q) (qf_i w) :=
  ⟨pk_in p 64 hp, nm_r (by rw [pk_cl p]; exact hx) ⟨pk_in q 64 hq, by decide, nm_r (by rw [pk_cl q, hy, qf_mul]) (qf_plus ⟨pk_in p 64 hp, nm_r (by rw [pk_cl p]) (qf_minus ⟨pk_in q 64 hq, nm_r (by rw [pk_cl q]) H⟩)⟩)⟩⟩
/-- bits turned around, as the code does it -/
def qn_t (i : Nat) : Nat → Int32
  | 0 => 0
  | b + 1 => qn_t i b ||| (((nI i >>> (nI b &&& 31)) &&& 1) <<< ((5 - nI b) &&& 31))
theorem qn_tt : ∀ i, i < 64 → qn_t i 6 = nI (qn_rv 6 i) := by
  decide +kernel
theorem qn_rvlt : ∀ i, i < 64 → qn_rv 6 i < 64 ∧ qn_rv 6 (qn_rv 6 i) = i := by
  decide +kernel
theorem qn_turned {post : Int32 → Prop} {i : Nat} (hi : i < 64) (H : post (nI (qn_rv 6 i))) : wpX_turned post () (nI i) := by
  rw [← qn_tt i hi] at H
  exact pk_loop (fun n b v => wX_turned_4 post (nI i) n v (nI b)) (fun b v => v = qn_t i b) 6 0 0 (by omega) rfl
    (fun n v hv => pk_le 6 6 (fun _ => by rw [hv]; exact H) (fun z => absurd z (by omega)))
    (fun n b v hb hv hw => pk_le 6 b (fun z => absurd z (by omega)) (fun _ => nm_r (by rw [hv]; rfl) (nm_r (nI_1 b) (hw _ rfl))))
/-- a round, when i pairs are done -/
def qn_I (a : Nat → qf_F) (w : qf_F) (s : Nat) (c : Nat → Int32) (i : Nat) : Prop := ∀ q k, q < 2 ^ (5 - s) → k < 2 ^ s →
  c (2 * (q * 2 ^ s) + k) = qf_i (if q * 2 ^ s + k < i then qn_W a w (s + 1) q k else qn_W a w s (2 * q) k) ∧ c (2 * (q * 2 ^ s) + 2 ^ s + k) = qf_i (if q * 2 ^ s + k < i then qn_W a w (s + 1) q (k + 2 ^ s) else qn_W a w s (2 * q + 1) k)
theorem qn_Istep {a : Nat → qf_F} {w : qf_F} (hw : qs_pw w 32 = -1) {s : Nat} (hs : s < 6) {c : Nat → Int32} {q k : Nat} (hq : q < 2 ^ (5 - s)) (hk : k < 2 ^ s) (hI : qn_I a w s c (q * 2 ^ s + k)) :
    c (2 * (q * 2 ^ s) + k) = qf_i (qn_W a w s (2 * q) k) ∧ c (2 * (q * 2 ^ s) + k + 2 ^ s) = qf_i (qn_W a w s (2 * q + 1) k) ∧
    qn_I a w s (upd (upd c (2 * (q * 2 ^ s) + k) (qf_i (qn_W a w s (2 * q) k + qn_W a w s (2 * q + 1) k * qs_pw w (k * 2 ^ (5 - s))))) (2 * (q * 2 ^ s) + k + 2 ^ s) (qf_i (qn_W a w s (2 * q) k - qn_W a w s (2 * q + 1) k * qs_pw w (k * 2 ^ (5 - s))))) (q * 2 ^ s + k + 1) := by
  have h0 := hI q k hq hk
  rw [if_neg (by omega), if_neg (by omega)] at h0
  refine ⟨h0.1, ?_, ?_⟩
  · rw [Nat.add_assoc, Nat.add_comm k, ← Nat.add_assoc]
    exact h0.2
  intro q' k' hq' hk'
  by_cases e : q' = q ∧ k' = k
  · obtain ⟨rfl, rfl⟩ := e
    rw [if_pos (by omega), if_pos (by omega), qn_lo a w hs, qn_hi a w hw hs]
    constructor
    · rw [pk_un (by omega), pk_us]
    · rw [show 2 * (q' * 2 ^ s) + 2 ^ s + k' = 2 * (q' * 2 ^ s) + k' + 2 ^ s by omega, pk_us]
  · have hd : q' * 2 ^ s + 2 ^ s ≤ q * 2 ^ s ∨ q * 2 ^ s + 2 ^ s ≤ q' * 2 ^ s ∨ q' = q ∧ k' ≠ k := by
      rcases Nat.lt_or_ge q' q with z | z
      · left
        have := Nat.mul_le_mul_right (2 ^ s) (show q' + 1 ≤ q by omega)
        rw [Nat.add_mul, Nat.one_mul] at this
        exact this
      · right
        by_cases z2 : q' = q
        · right
          exact ⟨z2, fun z3 => e ⟨z2, z3⟩⟩
        · left
          have := Nat.mul_le_mul_right (2 ^ s) (show q + 1 ≤ q' by omega)
          rw [Nat.add_mul, Nat.one_mul] at this
          exact this
    have h1 := hI q' k' hq' hk'
    have hne : q' * 2 ^ s + k' ≠ q * 2 ^ s + k := by
      rcases hd with z | z | ⟨rfl, z⟩ <;> omega
    have i1 : ∀ x y : qf_F, (if q' * 2 ^ s + k' < q * 2 ^ s + k + 1 then x else y) = (if q' * 2 ^ s + k' < q * 2 ^ s + k then x else y) := by
      intro x y
      by_cases z : q' * 2 ^ s + k' < q * 2 ^ s + k
      · rw [if_pos z, if_pos (by omega)]
      · rw [if_neg z, if_neg (by omega)]
    rw [i1, i1]
    have n1 : 2 * (q' * 2 ^ s) + k' ≠ 2 * (q * 2 ^ s) + k ∧ 2 * (q' * 2 ^ s) + k' ≠ 2 * (q * 2 ^ s) + k + 2 ^ s ∧ 2 * (q' * 2 ^ s) + 2 ^ s + k' ≠ 2 * (q * 2 ^ s) + k ∧ 2 * (q' * 2 ^ s) + 2 ^ s + k' ≠ 2 * (q * 2 ^ s) + k + 2 ^ s := by
      rcases hd with z | z | ⟨rfl, z⟩ <;> refine ⟨?_, ?_, ?_, ?_⟩ <;> omega
    rw [pk_un n1.2.1, pk_un n1.1, pk_un n1.2.2.2, pk_un n1.2.2.1]
    exact h1
theorem qn_p2 {s : Nat} (hs : s < 6) : 2 ^ (5 - s) * 2 ^ s = 32 ∧ 0 < 2 ^ s ∧ 2 ^ s ≤ 32 ∧ 2 ^ (5 - s) ≤ 32 ∧ 64 / (2 * 2 ^ s) = 2 ^ (5 - s) ∧ 2 ^ (s + 1) = 2 * 2 ^ s ∧ 2 ^ (6 - s) = 2 * 2 ^ (5 - s) ∧ 6 - (s + 1) = 5 - s := by
  have h : s = 0 ∨ s = 1 ∨ s = 2 ∨ s = 3 ∨ s = 4 ∨ s = 5 := by omega
  rcases h with rfl | rfl | rfl | rfl | rfl | rfl <;> decide
/-- blocks of 2^s places are done -/
def qn_L (a : Nat → qf_F) (w : qf_F) (s : Nat) (c : Nat → Int32) : Prop := ∀ q k, q < 2 ^ (6 - s) → k < 2 ^ s → c (q * 2 ^ s + k) = qf_i (qn_W a w s q k)
theorem qn_t103 {post : St1 → Prop} {J : Int32 → qw_K} {a1 a2 a3 a4 a5 a6 a7 a8 a9 a10 a11 a12 a13 a14 a15 : Nat → Int32} {a : Nat → qf_F} {w : qf_F} (hw32 : qs_pw w 32 = -1) {s : Nat} (hs : s < 6) (h15 : ∀ j, j < 64 → a15 j = qf_i (qs_pw w j)) (h13 : qn_L a w s a13)
    (H : ∀ c, qn_L a w (s + 1) c → J (nI (2 ^ (s + 1 + 1))) a1 a2 a3 a4 a5 a6 a7 a8 a9 a10 a11 a12 c a14 a15) : ∃ n, wX_transform_103 post J (nI (2 ^ (s + 1))) n 0 a1 a2 a3 a4 a5 a6 a7 a8 a9 a10 a11 a12 a13 a14 a15 := by
  obtain ⟨p1, p2, p3, p4, p5, p6, p7, p8⟩ := qn_p2 hs
  refine pk_loop (fun n i c => wX_transform_103 post J (nI (2 ^ (s + 1))) n (nI i) a1 a2 a3 a4 a5 a6 a7 a8 a9 a10 a11 a12 c a14 a15) (fun i c => qn_I a w s c i) 32 0 a13 (by omega) (fun q k hq hk => ?_) (fun n c hI => ?_) (fun n i c hi hI hw => ?_)
  · rw [if_neg (by omega), if_neg (by omega)]
    have l1 := h13 (2 * q) k (by omega) hk
    have l2 := h13 (2 * q + 1) k (by omega) hk
    rw [Nat.mul_assoc] at l1
    rw [Nat.add_mul, Nat.mul_assoc, Nat.one_mul] at l2
    exact ⟨l1, l2⟩
  · refine pk_le 32 32 (fun _ => nm_r (e' := nI (2 ^ (s + 1 + 1))) (by rw [Nat.pow_succ 2 (s + 1)]; exact pk_mul _ 2) (H c (fun q k hq hk => ?_))) (fun z => absurd z (by omega))
    rw [p8] at hq
    rw [p6] at hk ⊢
    rw [← Nat.mul_assoc, Nat.mul_comm q 2, Nat.mul_assoc]
    have hb : q * 2 ^ s + 2 ^ s ≤ 32 := by
      have := Nat.mul_le_mul_right (2 ^ s) (show q + 1 ≤ 2 ^ (5 - s) by omega)
      rw [Nat.add_mul, Nat.one_mul, p1] at this
      exact this
    rcases Nat.lt_or_ge k (2 ^ s) with z | z
    · have := (hI q k hq z).1
      rw [if_pos (by omega)] at this
      exact this
    · obtain ⟨d, rfl⟩ := Nat.exists_eq_add_of_le z
      have := (hI q d hq (by omega)).2
      rw [if_pos (by omega), Nat.add_comm d] at this
      rw [← Nat.add_assoc]
      exact this
  · have hqk : i / 2 ^ s * 2 ^ s + i % 2 ^ s = i := by
      rw [Nat.mul_comm]
      exact Nat.div_add_mod i (2 ^ s)
    have hq : i / 2 ^ s < 2 ^ (5 - s) := by
      apply Nat.div_lt_of_lt_mul
      rw [Nat.mul_comm, p1]
      exact hi
    have hk : i % 2 ^ s < 2 ^ s := Nat.mod_lt _ p2
    have hb : i / 2 ^ s * 2 ^ s + 2 ^ s ≤ 32 := by
      have := Nat.mul_le_mul_right (2 ^ s) (show i / 2 ^ s + 1 ≤ 2 ^ (5 - s) by omega)
      rw [Nat.add_mul, Nat.one_mul, p1] at this
      exact this
    have hkM : i % 2 ^ s * 2 ^ (5 - s) < 64 := by
      have := Nat.mul_le_mul_right (2 ^ (5 - s)) (show i % 2 ^ s ≤ 2 ^ s by omega)
      rw [Nat.mul_comm (2 ^ s), p1] at this
      omega
    have eh : nI (2 ^ (s + 1)) / 2 = nI (2 ^ s) := by
      rw [p6]
      have := pk_div (a := 2 * 2 ^ s) (d := 2) (by omega) (by omega) (by omega)
      rw [Nat.mul_div_cancel_left _ (by omega)] at this
      exact this
    have ed : nI i / nI (2 ^ s) = nI (i / 2 ^ s) := pk_div (by omega) p2 (by omega)
    have em : nI i - nI i / nI (2 ^ s) * nI (2 ^ s) = nI (i % 2 ^ s) := pk_rem (by omega) p2 (by omega)
    have ea : nI i / nI (2 ^ s) * nI (2 ^ (s + 1)) + (nI i - nI i / nI (2 ^ s) * nI (2 ^ s)) = nI (2 * (i / 2 ^ s * 2 ^ s) + i % 2 ^ s) := by
      rw [em, ed, pk_mul, nI_add, p6, ← Nat.mul_assoc, Nat.mul_comm (i / 2 ^ s) 2, Nat.mul_assoc]
    have e64 : 64 / nI (2 ^ (s + 1)) = nI (2 ^ (5 - s)) := by
      rw [p6, ← p5]
      exact pk_div (a := 64) (by omega) (by omega) (by omega)
    have et : (nI i - nI i / nI (2 ^ s) * nI (2 ^ s)) * (64 / nI (2 ^ (s + 1))) = nI (i % 2 ^ s * 2 ^ (5 - s)) := by
      rw [em, e64, pk_mul]
    have hI' : qn_I a w s c (i / 2 ^ s * 2 ^ s + i % 2 ^ s) := by
      rw [hqk]
      exact hI
    obtain ⟨x1, x2, x3⟩ := qn_Istep hw32 hs hq hk hI'
    have nz : ¬ nI (2 ^ s) = 0 := nI_ne0 p2 (by omega)
    refine pk_le 32 i (fun z => absurd z (by omega)) (fun _ => ⟨by decide, nm_r eh ⟨nz, nz, nm_r ea ⟨nz, nI_ne0 (by omega) (by omega), pk_in _ 64 hkM et, nm_r (by rw [pk_cl _ et, h15 _ hkM]) ?_⟩⟩⟩)
    rw [nI_add]
    rw [hqk] at x3
    exact qn_cross2 (by omega) (by omega) x1 x2 (nm_r (nI_1 i) (hw _ x3))
theorem qn_t95 {post : St1 → Prop} {a1 a2 a3 a4 a5 a6 a7 a8 a9 a10 a11 a12 a13 a14 a15 : Nat → Int32} {a : Nat → qf_F} {w : qf_F} (hw32 : qs_pw w 32 = -1) (h15 : ∀ j, j < 64 → a15 j = qf_i (qs_pw w j)) (h13 : ∀ p, p < 64 → a13 p = qf_i (a (qn_rv 6 p)))
    (H : ∀ c, qn_A (qn_F a w) c → post (a1, a2, a3, a4, a5, a6, a7, a8, a9, a10, a11, a12, c, a14, a15)) : ∃ n, wX_transform_95 post n 2 a1 a2 a3 a4 a5 a6 a7 a8 a9 a10 a11 a12 a13 a14 a15 := by
  refine pk_loop (fun n s c => wX_transform_95 post n (nI (2 ^ (s + 1))) a1 a2 a3 a4 a5 a6 a7 a8 a9 a10 a11 a12 c a14 a15) (fun s c => qn_L a w s c) 6 0 a13 (by omega) (fun q k hq hk => ?_) (fun n c hI => ?_) (fun n s c hs hI hw => ?_)
  · have hk' : k < 1 := hk
    have hq' : q < 64 := hq
    have e : k = 0 := by omega
    subst e
    rw [qn_W0]
    show a13 (q * 1 + 0) = _
    rw [Nat.mul_one, Nat.add_zero]
    exact h13 q hq'
  · refine br_t (by decide) (H c (fun p hp => ?_))
    have := hI 0 p (by decide) hp
    rw [qn_F6, Nat.zero_mul, Nat.zero_add] at this
    exact this
  · obtain ⟨p1, p2, p3, p4, p5, p6, p7, p8⟩ := qn_p2 hs
    refine br_f (nI_nlt (a := 64) (by omega) (by omega)) (qn_t103 hw32 hs h15 hI (fun c' hc' => hw c' hc'))
theorem qn_t43 {post : St1 → Prop} {a1 a2 a3 a4 a5 a6 a7 a8 a9 a10 a11 a12 a13 a14 a15 : Nat → Int32} {a : Nat → qf_F} {w : qf_F} (hw32 : qs_pw w 32 = -1) (h15 : ∀ j, j < 64 → a15 j = qf_i (qs_pw w j)) (h13 : qn_A a a13)
    (H : ∀ c, qn_A (qn_F a w) c → post (a1, a2, a3, a4, a5, a6, a7, a8, a9, a10, a11, a12, c, a14, a15)) : ∃ n, wX_transform_43 post n 0 a1 a2 a3 a4 a5 a6 a7 a8 a9 a10 a11 a12 a13 a14 a15 := by
  refine pk_loop (fun n i c => wX_transform_43 post n (nI i) a1 a2 a3 a4 a5 a6 a7 a8 a9 a10 a11 a12 c a14 a15) (fun i c => ∀ p, p < 64 → c p = qf_i (if p < i ∨ qn_rv 6 p < i then a (qn_rv 6 p) else a p)) 64 0 a13 (by omega) (fun p hp => ?_) (fun n c hI => ?_) (fun n i c hi hI hw => ?_)
  · rw [if_neg (by omega)]
    exact h13 p hp
  · refine pk_le 64 64 (fun _ => qn_t95 hw32 h15 (fun p hp => ?_) H) (fun z => absurd z (by omega))
    rw [hI p hp, if_pos (Or.inl hp)]
  · obtain ⟨r1, r2⟩ := qn_rvlt i hi
    refine pk_le 64 i (fun z => absurd z (by omega)) (fun _ => qn_turned hi (pk_le (qn_rv 6 i) i (fun z => nm_r (nI_1 i) (hw _ (fun p hp => ?_))) (fun z => ?_)))
    · rw [hI p hp]
      by_cases e : p < i ∨ qn_rv 6 p < i
      · rw [if_pos e, if_pos (by omega)]
      · rw [if_neg e]
        by_cases e2 : p < i + 1 ∨ qn_rv 6 p < i + 1
        · rw [if_pos e2]
          obtain ⟨t1, t2⟩ := qn_rvlt p hp
          have e3 : p = i := by
            rcases Nat.lt_or_ge p (i + 1) with y | y
            · omega
            · have y2 : qn_rv 6 p = i := by omega
              rw [y2] at t2
              omega
          subst e3
          have e4 : qn_rv 6 p = p := by omega
          rw [e4]
        · rw [if_neg e2]
    · refine ⟨pk_in i 64 hi, nm_r (by rw [pk_cl i]) ⟨pk_in (qn_rv 6 i) 64 r1, pk_in i 64 hi, nm_r (by rw [nI_clamp (n := i) (by omega), nI_clamp (n := qn_rv 6 i) (by omega)]) ⟨pk_in (qn_rv 6 i) 64 r1, nm_r (by rw [nI_clamp (n := qn_rv 6 i) (by omega)]) (nm_r (nI_1 i) (hw _ (fun p hp => ?_)))⟩⟩⟩
      have ci : c i = qf_i (a i) := by rw [hI i hi, if_neg (by omega)]
      have cj : c (qn_rv 6 i) = qf_i (a (qn_rv 6 i)) := by rw [hI _ r1, r2, if_neg (by omega)]
      by_cases e : p = qn_rv 6 i
      · rw [e, pk_us, r2, if_pos (by omega), ci]
      · rw [pk_un e]
        by_cases e2 : p = i
        · rw [e2, pk_us, if_pos (by omega), cj]
        · rw [pk_un e2, hI p hp]
          have e3 : qn_rv 6 p ≠ i := by
            intro y
            have := (qn_rvlt p hp).2
            rw [y] at this
            exact e this.symm
          have i1 : ∀ x y : qf_F, (if p < i + 1 ∨ qn_rv 6 p < i + 1 then x else y) = (if p < i ∨ qn_rv 6 p < i then x else y) := by
            intro x y
            by_cases z : p < i ∨ qn_rv 6 p < i
            · rw [if_pos z, if_pos (by omega)]
            · rw [if_neg z, if_neg (by omega)]
          rw [i1]
theorem qn_trans {post : St1 → Prop} {a1 a2 a3 a4 a5 a6 a7 a8 a9 a10 a11 a12 a13 a14 a15 : Nat → Int32} {a : Nat → qf_F} {w : qf_F} (hw32 : qs_pw w 32 = -1) (h13 : qn_A a a13) (H : ∀ c d, qn_A (qn_F a w) c → post (a1, a2, a3, a4, a5, a6, a7, a8, a9, a10, a11, a12, c, a14, d)) : wpX_transform post (a1, a2, a3, a4, a5, a6, a7, a8, a9, a10, a11, a12, a13, a14, a15) (qf_i w) := by
  refine nm_e ?_
  refine pk_loop (fun n i c => wX_transform_9 post (qf_i w) n (nI i) a1 a2 a3 a4 a5 a6 a7 a8 a9 a10 a11 a12 a13 a14 c) (fun i c => 0 < i ∧ ∀ j, j < i → c j = qf_i (qs_pw w j)) 64 1 (upd a15 0 1) (by omega) ⟨by omega, fun j hj => ?_⟩ (fun n c hI => ?_) (fun n i c hi hI hw => ?_)
  · have e : j = 0 := by omega
    rw [e, pk_us]
    rfl
  · exact pk_le 64 64 (fun _ => qn_t43 hw32 hI.2 h13 (fun c' hc' => H c' c hc')) (fun z => absurd z (by omega))
  · obtain ⟨d, rfl⟩ : ∃ d, i = d + 1 := ⟨i - 1, by omega⟩
    have e1 : nI (d + 1) - 1 = nI d := nI_pred d
    refine pk_le 64 (d + 1) (fun z => absurd z (by omega)) (fun _ => ⟨pk_in d 64 (by omega) e1, by decide, pk_in (d + 1) 64 hi, nm_r (by rw [pk_cl d e1, nI_clamp (n := d + 1) (by omega), hI.2 d (by omega), qf_mul]) (nm_r (nI_1 (d + 1)) (hw _ ⟨by omega, fun j hj => ?_⟩))⟩)
    by_cases z : j = d + 1
    · rw [z, pk_us]
      rfl
    · rw [pk_un z]
      exact hI.2 j (by omega)
theorem qn_m128 {post : St1 → Prop} {R : Nat → Nat → qf_F} {a1 a2 a3 a4 a5 a6 a7 a8 a9 a10 a11 a12 a13 a14 a15 : Nat → Int32} {g f : Nat → qf_F} {part : qf_F} (h : qw_rows R a1) (h13 : qn_A g a13) (hf : ∀ i, i < 32 → g i * part = f i) (H : ∀ b, qw_rows (qw_set R 5 f) b → post (b, a2, a3, a4, a5, a6, a7, a8, a9, a10, a11, a12, a13, a14, a15)) : ∃ n, wX_multiplyByRoots_128 post (qf_i part) n 0 a1 a2 a3 a4 a5 a6 a7 a8 a9 a10 a11 a12 a13 a14 a15 :=
  pk_loop (fun n i s => wX_multiplyByRoots_128 post (qf_i part) n (nI i) s a2 a3 a4 a5 a6 a7 a8 a9 a10 a11 a12 a13 a14 a15) (fun i s => qw_rows (qw_part R 5 f i) s) 32 0 a1 (by omega) (qw_part0 h)
    (fun n s hs => pk_le 32 32 (fun _ => H s (qw_part32 hs)) (fun z => absurd z (by omega)))
    (fun n i s hi hs hw => pk_le 32 i (fun z => absurd z (by omega)) (fun _ => ⟨pk_in i 64 (by omega), by decide, qw_write (u := (s, a2, a3, a4, a5, a6, a7, a8, a9, a10, a11, a12, a13, a14, a15)) (r := 5) (by omega) hi (nm_r (nI_1 i) (hw _ (qw_step hs (by omega) hi (by rw [pk_cl i, h13 i (by omega), qf_mul, hf i hi]))))⟩))
theorem qn_64 : qs_nat 64 * qs_pw (qs_nat 64) 12287 = (1 : qf_F) := qf_fermat (qf_nz (by omega) (by omega))
theorem qn_m62 {post : St1 → Prop} {R : Nat → Nat → qf_F} {a1 a2 a3 a4 a5 a6 a7 a8 a9 a10 a11 a12 a13 a14 a15 : Nat → Int32} {f g : Nat → qf_F} (h : qw_rows R a1) (h13 : qn_A (qn_F (qk_lo 32 f) qf_w) a13) (h14 : qn_A (qn_F (qk_lo 32 g) qf_w) a14)
    (H : ∀ b c d, qw_rows (qw_set R 5 (qp_mul f g)) b → post (b, a2, a3, a4, a5, a6, a7, a8, a9, a10, a11, a12, c, a14, d)) : ∃ n, wX_multiplyByRoots_62 post (qf_i qf_w) n 0 a1 a2 a3 a4 a5 a6 a7 a8 a9 a10 a11 a12 a13 a14 a15 := by
  refine pk_loop (fun n i c => wX_multiplyByRoots_62 post (qf_i qf_w) n (nI i) a1 a2 a3 a4 a5 a6 a7 a8 a9 a10 a11 a12 c a14 a15) (fun i c => ∀ p, p < 64 → c p = qf_i (if p < i then qn_F (qk_lo 32 f) qf_w p * qn_F (qk_lo 32 g) qf_w p else qn_F (qk_lo 32 f) qf_w p)) 64 0 a13 (by omega) (fun p hp => ?_) (fun n c hI => ?_) (fun n i c hi hI hw => ?_)
  · rw [if_neg (by omega)]
    exact h13 p hp
  · refine pk_le 64 64 (fun _ => qf_power (e := 63) (by omega) ?_) (fun z => absurd z (by omega))
    rw [qf_v1]
    refine qn_trans (a := fun k => qn_F (qk_lo 32 f) qf_w k * qn_F (qk_lo 32 g) qf_w k) qf_v32 (fun p hp => ?_) (fun c' d' hc' => ?_)
    · rw [hI p hp, if_pos hp]
    · have e64 : (64 : Int32) = qf_i (qs_nat 64) := qf_nat (n := 64) (by omega)
      rw [e64]
      refine qf_power (e := 12287) (by omega) (qn_m128 (f := qp_mul f g) h hc' (fun i hi => ?_) (fun b hb => H b c' d' hb))
      rw [qn_back qf_w qf_v _ qf_tab qf_wv qf_w64 qn_64 (qk_lo 32 f) (qk_lo 32 g) (fun i hi => if_neg (by omega)) (fun i hi => if_neg (by omega)) (show i < 64 by omega)]
      exact qk_top f g i hi
  · refine pk_le 64 i (fun z => absurd z (by omega)) (fun _ => ⟨pk_in i 64 hi, pk_in i 64 hi, by decide, pk_in i 64 hi, nm_r (by rw [pk_cl i, hI i hi, if_neg (by omega), h14 i hi, qf_mul]) (nm_r (nI_1 i) (hw _ (fun p hp => ?_)))⟩)
    by_cases z : p = i
    · rw [z, pk_us, if_pos (by omega)]
    · rw [pk_un z, hI p hp]
      by_cases z2 : p < i
      · rw [if_pos z2, if_pos (by omega)]
      · rw [if_neg z2, if_neg (by omega)]
theorem qw_roots {post : St1 → Prop} {R : Nat → Nat → qf_F} {u : St1} {a b : Nat} (ha : a < 12) (hb : b < 12) (h : qw_ok R u) (H : ∀ u', qw_ok (qw_set R 5 (qp_mul (R a) (R b))) u' → post u') : wpX_multiplyByRoots post u (nI a) (nI b) := by
  obtain ⟨a1, a2, a3, a4, a5, a6, a7, a8, a9, a10, a11, a12, a13, a14, a15⟩ := u
  have hr : qw_rows R a1 := h.1
  have ht : qw_tab a2 a3 a4 := h.2
  have e11 : (11 : Int32) = qf_i 11 := rfl
  refine qf_power (x := 11) (e := 192) (by omega) ?_
  rw [qf_w1]
  refine qn_load hb hr (fun c1 hc1 => qn_trans qf_w32 hc1 (fun c2 d2 hc2 => ?_))
  refine pk_loop (fun n i c => wX_multiplyByRoots_22 post (nI a) (qf_i qf_w) n (nI i) a1 a2 a3 a4 a5 a6 a7 a8 a9 a10 a11 a12 c2 c d2) (fun i c => ∀ j, j < i → c j = c2 j) 64 0 a14 (by omega) (fun j z => absurd z (by omega)) (fun n c hI => ?_) (fun n i c hi hI hw => ?_)
  · refine pk_le 64 64 (fun _ => qn_load ha hr (fun c3 hc3 => qn_trans qf_w32 hc3 (fun c4 d4 hc4 => ?_))) (fun z => absurd z (by omega))
    exact qn_m62 (f := R a) (g := R b) hr hc4 (fun p hp => by rw [hI p hp]; exact hc2 p hp) (fun b1 c5 d5 hb1 => H _ ⟨hb1, ht⟩)
  · refine pk_le 64 i (fun z => absurd z (by omega)) (fun _ => ⟨pk_in i 64 hi, pk_in i 64 hi, nm_r (by rw [pk_cl i]) (nm_r (nI_1 i) (hw _ (fun j hj => ?_)))⟩)
    by_cases z : j = i
    · rw [z, pk_us]
    · rw [pk_un z]
      exact hI j (by omega)
end
section
/-! engine 4, the walk -/
theorem qw_valueAtN {post : Int32 → Prop} {R : Nat → Nat → qf_F} {u : St1} {r i : Nat} (hr : r < 12) (hi : i < 12289) (h : qw_rows R u.1) (H : post (qf_i (qe_val (R r) (qs_nat i) 32))) : wpX_valueAt post u (nI r) (nI i) := by
  rw [qf_nat hi]
  exact qw_valueAt hr h H
/-- wideA when differences of order k are done -/
def qd_T (b : Nat → qf_F) (k : Nat) (a : Nat → Int32) : Prop := ∀ x, x < 63 → a x = qf_i (if x < k then b x else qd_if qf_inv k * qd_E b k (qs_nat (x - k)))
theorem qd_226 {post : St1 → Prop} {R : Nat → Nat → qf_F} {a1 a2 a3 a4 a5 a6 a7 a8 a9 a10 a11 a12 a13 a14 a15 : Nat → Int32} {f : Nat → qf_F} (h : qw_rows R a1) (h14 : ∀ i, i < 32 → a14 i = qf_i (f i)) (H : ∀ b, qw_rows (qw_set R 5 f) b → post (b, a2, a3, a4, a5, a6, a7, a8, a9, a10, a11, a12, a13, a14, a15)) : ∃ n, wX_multiplyByPoints_226 post n 0 a1 a2 a3 a4 a5 a6 a7 a8 a9 a10 a11 a12 a13 a14 a15 :=
  pk_loop (fun n i s => wX_multiplyByPoints_226 post n (nI i) s a2 a3 a4 a5 a6 a7 a8 a9 a10 a11 a12 a13 a14 a15) (fun i s => qw_rows (qw_part R 5 f i) s) 32 0 a1 (by omega) (qw_part0 h)
    (fun n s hs => pk_le 32 32 (fun _ => H s (qw_part32 hs)) (fun z => absurd z (by omega)))
    (fun n i s hi hs hw => pk_le 32 i (fun z => absurd z (by omega)) (fun _ => ⟨pk_in i 64 (by omega), qw_write (u := (s, a2, a3, a4, a5, a6, a7, a8, a9, a10, a11, a12, a13, a14, a15)) (r := 5) (by omega) hi (nm_r (nI_1 i) (hw _ (qw_step hs (by omega) hi (by rw [pk_cl i, h14 i hi]))))⟩))
theorem qd_140 {post : St1 → Prop} {J : Int32 → qw_K} {a1 a2 a3 a4 a5 a6 a7 a8 a9 a10 a11 a12 a13 a14 a15 : Nat → Int32} {b : Nat → qf_F} {m n : Nat} (hm : m < 63) (hn : n = 62 - m) (h13 : a13 m = qf_i (b m)) (h14 : ∀ i, i < 64 → a14 i = qf_i (qd_Q b n i))
    (H : ∀ c, (∀ i, i < 64 → c i = qf_i (qd_Q b (n + 1) i)) → J (nI m + (-1)) a1 a2 a3 a4 a5 a6 a7 a8 a9 a10 a11 a12 a13 c a15) : ∃ f, wX_multiplyByPoints_140 post J (nI m) f 63 a1 a2 a3 a4 a5 a6 a7 a8 a9 a10 a11 a12 a13 a14 a15 := by
  have hm' : 62 - n = m := by omega
  have em : nI m = qf_i (qs_nat m) := qf_nat (by omega)
  have q0 : qd_Q b (n + 1) 0 = b m - qd_Q b n 0 * qs_nat m := by
    show (if (0 : Nat) = 0 then b (62 - n) - qd_Q b n 0 * qs_nat (62 - n) else qd_Q b n (0 - 1) - qd_Q b n 0 * qs_nat (62 - n)) = _
    rw [if_pos rfl, hm']
  have qs : ∀ i, qd_Q b (n + 1) (i + 1) = qd_Q b n i - qd_Q b n (i + 1) * qs_nat m := by
    intro i
    show (if i + 1 = 0 then b (62 - n) - qd_Q b n 0 * qs_nat (62 - n) else qd_Q b n (i + 1 - 1) - qd_Q b n (i + 1) * qs_nat (62 - n)) = _
    rw [if_neg (by omega), hm', Nat.add_sub_cancel]
  refine ⟨64, ?_⟩
  refine pk_loopD (fun f i c => wX_multiplyByPoints_140 post J (nI m) f (nI i) a1 a2 a3 a4 a5 a6 a7 a8 a9 a10 a11 a12 a13 c a15) (fun i c => i < 64 ∧ ∀ j, j < 64 → c j = qf_i (if i < j then qd_Q b (n + 1) j else qd_Q b n j)) (fun f c hI => ?_) (fun f i c hI hw => ?_) 63 a14 ⟨by omega, fun j hj => by rw [if_neg (by omega)]; exact h14 j hj⟩
  · have c0 : c 0 = qf_i (qd_Q b n 0) := by rw [hI.2 0 (by omega), if_neg (by omega)]
    refine br_t (by decide) ⟨by decide, nm_r (by rw [c0, em, qf_mul]) ⟨pk_in m 64 (by omega), ?_⟩⟩
    rw [pk_cl m, h13]
    refine qf_minus (nm_e (nm_e (H _ (fun j hj => ?_))))
    by_cases z : j = 0
    · rw [z, pk_us, q0]
    · rw [pk_un z, hI.2 j hj, if_pos (by omega)]
  · have e1 : nI (i + 1) - 1 = nI i := nI_pred i
    have ci : c i = qf_i (qd_Q b n i) := by rw [hI.2 i (by omega), if_neg (by omega)]
    have ci1 : c (i + 1) = qf_i (qd_Q b n (i + 1)) := by rw [hI.2 (i + 1) hI.1, if_neg (by omega)]
    refine br_f (nI_nle (by omega) (by omega)) ⟨pk_in (i + 1) 64 hI.1, by decide, nm_r (by rw [pk_cl (i + 1), ci1, em, qf_mul]) ⟨pk_in i 64 (by omega) e1, ?_⟩⟩
    rw [pk_cl i e1, ci]
    refine qf_minus ⟨pk_in (i + 1) 64 hI.1, nm_r (by rw [pk_cl (i + 1)]) (nm_r (pk_m1 i) (hw _ ⟨by omega, fun j hj => ?_⟩))⟩
    by_cases z : j = i + 1
    · rw [z, pk_us, if_pos (by omega), qs]
    · rw [pk_un z, hI.2 j hj]
      by_cases z2 : i + 1 < j
      · rw [if_pos z2, if_pos (by omega)]
      · rw [if_neg z2, if_neg (by omega)]
theorem qd_132 {post : St1 → Prop} {R : Nat → Nat → qf_F} {a1 a2 a3 a4 a5 a6 a7 a8 a9 a10 a11 a12 a13 a14 a15 : Nat → Int32} {b f : Nat → qf_F} (h : qw_rows R a1) (h13 : ∀ x, x < 63 → a13 x = qf_i (b x)) (h14 : ∀ i, i < 64 → a14 i = qf_i 0) (hf : ∀ i, i < 32 → qd_Q b 63 i = f i)
    (H : ∀ b1 c, qw_rows (qw_set R 5 f) b1 → post (b1, a2, a3, a4, a5, a6, a7, a8, a9, a10, a11, a12, a13, c, a15)) : ∃ n, wX_multiplyByPoints_132 post n 62 a1 a2 a3 a4 a5 a6 a7 a8 a9 a10 a11 a12 a13 a14 a15 := by
  refine ⟨64, ?_⟩
  refine pk_loopD (fun n m c => wX_multiplyByPoints_132 post n (nI m + (-1)) a1 a2 a3 a4 a5 a6 a7 a8 a9 a10 a11 a12 a13 c a15) (fun m c => m ≤ 63 ∧ ∀ i, i < 64 → c i = qf_i (qd_Q b (63 - m) i)) (fun n c hI => ?_) (fun n m c hI hw => ?_) 63 a14 ⟨by omega, fun i hi => ?_⟩
  · exact br_t (by decide) (qd_226 h (fun i hi => by rw [hI.2 i (by omega), Nat.sub_zero, hf i hi]) (fun b1 hb1 => H b1 c hb1))
  · rw [pk_m1]
    refine br_f (nI_pos (by omega)) (qd_140 (b := b) (n := 63 - (m + 1)) (by omega) (by omega) (h13 m (by omega)) hI.2 (fun c' hc' => hw c' ⟨by omega, ?_⟩))
    rw [show 63 - m = 63 - (m + 1) + 1 by omega]
    exact hc'
  · rw [h14 i hi]
    show qf_i 0 = qf_i (qp_c 0 i)
    rw [qp_c0]
theorem qd_110 {post : St1 → Prop} {R : Nat → Nat → qf_F} {a1 a2 a3 a4 a5 a6 a7 a8 a9 a10 a11 a12 a13 a14 a15 : Nat → Int32} {b f : Nat → qf_F} (h : qw_rows R a1) (h13 : ∀ x, x < 63 → a13 x = qf_i (b x)) (hf : ∀ i, i < 32 → qd_Q b 63 i = f i)
    (H : ∀ b1 c, qw_rows (qw_set R 5 f) b1 → post (b1, a2, a3, a4, a5, a6, a7, a8, a9, a10, a11, a12, a13, c, a15)) : ∃ n, wX_multiplyByPoints_110 post n 0 a1 a2 a3 a4 a5 a6 a7 a8 a9 a10 a11 a12 a13 a14 a15 := by
  refine pk_loop (fun n i c => wX_multiplyByPoints_110 post n (nI i) a1 a2 a3 a4 a5 a6 a7 a8 a9 a10 a11 a12 a13 c a15) (fun i c => ∀ j, j < i → c j = qf_i 0) 64 0 a14 (by omega) (fun j z => absurd z (by omega)) (fun n c hI => ?_) (fun n i c hi hI hw => ?_)
  · exact pk_le 64 64 (fun _ => qd_132 h h13 hI hf H) (fun z => absurd z (by omega))
  · refine pk_le 64 i (fun z => absurd z (by omega)) (fun _ => ⟨pk_in i 64 hi, nm_r (by rw [pk_cl i]) (nm_r (nI_1 i) (hw _ (fun j hj => ?_)))⟩)
    by_cases z : j = i
    · rw [z, pk_us]
      rfl
    · rw [pk_un z]
      exact hI j (by omega)
theorem qd_53 {post : St1 → Prop} {J : Int32 → qw_K} {a1 a2 a3 a4 a5 a6 a7 a8 a9 a10 a11 a12 a13 a14 a15 : Nat → Int32} {b : Nat → qf_F} {k : Nat} (hk : k < 62) (ht : qw_tab a2 a3 a4) (h13 : qd_T b k a13)
    (H : ∀ c, qd_T b (k + 1) c → J (nI (k + 1 + 1)) a1 a2 a3 a4 a5 a6 a7 a8 a9 a10 a11 a12 c a14 a15) : ∃ f, wX_multiplyByPoints_53 post J (nI (k + 1)) f 62 a1 a2 a3 a4 a5 a6 a7 a8 a9 a10 a11 a12 a13 a14 a15 := by
  have iv : a2 (k + 1) = qf_i (qf_inv (k + 1)) := ht.1 (k + 1) (by omega) (by omega)
  have key := pk_loopD (fun f i c => wX_multiplyByPoints_53 post J (nI (k + 1)) f (nI (k + i)) a1 a2 a3 a4 a5 a6 a7 a8 a9 a10 a11 a12 c a14 a15) (fun i c => k + i < 63 ∧ ∀ x, x < 63 → c x = qf_i (if k + i < x then qd_if qf_inv (k + 1) * qd_E b (k + 1) (qs_nat (x - (k + 1))) else (if x < k then b x else qd_if qf_inv k * qd_E b k (qs_nat (x - k))))) (fun f c hI => ?_) (fun f i c hI hw => ?_) (62 - k) a13 ⟨by omega, fun x hx => by rw [if_neg (by omega)]; exact h13 x hx⟩
  · have key' : wX_multiplyByPoints_53 post J (nI (k + 1)) (62 - k + 1) (nI (k + (62 - k))) a1 a2 a3 a4 a5 a6 a7 a8 a9 a10 a11 a12 a13 a14 a15 := key
    rw [show k + (62 - k) = 62 by omega] at key'
    exact ⟨_, key'⟩
  · refine pk_lt (k + 0) (k + 1) (fun _ => nm_r (nI_1 (k + 1)) (H c (fun x hx => ?_))) (fun z => absurd z (by omega))
    rw [hI.2 x hx, Nat.add_zero]
    by_cases z : k < x
    · rw [if_pos z, if_neg (by omega)]
    · rw [if_neg z, if_pos (show x < k + 1 by omega)]
      by_cases z2 : x < k
      · rw [if_pos z2]
      · have z3 : x = k := by omega
        subst z3
        rw [if_neg z2, Nat.sub_self, qs_nat0, qd_Ek qf_inv b qf_invM x (by omega)]
  · have e1 : nI (k + (i + 1)) - 1 = nI (k + i) := nI_pred (k + i)
    have c1 : c (k + (i + 1)) = qf_i (qd_if qf_inv k * qd_E b k (qs_nat i + 1)) := by
      rw [hI.2 _ hI.1, if_neg (by omega), if_neg (by omega), show k + (i + 1) - k = i + 1 by omega, qs_nats]
    have c0 : c (k + i) = qf_i (qd_if qf_inv k * qd_E b k (qs_nat i)) := by
      rw [hI.2 _ (by omega), if_neg (by omega), if_neg (by omega), show k + i - k = i by omega]
    refine pk_lt (k + (i + 1)) (k + 1) (fun z => absurd z (by omega)) (fun _ => ⟨pk_in (k + (i + 1)) 64 (by omega), pk_in (k + i) 64 (by omega) e1, ?_⟩)
    rw [pk_cl (k + i) e1, nI_clamp (n := k + (i + 1)) (by omega), c1, c0]
    refine qf_minus ⟨pk_in (k + 1) 64 (by omega), by decide, pk_in (k + (i + 1)) 64 (by omega), nm_r (by rw [nI_clamp (n := k + 1) (by omega), iv, qf_mul]) (nm_r (pk_m1 (k + i)) (hw _ ⟨by omega, fun x hx => ?_⟩))⟩
    by_cases z : x = k + (i + 1)
    · rw [z, pk_us, if_pos (by omega), show k + (i + 1) - (k + 1) = i by omega, ← qd_Es]
      show _ = qf_i (qd_if qf_inv k * qf_inv (k + 1) * _)
      congr 1
      grobner
    · rw [pk_un z, hI.2 x hx]
      by_cases z2 : k + (i + 1) < x
      · rw [if_pos z2, if_pos (by omega)]
      · rw [if_neg z2, if_neg (show ¬ k + i < x by omega)]
theorem qd_43 {post : St1 → Prop} {R : Nat → Nat → qf_F} {a1 a2 a3 a4 a5 a6 a7 a8 a9 a10 a11 a12 a13 a14 a15 : Nat → Int32} {b f : Nat → qf_F} (h : qw_rows R a1) (ht : qw_tab a2 a3 a4) (h13 : qd_T b 0 a13) (hf : ∀ i, i < 32 → qd_Q b 63 i = f i)
    (H : ∀ b1 c d, qw_rows (qw_set R 5 f) b1 → post (b1, a2, a3, a4, a5, a6, a7, a8, a9, a10, a11, a12, c, d, a15)) : ∃ n, wX_multiplyByPoints_43 post n 1 a1 a2 a3 a4 a5 a6 a7 a8 a9 a10 a11 a12 a13 a14 a15 := by
  refine pk_loop (fun n k c => wX_multiplyByPoints_43 post n (nI (k + 1)) a1 a2 a3 a4 a5 a6 a7 a8 a9 a10 a11 a12 c a14 a15) (fun k c => qd_T b k c) 62 0 a13 (by omega) h13 (fun n c hI => ?_) (fun n k c hk hI hw => ?_)
  · refine pk_le 63 (62 + 1) (fun _ => qd_110 h (fun x hx => ?_) hf (fun b1 d hb1 => H b1 c d hb1)) (fun z => absurd z (by omega))
    rw [hI x hx]
    by_cases z : x < 62
    · rw [if_pos z]
    · have z3 : x = 62 := by omega
      subst z3
      rw [if_neg z, Nat.sub_self, qs_nat0, qd_Ek qf_inv b qf_invM 62 (by omega)]
  · exact pk_le 63 (k + 1) (fun z => absurd z (by omega)) (fun _ => qd_53 hk ht hI (fun c' hc' => hw c' hc'))
theorem qw_points {post : St1 → Prop} {R : Nat → Nat → qf_F} {u : St1} {a b : Nat} (ha : a < 12) (hb : b < 12) (h : qw_ok R u) (H : ∀ u', qw_ok (qw_set R 5 (qp_mul (R a) (R b))) u' → post u') : wpX_multiplyByPoints post u (nI a) (nI b) := by
  obtain ⟨a1, a2, a3, a4, a5, a6, a7, a8, a9, a10, a11, a12, a13, a14, a15⟩ := u
  have hr : qw_rows R a1 := h.1
  have ht : qw_tab a2 a3 a4 := h.2
  have sup : ∀ i, 63 ≤ i → qp_mul (qk_lo 32 (R a)) (qk_lo 32 (R b)) i = 0 := fun i hi => qp_short (m := 32) (n := 32) (fun i hi => if_neg (by omega)) (fun i hi => if_neg (by omega)) (by omega)
  obtain ⟨bb, hbb⟩ := qd_basis 63 (qp_mul (qk_lo 32 (R a)) (qk_lo 32 (R b))) sup
  have ev : ∀ (f : Nat → qf_F) (x : qf_F), qe_val f x 32 = qe_val (qk_lo 32 f) x 63 := by
    intro f x
    symm
    show qs_sm (fun i => qk_lo 32 f i * qs_pw x i) 63 = _
    rw [qs_ext (m := 32) (by omega)]
    · apply qs_congr
      intro i hi
      have e : qk_lo 32 f i = f i := if_pos hi
      rw [e]
    · intro i h1 h2
      have e : qk_lo 32 f i = 0 := if_neg (by omega)
      rw [e]
      grobner
  refine pk_loop (fun n i c => wX_multiplyByPoints_2 post (nI a) (nI b) n (nI i) a1 a2 a3 a4 a5 a6 a7 a8 a9 a10 a11 a12 c a14 a15) (fun i c => ∀ x, x < i → c x = qf_i (qe_val (R a) (qs_nat x) 32 * qe_val (R b) (qs_nat x) 32)) 63 0 a13 (by omega) (fun x z => absurd z (by omega)) (fun n c hI => ?_) (fun n i c hi hI hw => ?_)
  · refine pk_le 63 63 (fun _ => qd_43 (b := bb) (f := qp_mul (R a) (R b)) hr ht (fun x hx => ?_) (fun i hi => ?_) (fun b1 c' d' hb1 => H _ ⟨hb1, ht⟩)) (fun z => absurd z (by omega))
    · rw [hI x hx, if_neg (by omega), Nat.sub_zero, qd_E0, ← qd_val hbb, ev, ev, qe_mul]
      · congr 1
        show _ = 1 * _
        grobner
      · intro i j h1 h2 h3
        by_cases z : 32 ≤ i
        · have e : qk_lo 32 (R a) i = 0 := if_neg (by omega)
          rw [e]
          grobner
        · have e : qk_lo 32 (R b) j = 0 := if_neg (by omega)
          rw [e]
          grobner
    · rw [qd_Qend hbb i]
      exact qk_top (R a) (R b) i hi
  · refine pk_le 63 i (fun z => absurd z (by omega)) (fun _ => qw_valueAtN (u := (a1, a2, a3, a4, a5, a6, a7, a8, a9, a10, a11, a12, c, a14, a15)) ha (by omega) hr (qw_valueAtN (u := (a1, a2, a3, a4, a5, a6, a7, a8, a9, a10, a11, a12, c, a14, a15)) hb (by omega) hr ⟨by decide, pk_in i 64 (by omega), nm_r (by rw [pk_cl i, qf_mul]) (nm_r (nI_1 i) (hw _ (fun x hx => ?_)))⟩))
    by_cases z : x = i
    · rw [z, pk_us]
    · rw [pk_un z]
      exact hI x (by omega)
end
section
/-! products of rows; inverses -/
theorem qw_mulRows {post : St1 → Prop} {R : Nat → Nat → qf_F} {u : St1} {e a b : Nat} (he : e < 5) (ha : a < 12) (hb : b < 12) (ha5 : a ≠ 5) (hb5 : b ≠ 5) (h : qw_ok R u) (H : ∀ u', qw_ok (qw_set R 5 (qp_mul (R a) (R b))) u' → post u') : wpX_multiplyRows post u (nI e) (nI a) (nI b) := by
  obtain ⟨a1, a2, a3, a4, a5, a6, a7, a8, a9, a10, a11, a12, a13, a14, a15⟩ := u
  have ht : qw_tab a2 a3 a4 := h.2
  refine br_f (nI_pos (by omega)) (pk_lt 3 e (fun z => qw_points ha hb h (fun u' h' => H u' h')) (fun z => pk_eq e 0 (fun z0 => qw_plain ha hb ha5 hb5 h.1 (fun c hc => H _ ⟨hc, ht⟩)) (fun z0 => pk_eq e 1 (fun z1 => qw_halves ha hb h (fun u' h' => H u' h')) (fun z1 => pk_eq e 2 (fun z2 => qw_thirds ha hb h (fun u' h' => H u' h')) (fun z2 => pk_eq e 3 (fun z3 => qw_roots ha hb h (fun u' h' => H u' h')) (fun z3 => trivial))))))
/-- the same but for some rows -/
def qw_same (R R' : Nat → Nat → qf_F) (l : List Nat) : Prop := ∀ t, t ∉ l → R' t = R t
theorem qw_inv51 {post : St1 → Prop} {J : Int32 → qw_K} {R : Nat → Nat → qf_F} {a1 a2 a3 a4 a5 a6 a7 a8 a9 a10 a11 a12 a13 a14 a15 : Nat → Int32} {r m : Nat} (hr : r < 12) (h : qw_ok R (a1, a2, a3, a4, a5, a6, a7, a8, a9, a10, a11, a12, a13, a14, a15)) (H : ∀ (s : St1) R', qw_ok R' s → qw_same R R' [5, 7, 8] → qp_e 32 (R' 7) (qp_mul (qp_sub (qp_c 2) (R 5)) (R 7)) → J (nI (m * 2)) s.1 s.2.1 s.2.2.1 s.2.2.2.1 s.2.2.2.2.1 s.2.2.2.2.2.1 s.2.2.2.2.2.2.1 s.2.2.2.2.2.2.2.1 s.2.2.2.2.2.2.2.2.1 s.2.2.2.2.2.2.2.2.2.1 s.2.2.2.2.2.2.2.2.2.2.1 s.2.2.2.2.2.2.2.2.2.2.2.1 s.2.2.2.2.2.2.2.2.2.2.2.2.1 s.2.2.2.2.2.2.2.2.2.2.2.2.2.1 s.2.2.2.2.2.2.2.2.2.2.2.2.2.2) : ∃ n, wX_invertRow_51 post J (nI r) (nI m) n 0 a1 a2 a3 a4 a5 a6 a7 a8 a9 a10 a11 a12 a13 a14 a15 := by
  have h1 : qw_rows R a1 := h.1
  have ht : qw_tab a2 a3 a4 := h.2
  have step : ∀ (n i : Nat) (s : Nat → Int32) (z : qf_F), i < 32 → z = qp_c 2 i → qw_rows (qw_part R 8 (qp_sub (qp_c 2) (R 5)) i) s → (∀ s', qw_rows (qw_part R 8 (qp_sub (qp_c 2) (R 5)) (i + 1)) s' → wX_invertRow_51 post J (nI r) (nI m) n (nI (i + 1)) s' a2 a3 a4 a5 a6 a7 a8 a9 a10 a11 a12 a13 a14 a15) → wX_invertRow_68 post J (wX_invertRow_51 post J (nI r) (nI m) n) (nI r) (nI m) (nI i) (qf_i z) s a2 a3 a4 a5 a6 a7 a8 a9 a10 a11 a12 a13 a14 a15 := by
    intro n i s z hi hz hs hw
    refine ⟨qw_kin 5 160 rfl (by omega) hi, ?_⟩
    rw [qw_kat 5 160 rfl hs (by omega) hi, qw_partN (by omega)]
    refine qf_minus (qw_write (u := (s, a2, a3, a4, a5, a6, a7, a8, a9, a10, a11, a12, a13, a14, a15)) (r := 8) (by omega) hi (nm_r (nI_1 i) (hw _ (qw_step hs (by omega) hi ?_))))
    rw [hz]
    rfl
  refine pk_loop (fun n i s => wX_invertRow_51 post J (nI r) (nI m) n (nI i) s a2 a3 a4 a5 a6 a7 a8 a9 a10 a11 a12 a13 a14 a15) (fun i s => qw_rows (qw_part R 8 (qp_sub (qp_c 2) (R 5)) i) s) 32 0 a1 (by omega) (qw_part0 h1) (fun n s hs => ?_) (fun n i s hi hs hw => ?_)
  · have hs' := qw_part32 hs
    refine pk_le 32 32 (fun _ => qw_mulRows (u := (s, a2, a3, a4, a5, a6, a7, a8, a9, a10, a11, a12, a13, a14, a15)) (R := qw_set R 8 (qp_sub (qp_c 2) (R 5))) (e := 3) (a := 8) (b := 7) (by omega) (by omega) (by omega) (by omega) (by omega) ⟨hs', ht⟩ (fun u' hu' => ?_)) (fun z => absurd z (by omega))
    obtain ⟨b1, b2, b3, b4, b5, b6, b7, b8, b9, b10, b11, b12, b13, b14, b15⟩ := u'
    have t' : qw_tab b2 b3 b4 := hu'.2
    refine qw_copyRow (u := (b1, b2, b3, b4, b5, b6, b7, b8, b9, b10, b11, b12, b13, b14, b15)) (r := 5) (t := 7) (by omega) (by omega) hu'.1 (fun c hc => nm_r (pk_mul m 2) (H (c, b2, b3, b4, b5, b6, b7, b8, b9, b10, b11, b12, b13, b14, b15) _ ⟨hc, t'⟩ (fun t ht => ?_) ?_))
    · have n5 : t ≠ 5 := fun z => ht (by rw [z]; decide)
      have n7 : t ≠ 7 := fun z => ht (by rw [z]; decide)
      have n8 : t ≠ 8 := fun z => ht (by rw [z]; decide)
      rw [qw_setN n7, qw_setN n5, qw_setN n8]
    · rw [qw_setP, qw_setP, qw_setP, qw_setN (by omega)]
      exact qp_e_refl _ _
  · refine pk_le 32 i (fun z => absurd z (by omega)) (fun _ => pk_eq i 0 (fun z => step n i s 2 hi (by rw [z]; rfl) hs (fun s' hs' => hw s' hs')) (fun z => step n i s 0 hi ?_ hs (fun s' hs' => hw s' hs')))
    exact (if_neg z).symm
theorem qw_inv34 {post : St1 → Prop} {R : Nat → Nat → qf_F} {a1 a2 a3 a4 a5 a6 a7 a8 a9 a10 a11 a12 a13 a14 a15 : Nat → Int32} {r : Nat} (hr : r < 12) (hr5 : r ∉ [5, 7, 8]) (h : qw_ok R (a1, a2, a3, a4, a5, a6, a7, a8, a9, a10, a11, a12, a13, a14, a15)) (h7 : qp_e 1 (qp_mul (R r) (R 7)) (qp_c 1)) (H : ∀ s R', qw_ok R' s → qw_same R R' [5, 7, 8] → qp_e 32 (qp_mul (R r) (R' 7)) (qp_c 1) → post s) : ∃ n, wX_invertRow_34 post (nI r) n 1 a1 a2 a3 a4 a5 a6 a7 a8 a9 a10 a11 a12 a13 a14 a15 := by
  have r5 : r ≠ 5 := fun z => hr5 (by rw [z]; decide)
  refine pk_loop (fun n k (s : St1) => wX_invertRow_34 post (nI r) n (nI (2 ^ k)) s.1 s.2.1 s.2.2.1 s.2.2.2.1 s.2.2.2.2.1 s.2.2.2.2.2.1 s.2.2.2.2.2.2.1 s.2.2.2.2.2.2.2.1 s.2.2.2.2.2.2.2.2.1 s.2.2.2.2.2.2.2.2.2.1 s.2.2.2.2.2.2.2.2.2.2.1 s.2.2.2.2.2.2.2.2.2.2.2.1 s.2.2.2.2.2.2.2.2.2.2.2.2.1 s.2.2.2.2.2.2.2.2.2.2.2.2.2.1 s.2.2.2.2.2.2.2.2.2.2.2.2.2.2) (fun k s => ∃ R', qw_ok R' s ∧ qw_same R R' [5, 7, 8] ∧ qp_e (2 ^ k) (qp_mul (R r) (R' 7)) (qp_c 1)) 5 0 (a1, a2, a3, a4, a5, a6, a7, a8, a9, a10, a11, a12, a13, a14, a15) (by omega) ⟨R, h, fun _ _ => rfl, h7⟩ (fun n s hI => ?_) (fun n k s hk hI hw => ?_)
  · obtain ⟨R', k1, k2, k3⟩ := hI
    exact br_t (by decide) (H s R' k1 k2 k3)
  · obtain ⟨b1, b2, b3, b4, b5, b6, b7, b8, b9, b10, b11, b12, b13, b14, b15⟩ := s
    obtain ⟨R', k1, k2, k3⟩ := hI
    have hp : 2 ^ k ≤ 16 := by
      have : 2 ^ k ≤ 2 ^ 4 := Nat.pow_le_pow_right (by omega) (by omega)
      omega
    refine br_f (nI_ge (b := 32) (a := 2 ^ k) (by omega) (by decide)) (qw_mulRows (u := (b1, b2, b3, b4, b5, b6, b7, b8, b9, b10, b11, b12, b13, b14, b15)) (R := R') (e := 3) (a := r) (b := 7) (by omega) hr (by omega) r5 (by omega) k1 (fun u' hu' => ?_))
    obtain ⟨c1, c2, c3, c4, c5, c6, c7, c8, c9, c10, c11, c12, c13, c14, c15⟩ := u'
    refine qw_inv51 hr hu' (fun s R2 m1 m2 m3 => ?_)
    have e2 : 2 ^ k * 2 = 2 ^ (k + 1) := (Nat.pow_succ 2 k).symm
    rw [e2]
    refine hw s ⟨R2, m1, fun t ht => ?_, ?_⟩
    · have n5 : t ≠ 5 := fun z => ht (by rw [z]; decide)
      rw [m2 t ht, qw_setN n5, k2 t ht]
    · rw [qw_setP, qw_setN (by omega), k2 r hr5, qp_comm] at m3
      have := qp_newton (n := 2 ^ k) (by omega) k3 m3
      rw [← Nat.mul_two, e2] at this
      exact this
theorem qw_invertRow {post : St1 → Prop} {R : Nat → Nat → qf_F} {u : St1} {r : Nat} (hr : r < 12) (hr5 : r ∉ [5, 7, 8]) (h0 : R r 0 ≠ 0) (h : qw_ok R u) (H : ∀ s R', qw_ok R' s → qw_same R R' [5, 7, 8] → qp_e 32 (qp_mul (R r) (R' 7)) (qp_c 1) → post s) : wpX_invertRow post u (nI r) := by
  obtain ⟨a1, a2, a3, a4, a5, a6, a7, a8, a9, a10, a11, a12, a13, a14, a15⟩ := u
  have ht : qw_tab a2 a3 a4 := h.2
  have r7 : r ≠ 7 := fun z => hr5 (by rw [z]; decide)
  refine qw_clearRow (u := (a1, a2, a3, a4, a5, a6, a7, a8, a9, a10, a11, a12, a13, a14, a15)) (r := 7) (by omega) h.1 (fun c hc => ⟨qw_in (r := r) (i := 0) hr (by omega), ?_⟩)
  have e : c (nI r * 32 + 0).toNatClampNeg = qf_i (R r 0) := by
    have := qw_at (i := 0) hc hr (by omega)
    rw [qw_setN r7] at this
    exact this
  rw [e]
  refine qf_power (e := 12287) (by omega) (qw_write (u := (c, a2, a3, a4, a5, a6, a7, a8, a9, a10, a11, a12, a13, a14, a15)) (r := 7) (i := 0) (by omega) (by omega) ?_)
  have hp := qw_put (r := 7) (i := 0) (x := qs_pw (R r 0) 12287) hc (by omega) (by omega) rfl
  refine qw_inv34 hr hr5 ⟨hp, ht⟩ ?_ (fun s R' k1 k2 k3 => H s R' k1 (fun t ht' => ?_) ?_)
  · intro i hi
    have i0 : i = 0 := by omega
    subst i0
    rw [qp_mul0, qw_setN r7, qw_setN r7, qw_setP, if_pos rfl]
    exact qf_fermat h0
  · have n7 : t ≠ 7 := fun z => ht' (by rw [z]; decide)
    rw [k2 t ht', qw_setN n7, qw_setN n7]
  · rw [qw_setN r7, qw_setN r7] at k3
    exact k3
end
section
/-! logarithms -/
theorem qw_ne {t k : Nat} {l : List Nat} (h : t ∉ l) (hk : k ∈ l) : t ≠ k := fun z => h (by rw [z]; exact hk)
theorem qw_log75 {post : St1 → Prop} {R : Nat → Nat → qf_F} {a1 a2 a3 a4 a5 a6 a7 a8 a9 a10 a11 a12 a13 a14 a15 : Nat → Int32} {l : Nat → qf_F} (hl : ∀ i, i < 31 → l (i + 1) = R 5 i * qf_inv (i + 1)) (ht : qw_tab a2 a3 a4) (h : qw_rows (qw_part R 9 l 1) a1) (H : ∀ b, qw_rows (qw_set R 9 l) b → post (b, a2, a3, a4, a5, a6, a7, a8, a9, a10, a11, a12, a13, a14, a15)) : ∃ n, wX_logRow_75 post n 1 a1 a2 a3 a4 a5 a6 a7 a8 a9 a10 a11 a12 a13 a14 a15 := by
  refine pk_loop (fun n i s => wX_logRow_75 post n (nI i) s a2 a3 a4 a5 a6 a7 a8 a9 a10 a11 a12 a13 a14 a15) (fun i s => 0 < i ∧ qw_rows (qw_part R 9 l i) s) 32 1 a1 (by omega) ⟨by omega, h⟩ (fun n s hs => ?_) (fun n i s hi hs hw => ?_)
  · exact pk_le 32 32 (fun _ => H s (qw_part32 hs.2)) (fun z => absurd z (by omega))
  · obtain ⟨d, rfl⟩ : ∃ d, i = d + 1 := ⟨i - 1, by omega⟩
    have e1 : 160 + nI (d + 1) - 1 = nI (32 * 5 + d) := by
      show nI 160 + nI (d + 1) - 1 = _
      rw [nI_add]
      exact nI_pred (160 + d)
    have r5 : s (160 + nI (d + 1) - 1).toNatClampNeg = qf_i (R 5 d) := by
      rw [pk_cl _ e1, hs.2 5 d (by omega) (by omega), qw_partN (by omega)]
    have iv : a2 (d + 1) = qf_i (qf_inv (d + 1)) := ht.1 (d + 1) (by omega) (by omega)
    refine pk_le 32 (d + 1) (fun z => absurd z (by omega)) (fun _ => ⟨pk_in _ 384 (by omega) e1, pk_in (d + 1) 64 (by omega), by decide, qw_write (u := (s, a2, a3, a4, a5, a6, a7, a8, a9, a10, a11, a12, a13, a14, a15)) (r := 9) (by omega) hi (nm_r (nI_1 (d + 1)) (hw _ ⟨by omega, qw_step hs.2 (by omega) hi ?_⟩))⟩)
    rw [r5, nI_clamp (n := d + 1) (by omega), iv, qf_mul, hl d (by omega)]
theorem qw_log7 {post : St1 → Prop} {R : Nat → Nat → qf_F} {a1 a2 a3 a4 a5 a6 a7 a8 a9 a10 a11 a12 a13 a14 a15 : Nat → Int32} {r : Nat} (hr : r < 12) (hr5 : r ∉ [5, 7, 8, 9]) (h1 : R r 0 = 1) (h : qw_ok R (a1, a2, a3, a4, a5, a6, a7, a8, a9, a10, a11, a12, a13, a14, a15)) (h7 : qp_e 32 (qp_mul (R r) (R 7)) (qp_c 1)) (H : ∀ s R', qw_ok R' s → qw_same R R' [5, 9] → qp_log (R' 9) (R r) → post s) : ∃ n, wX_logRow_7 post (nI r) n 0 a1 a2 a3 a4 a5 a6 a7 a8 a9 a10 a11 a12 a13 a14 a15 := by
  have hrr : qw_rows R a1 := h.1
  have ht : qw_tab a2 a3 a4 := h.2
  have r9 : r ≠ 9 := qw_ne hr5 (by decide)
  have hd : ∀ i, i < 31 → (fun i => if i + 1 < 32 then qs_nat (i + 1) * R r (i + 1) else 0) i = qp_D (R r) i := fun i hi => if_pos (by omega)
  generalize hdd : (fun i => if i + 1 < 32 then qs_nat (i + 1) * R r (i + 1) else (0 : qf_F)) = d at hd
  refine pk_loop (fun n i s => wX_logRow_7 post (nI r) n (nI i) s a2 a3 a4 a5 a6 a7 a8 a9 a10 a11 a12 a13 a14 a15) (fun i s => qw_rows (qw_part R 9 d i) s) 32 0 a1 (by omega) (qw_part0 hrr) (fun n s hs => ?_) (fun n i s hi hs hw => ?_)
  · have hs' := qw_part32 hs
    refine pk_le 32 32 (fun _ => qw_mulRows (u := (s, a2, a3, a4, a5, a6, a7, a8, a9, a10, a11, a12, a13, a14, a15)) (R := qw_set R 9 d) (e := 4) (a := 9) (b := 7) (by omega) (by omega) (by omega) (by omega) (by omega) ⟨hs', ht⟩ (fun u' hu' => ?_)) (fun z => absurd z (by omega))
    obtain ⟨b1, b2, b3, b4, b5, b6, b7, b8, b9, b10, b11, b12, b13, b14, b15⟩ := u'
    have t' : qw_tab b2 b3 b4 := hu'.2
    rw [qw_setP, qw_setN (show 7 ≠ 9 by omega)] at hu'
    have hl : ∀ i, i < 31 → (fun i => if i = 0 then 0 else qp_mul d (R 7) (i - 1) * qf_inv i) (i + 1) = qp_mul d (R 7) i * qf_inv (i + 1) := fun i hi => if_neg (by omega)
    have hl0 : (fun i => if i = 0 then 0 else qp_mul d (R 7) (i - 1) * qf_inv i) 0 = 0 := if_pos rfl
    generalize (fun i => if i = 0 then 0 else qp_mul d (R 7) (i - 1) * qf_inv i) = l at hl hl0
    have hu1 : qw_rows (qw_set (qw_set R 9 d) 5 (qp_mul d (R 7))) b1 := hu'.1
    refine qw_write (u := (b1, b2, b3, b4, b5, b6, b7, b8, b9, b10, b11, b12, b13, b14, b15)) (r := 9) (i := 0) (by omega) (by omega) (qw_log75 (R := qw_set (qw_set R 9 d) 5 (qp_mul d (R 7))) (l := l) (fun i hi => by rw [qw_setP]; exact hl i hi) t' (qw_step (qw_part0 hu1) (by omega) (by omega) (by rw [hl0]; rfl)) (fun b hb => H (b, b2, b3, b4, b5, b6, b7, b8, b9, b10, b11, b12, b13, b14, b15) _ ⟨hb, t'⟩ (fun t ht => ?_) ?_))
    · rw [qw_setN (qw_ne ht (by decide)), qw_setN (qw_ne ht (by decide)), qw_setN (qw_ne ht (by decide))]
    · rw [qw_setP]
      refine qp_logOf h1 h7 hd (qp_e_refl 32 (qp_mul d (R 7))) hl0 (fun i hi => ?_)
      rw [hl i hi]
      have e := qf_invM (i + 1) (by omega) (by omega)
      generalize (qs_nat (i + 1) : qf_F) = q at e
      generalize qf_inv (i + 1) = v at e
      grobner
  · refine pk_le 32 i (fun z => absurd z (by omega)) (fun _ => pk_le 32 (i + 1) (fun z => ?_) (fun z => ?_) rfl (nI_1 i))
    · refine qw_write (u := (s, a2, a3, a4, a5, a6, a7, a8, a9, a10, a11, a12, a13, a14, a15)) (r := 9) (by omega) hi (nm_r (nI_1 i) (hw _ (qw_step hs (by omega) hi ?_)))
      rw [← hdd]
      show (0 : Int32) = qf_i (if i + 1 < 32 then qs_nat (i + 1) * R r (i + 1) else 0)
      rw [if_neg (by omega)]
      rfl
    · rw [nI_1]
      refine qw_cell (u := (s, a2, a3, a4, a5, a6, a7, a8, a9, a10, a11, a12, a13, a14, a15)) hr z hs ⟨by decide, ?_⟩
      rw [qw_partN (fun q => r9 q.1)]
      refine qw_write (u := (s, a2, a3, a4, a5, a6, a7, a8, a9, a10, a11, a12, a13, a14, a15)) (r := 9) (by omega) hi (nm_r (nI_1 i) (hw _ (qw_step hs (by omega) hi ?_)))
      rw [← hdd]
      show _ = qf_i (if i + 1 < 32 then qs_nat (i + 1) * R r (i + 1) else 0)
      rw [if_pos z, qf_nat (n := i + 1) (by omega), qf_mul]
theorem qw_logRow {post : St1 → Prop} {R : Nat → Nat → qf_F} {u : St1} {r : Nat} (hr : r < 12) (hr5 : r ∉ [5, 7, 8, 9]) (h1 : R r 0 = 1) (h : qw_ok R u) (H : ∀ s R', qw_ok R' s → qw_same R R' [5, 7, 8, 9] → qp_log (R' 9) (R r) → post s) : wpX_logRow post u (nI r) := by
  obtain ⟨a1, a2, a3, a4, a5, a6, a7, a8, a9, a10, a11, a12, a13, a14, a15⟩ := u
  have n578 : r ∉ [5, 7, 8] := fun z => hr5 (by
    have : r = 5 ∨ r = 7 ∨ r = 8 := by simpa using z
    rcases this with rfl | rfl | rfl <;> decide)
  refine qw_invertRow hr n578 (by rw [h1]; decide) h (fun s R1 k1 k2 k3 => ?_)
  obtain ⟨b1, b2, b3, b4, b5, b6, b7, b8, b9, b10, b11, b12, b13, b14, b15⟩ := s
  have e1 : R1 r = R r := k2 r n578
  rw [← e1] at k3
  refine qw_log7 (R := R1) hr hr5 (by rw [e1]; exact h1) k1 k3 (fun s R2 m1 m2 m3 => H s R2 m1 (fun t ht => ?_) (by rw [← e1]; exact m3))
  have ht2 : t ∉ [5, 9] := fun z => ht (by
    have : t = 5 ∨ t = 9 := by simpa using z
    rcases this with rfl | rfl <;> decide)
  have ht3 : t ∉ [5, 7, 8] := fun z => ht (by
    have : t = 5 ∨ t = 7 ∨ t = 8 := by simpa using z
    rcases this with rfl | rfl | rfl <;> decide)
  rw [m2 t ht2, k2 t ht3]
/-! exponentials -/
theorem qw_exp48 {post : Int32 → St1 → Prop} {J : Int32 → qw_K} {R : Nat → Nat → qf_F} {a1 a2 a3 a4 a5 a6 a7 a8 a9 a10 a11 a12 a13 a14 a15 : Nat → Int32} {t m : Nat} (ht5 : t < 5) (h : qw_ok R (a1, a2, a3, a4, a5, a6, a7, a8, a9, a10, a11, a12, a13, a14, a15)) (H : ∀ (s : St1) R', qw_ok R' s → qw_same R R' [5, 10, 11] → qp_e 32 (R' 11) (qp_mul (R 11) (qp_add (qp_sub (R t) (R 9)) (qp_c 1))) → J (nI (m * 2)) s.1 s.2.1 s.2.2.1 s.2.2.2.1 s.2.2.2.2.1 s.2.2.2.2.2.1 s.2.2.2.2.2.2.1 s.2.2.2.2.2.2.2.1 s.2.2.2.2.2.2.2.2.1 s.2.2.2.2.2.2.2.2.2.1 s.2.2.2.2.2.2.2.2.2.2.1 s.2.2.2.2.2.2.2.2.2.2.2.1 s.2.2.2.2.2.2.2.2.2.2.2.2.1 s.2.2.2.2.2.2.2.2.2.2.2.2.2.1 s.2.2.2.2.2.2.2.2.2.2.2.2.2.2) : ∃ n, wX_exp_48 post J (nI t) (nI m) n 0 a1 a2 a3 a4 a5 a6 a7 a8 a9 a10 a11 a12 a13 a14 a15 := by
  have h1 : qw_rows R a1 := h.1
  have ht : qw_tab a2 a3 a4 := h.2
  refine pk_loop (fun n i s => wX_exp_48 post J (nI t) (nI m) n (nI i) s a2 a3 a4 a5 a6 a7 a8 a9 a10 a11 a12 a13 a14 a15) (fun i s => qw_rows (qw_part R 10 (qp_add (qp_sub (R t) (R 9)) (qp_c 1)) i) s) 32 0 a1 (by omega) (qw_part0 h1) (fun n s hs => ?_) (fun n i s hi hs hw => ?_)
  · have hs' := qw_part32 hs
    refine pk_le 32 32 (fun _ => qw_mulRows (u := (s, a2, a3, a4, a5, a6, a7, a8, a9, a10, a11, a12, a13, a14, a15)) (R := qw_set R 10 (qp_add (qp_sub (R t) (R 9)) (qp_c 1))) (e := 3) (a := 11) (b := 10) (by omega) (by omega) (by omega) (by omega) (by omega) ⟨hs', ht⟩ (fun u' hu' => ?_)) (fun z => absurd z (by omega))
    obtain ⟨b1, b2, b3, b4, b5, b6, b7, b8, b9, b10, b11, b12, b13, b14, b15⟩ := u'
    have t' : qw_tab b2 b3 b4 := hu'.2
    refine qw_copyRow (u := (b1, b2, b3, b4, b5, b6, b7, b8, b9, b10, b11, b12, b13, b14, b15)) (r := 5) (t := 11) (by omega) (by omega) hu'.1 (fun c hc => nm_r (pk_mul m 2) (H (c, b2, b3, b4, b5, b6, b7, b8, b9, b10, b11, b12, b13, b14, b15) _ ⟨hc, t'⟩ (fun t ht => ?_) ?_))
    · rw [qw_setN (qw_ne ht (by decide)), qw_setN (qw_ne ht (by decide)), qw_setN (qw_ne ht (by decide))]
    · rw [qw_setP, qw_setP, qw_setP, qw_setN (by omega)]
      exact qp_e_refl _ _
  · refine pk_le 32 i (fun z => absurd z (by omega)) (fun _ => ⟨qw_in (by omega) hi, qw_kin 9 288 rfl (by omega) hi, ?_⟩)
    rw [qw_at hs (by omega) hi, qw_kat 9 288 rfl hs (by omega) hi, qw_partN (by omega), qw_partN (by omega)]
    refine qf_minus (pk_eq i 0 (fun z => ⟨by decide, qw_write (u := (s, a2, a3, a4, a5, a6, a7, a8, a9, a10, a11, a12, a13, a14, a15)) (r := 10) (by omega) hi (nm_r (nI_1 i) (hw _ (qw_step hs (by omega) hi ?_)))⟩) (fun z => ⟨by decide, qw_write (u := (s, a2, a3, a4, a5, a6, a7, a8, a9, a10, a11, a12, a13, a14, a15)) (r := 10) (by omega) hi (nm_r (nI_1 i) (hw _ (qw_step hs (by omega) hi ?_)))⟩))
    · rw [qf_1, qf_addr]
      subst z
      rfl
    · rw [qf_0, qf_addr]
      show _ = qf_i ((R t i - R 9 i) + (if i = 0 then 1 else 0))
      rw [if_neg z]
theorem qw_exp34 {post : Int32 → St1 → Prop} {R : Nat → Nat → qf_F} {a1 a2 a3 a4 a5 a6 a7 a8 a9 a10 a11 a12 a13 a14 a15 : Nat → Int32} {t : Nat} (ht5 : t < 5) (hs0 : R t 0 = 0) (h : qw_ok R (a1, a2, a3, a4, a5, a6, a7, a8, a9, a10, a11, a12, a13, a14, a15)) (h11 : R 11 0 = 1) (H : ∀ s R', qw_ok R' s → (∀ j, j < 5 → j ≠ t → R' j = R j) → qp_log (R t) (R' t) → post 1 s) : ∃ n, wX_exp_34 post (nI t) n 1 a1 a2 a3 a4 a5 a6 a7 a8 a9 a10 a11 a12 a13 a14 a15 := by
  refine pk_loop (fun n k (s : St1) => wX_exp_34 post (nI t) n (nI (2 ^ k)) s.1 s.2.1 s.2.2.1 s.2.2.2.1 s.2.2.2.2.1 s.2.2.2.2.2.1 s.2.2.2.2.2.2.1 s.2.2.2.2.2.2.2.1 s.2.2.2.2.2.2.2.2.1 s.2.2.2.2.2.2.2.2.2.1 s.2.2.2.2.2.2.2.2.2.2.1 s.2.2.2.2.2.2.2.2.2.2.2.1 s.2.2.2.2.2.2.2.2.2.2.2.2.1 s.2.2.2.2.2.2.2.2.2.2.2.2.2.1 s.2.2.2.2.2.2.2.2.2.2.2.2.2.2) (fun k s => ∃ R', qw_ok R' s ∧ qw_same R R' [5, 7, 8, 9, 10, 11] ∧ R' 11 0 = 1 ∧ qp_e (2 ^ k - 1) (qp_mul (R' 11) (qp_D (R t))) (qp_D (R' 11))) 5 0 (a1, a2, a3, a4, a5, a6, a7, a8, a9, a10, a11, a12, a13, a14, a15) (by omega) ⟨R, h, fun _ _ => rfl, h11, fun i hi => absurd hi (by show ¬ i < 0; omega)⟩ (fun n s hI => ?_) (fun n k s hk hI hw => ?_)
  · obtain ⟨b1, b2, b3, b4, b5, b6, b7, b8, b9, b10, b11, b12, b13, b14, b15⟩ := s
    obtain ⟨R', k1, k2, k3, k4⟩ := hI
    have t' : qw_tab b2 b3 b4 := k1.2
    refine br_t (by decide) (qw_copyRow (u := (b1, b2, b3, b4, b5, b6, b7, b8, b9, b10, b11, b12, b13, b14, b15)) (r := 11) (t := t) (by omega) (by omega) k1.1 (fun c hc => H (c, b2, b3, b4, b5, b6, b7, b8, b9, b10, b11, b12, b13, b14, b15) _ ⟨hc, t'⟩ (fun j hj hjt => ?_) ?_))
    · rw [qw_setN hjt, k2 j (by intro z; have : j = 5 ∨ j = 7 ∨ j = 8 ∨ j = 9 ∨ j = 10 ∨ j = 11 := by simpa using z
                                omega)]
    · rw [qw_setP]
      exact ⟨hs0, k3, k4⟩
  · obtain ⟨b1, b2, b3, b4, b5, b6, b7, b8, b9, b10, b11, b12, b13, b14, b15⟩ := s
    obtain ⟨R', k1, k2, k3, k4⟩ := hI
    have hp : 2 ^ k ≤ 16 := by
      have : 2 ^ k ≤ 2 ^ 4 := Nat.pow_le_pow_right (by omega) (by omega)
      omega
    have hp0 : 0 < 2 ^ k := Nat.two_pow_pos k
    have tn : ∀ l : List Nat, (∀ x, x ∈ l → 5 ≤ x) → t ∉ l := fun l hl z => absurd (hl t z) (by omega)
    refine br_f (nI_ge (b := 32) (a := 2 ^ k) (by omega) (by decide)) (qw_logRow (u := (b1, b2, b3, b4, b5, b6, b7, b8, b9, b10, b11, b12, b13, b14, b15)) (R := R') (r := 11) (by omega) (by decide) k3 k1 (fun s R1 m1 m2 m3 => ?_))
    obtain ⟨c1, c2, c3, c4, c5, c6, c7, c8, c9, c10, c11, c12, c13, c14, c15⟩ := s
    have e11 : R1 11 = R' 11 := m2 11 (by decide)
    have et : R1 t = R t := by rw [m2 t (tn _ (by decide)), k2 t (tn _ (by decide))]
    refine qw_exp48 ht5 m1 (fun s R2 q1 q2 q3 => ?_)
    have e2 : 2 ^ k * 2 = 2 ^ (k + 1) := (Nat.pow_succ 2 k).symm
    rw [e2]
    rw [e11, et] at q3
    have st := qp_expStep qf_pnz (m := 2 ^ k - 1) (by omega) hs0 k3 k4 m3 q3
    refine hw s ⟨R2, q1, fun j hj => ?_, st.1, ?_⟩
    · have j1 : j ∉ [5, 10, 11] := fun z => hj (by
        have : j = 5 ∨ j = 10 ∨ j = 11 := by simpa using z
        rcases this with rfl | rfl | rfl <;> decide)
      have j2 : j ∉ [5, 7, 8, 9] := fun z => hj (by
        have : j = 5 ∨ j = 7 ∨ j = 8 ∨ j = 9 := by simpa using z
        rcases this with rfl | rfl | rfl | rfl <;> decide)
      rw [q2 j j1, m2 j j2, k2 j hj]
    · have e3 : 2 ^ k - 1 + 1 + (2 ^ k - 1) = 2 ^ (k + 1) - 1 := by omega
      rw [← e3]
      exact st.2
/-! the small tests -/
theorem qw_is {post : Int32 → Prop} {s : Nat} (hs : s < 5) (H : post 1) : wpX_isSeries post () (nI s) := br_f (nI_pos (by omega)) (br_f (nI_ge (b := 5) hs (by decide)) H)
theorem qw_isN {post : Int32 → Prop} {p : Int32} (hp : p < 0 ∨ nI 5 ≤ p) (H : post 0) : wpX_isSeries post () p := by
  by_cases h : p < 0
  · exact br_t h H
  · exact br_f h (br_t (hp.resolve_left h) H)
theorem qw_isE {post : Int32 → Prop} {s : Nat} (hs : s < 5) (H : post 1) : wpX_isEngine post () (nI s) := br_f (nI_pos (by omega)) (br_f (nI_ge (b := 5) hs (by decide)) H)
theorem qw_isEN {post : Int32 → Prop} {p : Int32} (hp : p < 0 ∨ nI 5 ≤ p) (H : post 0) : wpX_isEngine post () p := by
  by_cases h : p < 0
  · exact br_t h H
  · exact br_f h (br_t (hp.resolve_left h) H)
theorem qw_isP {post : Int32 → Prop} {s : Nat} (hs : s < 32) (H : post 1) : wpX_isPlace post () (nI s) := br_f (nI_pos (by omega)) (br_f (nI_ge (b := 32) hs (by decide)) H)
theorem qw_isPN {post : Int32 → Prop} {p : Int32} (hp : p < 0 ∨ nI 32 ≤ p) (H : post 0) : wpX_isPlace post () p := by
  by_cases h : p < 0
  · exact br_t h H
  · exact br_f h (br_t (hp.resolve_left h) H)
theorem qw_10 : ¬ (1 : Int32) = 0 := by decide
theorem qw_exp {post : Int32 → St1 → Prop} {R : Nat → Nat → qf_F} {u : St1} {t : Nat} (ht5 : t < 5) (h : qw_ok R u) (H0 : R t 0 ≠ 0 → post 0 u) (H1 : R t 0 = 0 → ∀ s R', qw_ok R' s → (∀ j, j < 5 → j ≠ t → R' j = R j) → qp_log (R t) (R' t) → post 1 s) : wpX_exp post u (nI t) := by
  obtain ⟨a1, a2, a3, a4, a5, a6, a7, a8, a9, a10, a11, a12, a13, a14, a15⟩ := u
  have ht : qw_tab a2 a3 a4 := h.2
  unfold wpX_exp
  refine qw_is ht5 ?_
  refine br_f qw_10 ?_
  refine qw_cell (u := (a1, a2, a3, a4, a5, a6, a7, a8, a9, a10, a11, a12, a13, a14, a15)) (r := t) (i := 0) (by omega) (by omega) h.1 (qf_eq0 _ (fun z => ?_) (fun z => H0 z))
  refine qw_clearRow (u := (a1, a2, a3, a4, a5, a6, a7, a8, a9, a10, a11, a12, a13, a14, a15)) (r := 11) (by omega) h.1 (fun c hc => qw_write (u := (c, a2, a3, a4, a5, a6, a7, a8, a9, a10, a11, a12, a13, a14, a15)) (r := 11) (i := 0) (by omega) (by omega) ?_)
  have hp := qw_put (r := 11) (i := 0) (x := 1) (v := 1) hc (by omega) (by omega) rfl
  have et : ∀ j, j < 5 → qw_set (qw_set R 11 (fun _ => 0)) 11 (fun j => if j = 0 then 1 else qw_set R 11 (fun _ => 0) 11 j) j = R j := by
    intro j hj
    rw [qw_setN (by omega), qw_setN (by omega)]
  refine qw_exp34 ht5 (by rw [et t ht5]; exact z) ⟨hp, ht⟩ (by rw [qw_setP]; rfl) (fun s R' k1 k2 k3 => H1 z s R' k1 (fun j hj hjt => by rw [k2 j hj hjt, et j hj]) (by rw [et t ht5] at k3; exact k3))
theorem qw_log {post : Int32 → St1 → Prop} {R : Nat → Nat → qf_F} {u : St1} {t : Nat} (ht5 : t < 5) (h : qw_ok R u) (H0 : R t 0 ≠ 1 → post 0 u) (H1 : R t 0 = 1 → ∀ s R', qw_ok R' s → (∀ j, j < 5 → j ≠ t → R' j = R j) → qp_log (R' t) (R t) → post 1 s) : wpX_log post u (nI t) := by
  obtain ⟨a1, a2, a3, a4, a5, a6, a7, a8, a9, a10, a11, a12, a13, a14, a15⟩ := u
  have tn : ∀ j, j < 5 → ∀ l : List Nat, (∀ x, x ∈ l → 5 ≤ x) → j ∉ l := fun j hj l hl z => absurd (hl j z) (by omega)
  unfold wpX_log
  refine qw_is ht5 ?_
  refine br_f qw_10 ?_
  refine qw_cell (u := (a1, a2, a3, a4, a5, a6, a7, a8, a9, a10, a11, a12, a13, a14, a15)) (r := t) (i := 0) (by omega) (by omega) h.1 (qf_eq1 _ (fun z => ?_) (fun z => H0 z))
  refine qw_logRow (u := (a1, a2, a3, a4, a5, a6, a7, a8, a9, a10, a11, a12, a13, a14, a15)) (by omega) (tn t ht5 _ (by decide)) z h (fun s R1 m1 m2 m3 => ?_)
  obtain ⟨b1, b2, b3, b4, b5, b6, b7, b8, b9, b10, b11, b12, b13, b14, b15⟩ := s
  have t' : qw_tab b2 b3 b4 := m1.2
  refine qw_copyRow (u := (b1, b2, b3, b4, b5, b6, b7, b8, b9, b10, b11, b12, b13, b14, b15)) (r := 9) (t := t) (by omega) (by omega) m1.1 (fun c hc => H1 z (c, b2, b3, b4, b5, b6, b7, b8, b9, b10, b11, b12, b13, b14, b15) _ ⟨hc, t'⟩ (fun j hj hjt => ?_) ?_)
  · rw [qw_setN hjt, m2 j (tn j hj _ (by decide))]
  · rw [qw_setP]
    exact m3
theorem qw_invert {post : Int32 → St1 → Prop} {R : Nat → Nat → qf_F} {u : St1} {t : Nat} (ht5 : t < 5) (h : qw_ok R u) (H0 : R t 0 = 0 → post 0 u) (H1 : R t 0 ≠ 0 → ∀ s R', qw_ok R' s → (∀ j, j < 5 → j ≠ t → R' j = R j) → qp_e 32 (qp_mul (R t) (R' t)) (qp_c 1) → post 1 s) : wpX_invert post u (nI t) := by
  obtain ⟨a1, a2, a3, a4, a5, a6, a7, a8, a9, a10, a11, a12, a13, a14, a15⟩ := u
  have tn : ∀ j, j < 5 → ∀ l : List Nat, (∀ x, x ∈ l → 5 ≤ x) → j ∉ l := fun j hj l hl z => absurd (hl j z) (by omega)
  unfold wpX_invert
  refine qw_is ht5 ?_
  refine br_f qw_10 ?_
  refine qw_cell (u := (a1, a2, a3, a4, a5, a6, a7, a8, a9, a10, a11, a12, a13, a14, a15)) (r := t) (i := 0) (by omega) (by omega) h.1 (qf_eq0 _ (fun z => H0 z) (fun z => ?_))
  refine qw_invertRow (u := (a1, a2, a3, a4, a5, a6, a7, a8, a9, a10, a11, a12, a13, a14, a15)) (by omega) (tn t ht5 _ (by decide)) z h (fun s R1 m1 m2 m3 => ?_)
  obtain ⟨b1, b2, b3, b4, b5, b6, b7, b8, b9, b10, b11, b12, b13, b14, b15⟩ := s
  have t' : qw_tab b2 b3 b4 := m1.2
  refine qw_copyRow (u := (b1, b2, b3, b4, b5, b6, b7, b8, b9, b10, b11, b12, b13, b14, b15)) (r := 7) (t := t) (by omega) (by omega) m1.1 (fun c hc => H1 z (c, b2, b3, b4, b5, b6, b7, b8, b9, b10, b11, b12, b13, b14, b15) _ ⟨hc, t'⟩ (fun j hj hjt => ?_) ?_)
  · rw [qw_setN hjt, m2 j (tn j hj _ (by decide))]
  · rw [qw_setP]
    exact m3
/-! roots -/
theorem qw_root57 {post : Int32 → St1 → Prop} {J : Int32 → qw_K} {R : Nat → Nat → qf_F} {a1 a2 a3 a4 a5 a6 a7 a8 a9 a10 a11 a12 a13 a14 a15 : Nat → Int32} {t m : Nat} (h : qw_ok R (a1, a2, a3, a4, a5, a6, a7, a8, a9, a10, a11, a12, a13, a14, a15)) (H : ∀ b, qw_rows (qw_set R 11 (fun i => (R 11 i + R 5 i) * qf_inv 2)) b → J (nI (m * 2)) b a2 a3 a4 a5 a6 a7 a8 a9 a10 a11 a12 a13 a14 a15) : ∃ n, wX_root_57 post J (nI t) (nI m) n 0 a1 a2 a3 a4 a5 a6 a7 a8 a9 a10 a11 a12 a13 a14 a15 := by
  have h1 : qw_rows R a1 := h.1
  have ht : qw_tab a2 a3 a4 := h.2
  have i2 : a2 2 = qf_i (qf_inv 2) := ht.1 2 (by omega) (by omega)
  refine pk_loop (fun n i s => wX_root_57 post J (nI t) (nI m) n (nI i) s a2 a3 a4 a5 a6 a7 a8 a9 a10 a11 a12 a13 a14 a15) (fun i s => qw_rows (qw_part R 11 (fun i => (R 11 i + R 5 i) * qf_inv 2) i) s) 32 0 a1 (by omega) (qw_part0 h1) (fun n s hs => ?_) (fun n i s hi hs hw => ?_)
  · exact pk_le 32 32 (fun _ => nm_r (pk_mul m 2) (H s (qw_part32 hs))) (fun z => absurd z (by omega))
  · refine pk_le 32 i (fun z => absurd z (by omega)) (fun _ => ⟨qw_kin 11 352 rfl (by omega) hi, qw_kin 5 160 rfl (by omega) hi, ?_⟩)
    rw [qw_kat 11 352 rfl hs (by omega) hi, qw_kat 5 160 rfl hs (by omega) hi, qw_partN (by omega), qw_partN (by omega)]
    refine qf_plus ⟨by decide, qw_write (u := (s, a2, a3, a4, a5, a6, a7, a8, a9, a10, a11, a12, a13, a14, a15)) (r := 11) (by omega) hi (nm_r (nI_1 i) (hw _ (qw_step hs (by omega) hi ?_)))⟩
    rw [i2, qf_mul]
theorem qw_root35 {post : Int32 → St1 → Prop} {R : Nat → Nat → qf_F} {a1 a2 a3 a4 a5 a6 a7 a8 a9 a10 a11 a12 a13 a14 a15 : Nat → Int32} {t : Nat} (ht5 : t < 5) (hs0 : R t 0 = 1) (h : qw_ok R (a1, a2, a3, a4, a5, a6, a7, a8, a9, a10, a11, a12, a13, a14, a15)) (h11 : R 11 0 = 1) (H : ∀ s R', qw_ok R' s → (∀ j, j < 5 → j ≠ t → R' j = R j) → qp_e 32 (qp_mul (R' t) (R' t)) (R t) → post 1 s) : ∃ n, wX_root_35 post (nI t) n 1 a1 a2 a3 a4 a5 a6 a7 a8 a9 a10 a11 a12 a13 a14 a15 := by
  have tn : ∀ j, j < 5 → ∀ l : List Nat, (∀ x, x ∈ l → 5 ≤ x) → j ∉ l := fun j hj l hl z => absurd (hl j z) (by omega)
  refine pk_loop (fun n k (s : St1) => wX_root_35 post (nI t) n (nI (2 ^ k)) s.1 s.2.1 s.2.2.1 s.2.2.2.1 s.2.2.2.2.1 s.2.2.2.2.2.1 s.2.2.2.2.2.2.1 s.2.2.2.2.2.2.2.1 s.2.2.2.2.2.2.2.2.1 s.2.2.2.2.2.2.2.2.2.1 s.2.2.2.2.2.2.2.2.2.2.1 s.2.2.2.2.2.2.2.2.2.2.2.1 s.2.2.2.2.2.2.2.2.2.2.2.2.1 s.2.2.2.2.2.2.2.2.2.2.2.2.2.1 s.2.2.2.2.2.2.2.2.2.2.2.2.2.2) (fun k s => ∃ R', qw_ok R' s ∧ qw_same R R' [5, 7, 8, 11] ∧ R' 11 0 = 1 ∧ qp_e (2 ^ k) (qp_mul (R' 11) (R' 11)) (R t)) 5 0 (a1, a2, a3, a4, a5, a6, a7, a8, a9, a10, a11, a12, a13, a14, a15) (by omega) ⟨R, h, fun _ _ => rfl, h11, fun i hi => ?_⟩ (fun n s hI => ?_) (fun n k s hk hI hw => ?_)
  · have hi' : i < 1 := hi
    have i0 : i = 0 := by omega
    subst i0
    rw [qp_mul0, h11, hs0]
    grobner
  · obtain ⟨b1, b2, b3, b4, b5, b6, b7, b8, b9, b10, b11, b12, b13, b14, b15⟩ := s
    obtain ⟨R', k1, k2, k3, k4⟩ := hI
    have t' : qw_tab b2 b3 b4 := k1.2
    refine br_t (by decide) (qw_copyRow (u := (b1, b2, b3, b4, b5, b6, b7, b8, b9, b10, b11, b12, b13, b14, b15)) (r := 11) (t := t) (by omega) (by omega) k1.1 (fun c hc => H (c, b2, b3, b4, b5, b6, b7, b8, b9, b10, b11, b12, b13, b14, b15) _ ⟨hc, t'⟩ (fun j hj hjt => ?_) ?_))
    · rw [qw_setN hjt, k2 j (tn j hj _ (by decide))]
    · rw [qw_setP]
      exact k4
  · obtain ⟨b1, b2, b3, b4, b5, b6, b7, b8, b9, b10, b11, b12, b13, b14, b15⟩ := s
    obtain ⟨R', k1, k2, k3, k4⟩ := hI
    have hp : 2 ^ k ≤ 16 := by
      have : 2 ^ k ≤ 2 ^ 4 := Nat.pow_le_pow_right (by omega) (by omega)
      omega
    have hp0 : 0 < 2 ^ k := Nat.two_pow_pos k
    refine br_f (nI_ge (b := 32) (a := 2 ^ k) (by omega) (by decide)) (qw_invertRow (u := (b1, b2, b3, b4, b5, b6, b7, b8, b9, b10, b11, b12, b13, b14, b15)) (R := R') (r := 11) (by omega) (by decide) (by rw [k3]; decide) k1 (fun s R1 m1 m2 m3 => ?_))
    obtain ⟨c1, c2, c3, c4, c5, c6, c7, c8, c9, c10, c11, c12, c13, c14, c15⟩ := s
    have e11 : R1 11 = R' 11 := m2 11 (by decide)
    have et : R1 t = R t := by rw [m2 t (tn t ht5 _ (by decide)), k2 t (tn t ht5 _ (by decide))]
    refine qw_mulRows (u := (c1, c2, c3, c4, c5, c6, c7, c8, c9, c10, c11, c12, c13, c14, c15)) (e := 3) (a := t) (b := 7) (by omega) (by omega) (by omega) (by omega) (by omega) m1 (fun u' hu' => ?_)
    obtain ⟨d1, d2, d3, d4, d5, d6, d7, d8, d9, d10, d11, d12, d13, d14, d15⟩ := u'
    have t' : qw_tab d2 d3 d4 := hu'.2
    refine qw_root57 hu' (fun b hb => ?_)
    have e2 : 2 ^ k * 2 = 2 ^ (k + 1) := (Nat.pow_succ 2 k).symm
    rw [e2]
    have st := qp_rootStep (h := qf_inv 2) (r' := fun i => (R' 11 i + qp_mul (R t) (R1 7) i) * qf_inv 2) hp0 (by omega) qf_h2 k3 hs0 k4 m3 (fun i hi => rfl)
    rw [qw_setP, qw_setN (show 11 ≠ 5 by omega), e11, et] at hb
    refine hw (b, d2, d3, d4, d5, d6, d7, d8, d9, d10, d11, d12, d13, d14, d15) ⟨_, ⟨hb, t'⟩, fun j hj => ?_, by rw [qw_setP]; exact st.1, ?_⟩
    · have j2 : j ∉ [5, 7, 8] := fun z => hj (by
        have : j = 5 ∨ j = 7 ∨ j = 8 := by simpa using z
        rcases this with rfl | rfl | rfl <;> decide)
      rw [qw_setN (qw_ne hj (by decide)), qw_setN (qw_ne hj (by decide)), m2 j j2, k2 j hj]
    · rw [qw_setP, ← e2, Nat.mul_two]
      exact st.2
theorem qw_root {post : Int32 → St1 → Prop} {R : Nat → Nat → qf_F} {u : St1} {t : Nat} (ht5 : t < 5) (h : qw_ok R u) (H0 : R t 0 ≠ 1 → post 0 u) (H1 : R t 0 = 1 → ∀ s R', qw_ok R' s → (∀ j, j < 5 → j ≠ t → R' j = R j) → qp_e 32 (qp_mul (R' t) (R' t)) (R t) → post 1 s) : wpX_root post u (nI t) := by
  obtain ⟨a1, a2, a3, a4, a5, a6, a7, a8, a9, a10, a11, a12, a13, a14, a15⟩ := u
  have ht : qw_tab a2 a3 a4 := h.2
  unfold wpX_root
  refine qw_is ht5 ?_
  refine br_f qw_10 ?_
  refine qw_cell (u := (a1, a2, a3, a4, a5, a6, a7, a8, a9, a10, a11, a12, a13, a14, a15)) (r := t) (i := 0) (by omega) (by omega) h.1 (qf_eq1 _ (fun z => ?_) (fun z => H0 z))
  refine qw_clearRow (u := (a1, a2, a3, a4, a5, a6, a7, a8, a9, a10, a11, a12, a13, a14, a15)) (r := 11) (by omega) h.1 (fun c hc => qw_write (u := (c, a2, a3, a4, a5, a6, a7, a8, a9, a10, a11, a12, a13, a14, a15)) (r := 11) (i := 0) (by omega) (by omega) ?_)
  have hp := qw_put (r := 11) (i := 0) (x := 1) (v := 1) hc (by omega) (by omega) rfl
  have et : ∀ j, j < 5 → qw_set (qw_set R 11 (fun _ => 0)) 11 (fun j => if j = 0 then 1 else qw_set R 11 (fun _ => 0) 11 j) j = R j := by
    intro j hj
    rw [qw_setN (by omega), qw_setN (by omega)]
  refine qw_root35 ht5 (by rw [et t ht5]; exact z) ⟨hp, ht⟩ (by rw [qw_setP]; rfl) (fun s R' k1 k2 k3 => H1 z s R' k1 (fun j hj hjt => by rw [k2 j hj hjt, et j hj]) (by rw [et t ht5] at k3; exact k3))
end
section
/-! public methods -/
theorem qw_copy {post : Int32 → St1 → Prop} {R : Nat → Nat → qf_F} {u : St1} {s t : Nat} (hs : s < 5) (ht : t < 5) (h : qw_ok R u) (H : ∀ u', qw_ok (qw_set R s (R t)) u' → post 1 u') : wpX_copy post u (nI s) (nI t) := by
  obtain ⟨a1, a2, a3, a4, a5, a6, a7, a8, a9, a10, a11, a12, a13, a14, a15⟩ := u
  have ht' : qw_tab a2 a3 a4 := h.2
  unfold wpX_copy
  refine qw_is hs ?_
  refine br_f qw_10 ?_
  refine qw_is ht ?_
  refine br_f qw_10 ?_
  exact qw_copyRow (u := (a1, a2, a3, a4, a5, a6, a7, a8, a9, a10, a11, a12, a13, a14, a15)) (by omega) (by omega) h.1 (fun c hc => H (c, a2, a3, a4, a5, a6, a7, a8, a9, a10, a11, a12, a13, a14, a15) ⟨hc, ht'⟩)
theorem qw_value {post : Int32 → Prop} {R : Nat → Nat → qf_F} {u : St1} {s : Nat} {x : Int32} (hs : s < 5) (h : qw_ok R u) (H : post (qf_i (qe_val (R s) (qf_z x) 32))) : wpX_value post u (nI s) x := by
  obtain ⟨a1, a2, a3, a4, a5, a6, a7, a8, a9, a10, a11, a12, a13, a14, a15⟩ := u
  unfold wpX_value
  refine qw_is hs ?_
  refine br_f qw_10 ?_
  refine qf_normal x ?_
  exact qw_valueAt (u := (a1, a2, a3, a4, a5, a6, a7, a8, a9, a10, a11, a12, a13, a14, a15)) (by omega) h.1 H
theorem qw_coefficient {post : Int32 → Prop} {R : Nat → Nat → qf_F} {u : St1} {s i : Nat} (hs : s < 5) (hi : i < 32) (h : qw_ok R u) (H : post (qf_i (R s i))) : wpX_coefficient post u (nI s) (nI i) := by
  obtain ⟨a1, a2, a3, a4, a5, a6, a7, a8, a9, a10, a11, a12, a13, a14, a15⟩ := u
  unfold wpX_coefficient
  refine qw_is hs ?_
  refine br_f qw_10 ?_
  refine qw_isP hi ?_
  refine br_f qw_10 ?_
  exact qw_cell (u := (a1, a2, a3, a4, a5, a6, a7, a8, a9, a10, a11, a12, a13, a14, a15)) (by omega) hi h.1 H
theorem qw_degree {post : Int32 → Prop} {R : Nat → Nat → qf_F} {u : St1} {s : Nat} (hs : s < 5) (h : qw_ok R u) (H : post (nI (qw_dg (R s) 32) + (-1))) : wpX_degree post u (nI s) := by
  obtain ⟨a1, a2, a3, a4, a5, a6, a7, a8, a9, a10, a11, a12, a13, a14, a15⟩ := u
  unfold wpX_degree
  refine qw_is hs ?_
  refine br_f qw_10 ?_
  exact qw_degreeOf (u := (a1, a2, a3, a4, a5, a6, a7, a8, a9, a10, a11, a12, a13, a14, a15)) (by omega) h.1 H
theorem qw_multiply {post : Int32 → St1 → Prop} {R : Nat → Nat → qf_F} {u : St1} {e s t : Nat} (he : e < 5) (hs : s < 5) (ht : t < 5) (h : qw_ok R u) (H : ∀ u' R', qw_ok R' u' → (∀ j, j < 5 → j ≠ s → R' j = R j) → R' s = qp_mul (R s) (R t) → post 1 u') : wpX_multiply post u (nI e) (nI s) (nI t) := by
  obtain ⟨a1, a2, a3, a4, a5, a6, a7, a8, a9, a10, a11, a12, a13, a14, a15⟩ := u
  unfold wpX_multiply
  refine qw_isE he ?_
  refine br_f qw_10 ?_
  refine qw_is hs ?_
  refine br_f qw_10 ?_
  refine qw_is ht ?_
  refine br_f qw_10 ?_
  refine qw_mulRows (u := (a1, a2, a3, a4, a5, a6, a7, a8, a9, a10, a11, a12, a13, a14, a15)) he (by omega) (by omega) (by omega) (by omega) h (fun u' hu' => ?_)
  obtain ⟨b1, b2, b3, b4, b5, b6, b7, b8, b9, b10, b11, b12, b13, b14, b15⟩ := u'
  have t' : qw_tab b2 b3 b4 := hu'.2
  refine qw_copyRow (u := (b1, b2, b3, b4, b5, b6, b7, b8, b9, b10, b11, b12, b13, b14, b15)) (r := 5) (t := s) (by omega) (by omega) hu'.1 (fun c hc => H (c, b2, b3, b4, b5, b6, b7, b8, b9, b10, b11, b12, b13, b14, b15) _ ⟨hc, t'⟩ (fun j hj hjs => ?_) ?_)
  · rw [qw_setN hjs, qw_setN (by omega)]
  · rw [qw_setP, qw_setP]
theorem qw_agree {post : Int32 → St1 → Prop} {R : Nat → Nat → qf_F} {u : St1} {e d s t : Nat} (he : e < 5) (hd : d < 5) (hs : s < 5) (ht : t < 5) (h : qw_ok R u) (H : ∀ u' R', qw_ok R' u' → (∀ j, j < 5 → R' j = R j) → post 1 u') : wpX_agree post u (nI e) (nI d) (nI s) (nI t) := by
  obtain ⟨a1, a2, a3, a4, a5, a6, a7, a8, a9, a10, a11, a12, a13, a14, a15⟩ := u
  unfold wpX_agree
  refine qw_isE he ?_
  refine br_f qw_10 ?_
  refine qw_isE hd ?_
  refine br_f qw_10 ?_
  refine qw_is hs ?_
  refine br_f qw_10 ?_
  refine qw_is ht ?_
  refine br_f qw_10 ?_
  refine qw_mulRows (u := (a1, a2, a3, a4, a5, a6, a7, a8, a9, a10, a11, a12, a13, a14, a15)) he (by omega) (by omega) (by omega) (by omega) h (fun u' hu' => ?_)
  obtain ⟨b1, b2, b3, b4, b5, b6, b7, b8, b9, b10, b11, b12, b13, b14, b15⟩ := u'
  have t' : qw_tab b2 b3 b4 := hu'.2
  refine qw_copyRow (u := (b1, b2, b3, b4, b5, b6, b7, b8, b9, b10, b11, b12, b13, b14, b15)) (r := 5) (t := 6) (by omega) (by omega) hu'.1 (fun c hc => ?_)
  refine qw_mulRows (u := (c, b2, b3, b4, b5, b6, b7, b8, b9, b10, b11, b12, b13, b14, b15)) hd (by omega) (by omega) (by omega) (by omega) ⟨hc, t'⟩ (fun u' hu2 => ?_)
  obtain ⟨c1, c2, c3, c4, c5, c6, c7, c8, c9, c10, c11, c12, c13, c14, c15⟩ := u'
  have e5 : ∀ j, j < 5 → qw_set (qw_set R 5 (qp_mul (R s) (R t))) 6 (qw_set R 5 (qp_mul (R s) (R t)) 5) j = R j := by
    intro j hj
    rw [qw_setN (by omega), qw_setN (by omega)]
  rw [e5 s hs, e5 t ht] at hu2
  have hu3 := hu2.1
  refine pk_loop (fun n i v => wX_agree_60 post c1 c2 c3 c4 c5 c6 c7 c8 c9 c10 c11 c12 c13 c14 c15 n v (nI i)) (fun _ v => v = 1) 32 0 (1 : Int32) (by omega) rfl (fun n v hv => ?_) (fun n i v hi hv hw => ?_)
  · subst hv
    refine pk_le 32 32 (fun _ => ⟨by rfl, H (c1, c2, c3, c4, c5, c6, c7, c8, c9, c10, c11, c12, c13, c14, c15) _ hu2 (fun j hj => ?_)⟩) (fun z => absurd z (by omega))
    rw [qw_setN (by omega), e5 j hj]
  · subst hv
    refine pk_le 32 i (fun z => absurd z (by omega)) (fun _ => br_f qw_10 (qw_cell (u := (c1, c2, c3, c4, c5, c6, c7, c8, c9, c10, c11, c12, c13, c14, c15)) (r := 5) (by omega) hi hu3 (qw_cell (u := (c1, c2, c3, c4, c5, c6, c7, c8, c9, c10, c11, c12, c13, c14, c15)) (r := 6) (by omega) hi hu3 (br_t ?_ (nm_r (nI_1 i) (hw 1 rfl))))))
    rw [qw_setP, qw_setN (by omega), qw_setP, qw_setP]
theorem qw_put1 {post : Int32 → St1 → Prop} {R : Nat → Nat → qf_F} {u : St1} {s i : Nat} {v : Int32} (hs : s < 5) (hi : i < 32) (h : qw_ok R u) (H : ∀ u' R', qw_ok R' u' → post 1 u') : wpX_set post u (nI s) (nI i) v := by
  obtain ⟨a1, a2, a3, a4, a5, a6, a7, a8, a9, a10, a11, a12, a13, a14, a15⟩ := u
  have ht' : qw_tab a2 a3 a4 := h.2
  unfold wpX_set
  refine qw_is hs ?_
  refine br_f qw_10 ?_
  refine qw_isP hi ?_
  refine br_f qw_10 ?_
  refine qf_normal v ?_
  exact ⟨qw_in (by omega) hi, nm_r (by rw [qw_cl (by omega) hi]) (H ((upd a1 (32 * s + i) (qf_i (qf_z v))), a2, a3, a4, a5, a6, a7, a8, a9, a10, a11, a12, a13, a14, a15) _ ⟨qw_put h.1 (by omega) hi rfl, ht'⟩)⟩
/-! any arguments: only what keeps the picture -/
theorem qw_setAny {post : Int32 → St1 → Prop} {R : Nat → Nat → qf_F} {u : St1} {p q v : Int32} (h : qw_ok R u) (H : ∀ r u' R', qw_ok R' u' → post r u') : wpX_set post u p q v := by
  rcases pk_ix p (n := 5) (by omega) with z | z | ⟨s, hs, rfl⟩
  · obtain ⟨a1, a2, a3, a4, a5, a6, a7, a8, a9, a10, a11, a12, a13, a14, a15⟩ := u
    unfold wpX_set
    exact qw_isN (Or.inl z) (br_t rfl (H 0 _ R h))
  · obtain ⟨a1, a2, a3, a4, a5, a6, a7, a8, a9, a10, a11, a12, a13, a14, a15⟩ := u
    unfold wpX_set
    exact qw_isN (Or.inr z) (br_t rfl (H 0 _ R h))
  rcases pk_ix q (n := 32) (by omega) with z | z | ⟨i, hi, rfl⟩
  · obtain ⟨a1, a2, a3, a4, a5, a6, a7, a8, a9, a10, a11, a12, a13, a14, a15⟩ := u
    unfold wpX_set
    refine qw_is hs ?_
    refine br_f qw_10 ?_
    exact qw_isPN (Or.inl z) (br_t rfl (H 0 _ R h))
  · obtain ⟨a1, a2, a3, a4, a5, a6, a7, a8, a9, a10, a11, a12, a13, a14, a15⟩ := u
    unfold wpX_set
    refine qw_is hs ?_
    refine br_f qw_10 ?_
    exact qw_isPN (Or.inr z) (br_t rfl (H 0 _ R h))
  exact qw_put1 hs hi h (fun u' R' k => H 1 u' R' k)
theorem qw_fill1 {post : Int32 → St1 → Prop} {R : Nat → Nat → qf_F} {u : St1} {s i : Nat} {v w : Int32} (hs : s < 5) (hi : i < 32) (h : qw_ok R u) (H : ∀ u' R', qw_ok R' u' → post 1 u') : wpX_fill post u (nI s) (nI i) v w := by
  obtain ⟨a1, a2, a3, a4, a5, a6, a7, a8, a9, a10, a11, a12, a13, a14, a15⟩ := u
  have ht' : qw_tab a2 a3 a4 := h.2
  have h1 : qw_rows R a1 := h.1
  unfold wpX_fill
  refine qw_is hs ?_
  refine br_f qw_10 ?_
  refine qw_isP hi ?_
  refine br_f qw_10 ?_
  refine qf_normal v ?_
  refine qf_normal w ?_
  refine pk_loop (fun n k (q : Int32 × (Nat → Int32)) => wX_fill_32 post (nI s) (qf_i (qf_z w)) n q.1 (nI k) q.2 a2 a3 a4 a5 a6 a7 a8 a9 a10 a11 a12 a13 a14 a15) (fun _ q => (∃ x, q.1 = qf_i x) ∧ ∃ R', qw_rows R' q.2) 32 i (qf_i (qf_z v), a1) (by omega) ⟨⟨_, rfl⟩, R, h1⟩ (fun n q hI => ?_) (fun n k q hk hI hw => ?_)
  · obtain ⟨_, R', k1⟩ := hI
    exact pk_le 32 32 (fun _ => H (q.2, a2, a3, a4, a5, a6, a7, a8, a9, a10, a11, a12, a13, a14, a15) R' ⟨k1, ht'⟩) (fun z => absurd z (by omega))
  · obtain ⟨q1, q2⟩ := q
    obtain ⟨⟨x, hx⟩, R', k1⟩ := hI
    have hx' : q1 = qf_i x := hx
    subst hx'
    exact pk_le 32 k (fun z => absurd z (by omega)) (fun _ => qw_write (u := (q2, a2, a3, a4, a5, a6, a7, a8, a9, a10, a11, a12, a13, a14, a15)) (r := s) (by omega) hk ⟨by decide, nm_r (qf_mul _ _) (nm_r (nI_1 k) (hw (_, _) ⟨⟨_, rfl⟩, _, qw_put k1 (by omega) hk rfl⟩))⟩)
theorem qw_fillAny {post : Int32 → St1 → Prop} {R : Nat → Nat → qf_F} {u : St1} {p q v w : Int32} (h : qw_ok R u) (H : ∀ r u' R', qw_ok R' u' → post r u') : wpX_fill post u p q v w := by
  rcases pk_ix p (n := 5) (by omega) with z | z | ⟨s, hs, rfl⟩
  · obtain ⟨a1, a2, a3, a4, a5, a6, a7, a8, a9, a10, a11, a12, a13, a14, a15⟩ := u
    unfold wpX_fill
    exact qw_isN (Or.inl z) (br_t rfl (H 0 _ R h))
  · obtain ⟨a1, a2, a3, a4, a5, a6, a7, a8, a9, a10, a11, a12, a13, a14, a15⟩ := u
    unfold wpX_fill
    exact qw_isN (Or.inr z) (br_t rfl (H 0 _ R h))
  rcases pk_ix q (n := 32) (by omega) with z | z | ⟨i, hi, rfl⟩
  · obtain ⟨a1, a2, a3, a4, a5, a6, a7, a8, a9, a10, a11, a12, a13, a14, a15⟩ := u
    unfold wpX_fill
    refine qw_is hs ?_
    refine br_f qw_10 ?_
    exact qw_isPN (Or.inl z) (br_t rfl (H 0 _ R h))
  · obtain ⟨a1, a2, a3, a4, a5, a6, a7, a8, a9, a10, a11, a12, a13, a14, a15⟩ := u
    unfold wpX_fill
    refine qw_is hs ?_
    refine br_f qw_10 ?_
    exact qw_isPN (Or.inr z) (br_t rfl (H 0 _ R h))
  exact qw_fill1 hs hi h (fun u' R' k => H 1 u' R' k)
theorem qw_add1 {post : Int32 → St1 → Prop} {R : Nat → Nat → qf_F} {u : St1} {s t : Nat} {v : Int32} (hs : s < 5) (ht : t < 5) (h : qw_ok R u) (H : ∀ u' R', qw_ok R' u' → post 1 u') : wpX_add post u (nI s) (nI t) v := by
  obtain ⟨a1, a2, a3, a4, a5, a6, a7, a8, a9, a10, a11, a12, a13, a14, a15⟩ := u
  have ht' : qw_tab a2 a3 a4 := h.2
  have h1 : qw_rows R a1 := h.1
  unfold wpX_add
  refine qw_is hs ?_
  refine br_f qw_10 ?_
  refine qw_is ht ?_
  refine br_f qw_10 ?_
  refine qf_normal v ?_
  refine pk_loop (fun n k c => wX_add_25 post (nI s) (nI t) (qf_i (qf_z v)) n (nI k) c a2 a3 a4 a5 a6 a7 a8 a9 a10 a11 a12 a13 a14 a15) (fun _ c => ∃ R', qw_rows R' c) 32 0 a1 (by omega) ⟨R, h1⟩ (fun n c hI => ?_) (fun n k c hk hI hw => ?_)
  · obtain ⟨R', k1⟩ := hI
    exact pk_le 32 32 (fun _ => H (c, a2, a3, a4, a5, a6, a7, a8, a9, a10, a11, a12, a13, a14, a15) R' ⟨k1, ht'⟩) (fun z => absurd z (by omega))
  · obtain ⟨R', k1⟩ := hI
    refine pk_le 32 k (fun z => absurd z (by omega)) (fun _ => qw_cell (u := (c, a2, a3, a4, a5, a6, a7, a8, a9, a10, a11, a12, a13, a14, a15)) (r := t) (by omega) hk k1 ⟨by decide, nm_r (qf_mul _ _) ⟨qw_in (by omega) hk, by decide, ?_⟩⟩)
    rw [qw_at k1 (by omega) hk, qf_addr]
    exact qw_write (u := (c, a2, a3, a4, a5, a6, a7, a8, a9, a10, a11, a12, a13, a14, a15)) (r := s) (by omega) hk (nm_r (nI_1 k) (hw _ ⟨_, qw_put k1 (by omega) hk rfl⟩))
theorem qw_copyAny {post : Int32 → St1 → Prop} {R : Nat → Nat → qf_F} {u : St1} {p q : Int32} (h : qw_ok R u) (H : ∀ r u' R', qw_ok R' u' → post r u') : wpX_copy post u p q := by
  rcases pk_ix p (n := 5) (by omega) with z | z | ⟨s, hs, rfl⟩
  · obtain ⟨a1, a2, a3, a4, a5, a6, a7, a8, a9, a10, a11, a12, a13, a14, a15⟩ := u
    unfold wpX_copy
    exact qw_isN (Or.inl z) (br_t rfl (H 0 _ R h))
  · obtain ⟨a1, a2, a3, a4, a5, a6, a7, a8, a9, a10, a11, a12, a13, a14, a15⟩ := u
    unfold wpX_copy
    exact qw_isN (Or.inr z) (br_t rfl (H 0 _ R h))
  rcases pk_ix q (n := 5) (by omega) with z | z | ⟨t, ht, rfl⟩
  · obtain ⟨a1, a2, a3, a4, a5, a6, a7, a8, a9, a10, a11, a12, a13, a14, a15⟩ := u
    unfold wpX_copy
    refine qw_is hs ?_
    refine br_f qw_10 ?_
    exact qw_isN (Or.inl z) (br_t rfl (H 0 _ R h))
  · obtain ⟨a1, a2, a3, a4, a5, a6, a7, a8, a9, a10, a11, a12, a13, a14, a15⟩ := u
    unfold wpX_copy
    refine qw_is hs ?_
    refine br_f qw_10 ?_
    exact qw_isN (Or.inr z) (br_t rfl (H 0 _ R h))
  exact qw_copy hs ht h (fun u' k => H 1 u' _ k)
theorem qw_addAny {post : Int32 → St1 → Prop} {R : Nat → Nat → qf_F} {u : St1} {p q v : Int32} (h : qw_ok R u) (H : ∀ r u' R', qw_ok R' u' → post r u') : wpX_add post u p q v := by
  rcases pk_ix p (n := 5) (by omega) with z | z | ⟨s, hs, rfl⟩
  · obtain ⟨a1, a2, a3, a4, a5, a6, a7, a8, a9, a10, a11, a12, a13, a14, a15⟩ := u
    unfold wpX_add
    exact qw_isN (Or.inl z) (br_t rfl (H 0 _ R h))
  · obtain ⟨a1, a2, a3, a4, a5, a6, a7, a8, a9, a10, a11, a12, a13, a14, a15⟩ := u
    unfold wpX_add
    exact qw_isN (Or.inr z) (br_t rfl (H 0 _ R h))
  rcases pk_ix q (n := 5) (by omega) with z | z | ⟨t, ht, rfl⟩
  · obtain ⟨a1, a2, a3, a4, a5, a6, a7, a8, a9, a10, a11, a12, a13, a14, a15⟩ := u
    unfold wpX_add
    refine qw_is hs ?_
    refine br_f qw_10 ?_
    exact qw_isN (Or.inl z) (br_t rfl (H 0 _ R h))
  · obtain ⟨a1, a2, a3, a4, a5, a6, a7, a8, a9, a10, a11, a12, a13, a14, a15⟩ := u
    unfold wpX_add
    refine qw_is hs ?_
    refine br_f qw_10 ?_
    exact qw_isN (Or.inr z) (br_t rfl (H 0 _ R h))
  exact qw_add1 hs ht h (fun u' R' k => H 1 u' R' k)
theorem qw_invertAny {post : Int32 → St1 → Prop} {R : Nat → Nat → qf_F} {u : St1} {p : Int32} (h : qw_ok R u) (H : ∀ r u' R', qw_ok R' u' → post r u') : wpX_invert post u p := by
  rcases pk_ix p (n := 5) (by omega) with z | z | ⟨s, hs, rfl⟩
  · obtain ⟨a1, a2, a3, a4, a5, a6, a7, a8, a9, a10, a11, a12, a13, a14, a15⟩ := u
    unfold wpX_invert
    exact qw_isN (Or.inl z) (br_t rfl (H 0 _ R h))
  · obtain ⟨a1, a2, a3, a4, a5, a6, a7, a8, a9, a10, a11, a12, a13, a14, a15⟩ := u
    unfold wpX_invert
    exact qw_isN (Or.inr z) (br_t rfl (H 0 _ R h))
  exact qw_invert hs h (fun _ => H 0 u R h) (fun _ s' R' k _ _ => H 1 s' R' k)
theorem qw_logAny {post : Int32 → St1 → Prop} {R : Nat → Nat → qf_F} {u : St1} {p : Int32} (h : qw_ok R u) (H : ∀ r u' R', qw_ok R' u' → post r u') : wpX_log post u p := by
  rcases pk_ix p (n := 5) (by omega) with z | z | ⟨s, hs, rfl⟩
  · obtain ⟨a1, a2, a3, a4, a5, a6, a7, a8, a9, a10, a11, a12, a13, a14, a15⟩ := u
    unfold wpX_log
    exact qw_isN (Or.inl z) (br_t rfl (H 0 _ R h))
  · obtain ⟨a1, a2, a3, a4, a5, a6, a7, a8, a9, a10, a11, a12, a13, a14, a15⟩ := u
    unfold wpX_log
    exact qw_isN (Or.inr z) (br_t rfl (H 0 _ R h))
  exact qw_log hs h (fun _ => H 0 u R h) (fun _ s' R' k _ _ => H 1 s' R' k)
theorem qw_expAny {post : Int32 → St1 → Prop} {R : Nat → Nat → qf_F} {u : St1} {p : Int32} (h : qw_ok R u) (H : ∀ r u' R', qw_ok R' u' → post r u') : wpX_exp post u p := by
  rcases pk_ix p (n := 5) (by omega) with z | z | ⟨s, hs, rfl⟩
  · obtain ⟨a1, a2, a3, a4, a5, a6, a7, a8, a9, a10, a11, a12, a13, a14, a15⟩ := u
    unfold wpX_exp
    exact qw_isN (Or.inl z) (br_t rfl (H 0 _ R h))
  · obtain ⟨a1, a2, a3, a4, a5, a6, a7, a8, a9, a10, a11, a12, a13, a14, a15⟩ := u
    unfold wpX_exp
    exact qw_isN (Or.inr z) (br_t rfl (H 0 _ R h))
  exact qw_exp hs h (fun _ => H 0 u R h) (fun _ s' R' k _ _ => H 1 s' R' k)
theorem qw_rootAny {post : Int32 → St1 → Prop} {R : Nat → Nat → qf_F} {u : St1} {p : Int32} (h : qw_ok R u) (H : ∀ r u' R', qw_ok R' u' → post r u') : wpX_root post u p := by
  rcases pk_ix p (n := 5) (by omega) with z | z | ⟨s, hs, rfl⟩
  · obtain ⟨a1, a2, a3, a4, a5, a6, a7, a8, a9, a10, a11, a12, a13, a14, a15⟩ := u
    unfold wpX_root
    exact qw_isN (Or.inl z) (br_t rfl (H 0 _ R h))
  · obtain ⟨a1, a2, a3, a4, a5, a6, a7, a8, a9, a10, a11, a12, a13, a14, a15⟩ := u
    unfold wpX_root
    exact qw_isN (Or.inr z) (br_t rfl (H 0 _ R h))
  exact qw_root hs h (fun _ => H 0 u R h) (fun _ s' R' k _ _ => H 1 s' R' k)
theorem qw_multiplyAny {post : Int32 → St1 → Prop} {R : Nat → Nat → qf_F} {u : St1} {o p q : Int32} (h : qw_ok R u) (H : ∀ r u' R', qw_ok R' u' → post r u') : wpX_multiply post u o p q := by
  rcases pk_ix o (n := 5) (by omega) with z | z | ⟨e, he, rfl⟩
  · obtain ⟨a1, a2, a3, a4, a5, a6, a7, a8, a9, a10, a11, a12, a13, a14, a15⟩ := u
    unfold wpX_multiply
    exact qw_isEN (Or.inl z) (br_t rfl (H 0 _ R h))
  · obtain ⟨a1, a2, a3, a4, a5, a6, a7, a8, a9, a10, a11, a12, a13, a14, a15⟩ := u
    unfold wpX_multiply
    exact qw_isEN (Or.inr z) (br_t rfl (H 0 _ R h))
  rcases pk_ix p (n := 5) (by omega) with z | z | ⟨s, hs, rfl⟩
  · obtain ⟨a1, a2, a3, a4, a5, a6, a7, a8, a9, a10, a11, a12, a13, a14, a15⟩ := u
    unfold wpX_multiply
    refine qw_isE he ?_
    refine br_f qw_10 ?_
    exact qw_isN (Or.inl z) (br_t rfl (H 0 _ R h))
  · obtain ⟨a1, a2, a3, a4, a5, a6, a7, a8, a9, a10, a11, a12, a13, a14, a15⟩ := u
    unfold wpX_multiply
    refine qw_isE he ?_
    refine br_f qw_10 ?_
    exact qw_isN (Or.inr z) (br_t rfl (H 0 _ R h))
  rcases pk_ix q (n := 5) (by omega) with z | z | ⟨t, ht, rfl⟩
  · obtain ⟨a1, a2, a3, a4, a5, a6, a7, a8, a9, a10, a11, a12, a13, a14, a15⟩ := u
    unfold wpX_multiply
    refine qw_isE he ?_
    refine br_f qw_10 ?_
    refine qw_is hs ?_
    refine br_f qw_10 ?_
    exact qw_isN (Or.inl z) (br_t rfl (H 0 _ R h))
  · obtain ⟨a1, a2, a3, a4, a5, a6, a7, a8, a9, a10, a11, a12, a13, a14, a15⟩ := u
    unfold wpX_multiply
    refine qw_isE he ?_
    refine br_f qw_10 ?_
    refine qw_is hs ?_
    refine br_f qw_10 ?_
    exact qw_isN (Or.inr z) (br_t rfl (H 0 _ R h))
  exact qw_multiply he hs ht h (fun u' R' k _ _ => H 1 u' R' k)
end
section
/-! products by bits -/
theorem qw_bits : ∀ k, k < 5 → ∀ i, i < 32 → (nI i &&& nI (2 ^ k) = 0 ↔ i / 2 ^ k % 2 = 0) ∧ (i / 2 ^ k % 2 = 0 → i + 2 ^ k < 32) := by
  decide +kernel
/-- a row when i places of round k are done -/
def qw_fp (k : Nat) (v : Nat → qf_F) (i : Nat) : Nat → qf_F := fun j => if (j / 2 ^ k % 2 = 0 ∧ j < i) ∨ (j / 2 ^ k % 2 = 1 ∧ j < i + 2 ^ k) then qe_st k v j else v j
theorem qw_fpS {k : Nat} {v : Nat → qf_F} {i : Nat} (hb : i / 2 ^ k % 2 = 0) : (qw_fp k v i i = v i ∧ qw_fp k v i (i + 2 ^ k) = v (i + 2 ^ k)) ∧ (∀ j, qw_fp k v (i + 1) j = if j = i + 2 ^ k then v i - v (i + 2 ^ k) else if j = i then v i + v (i + 2 ^ k) else qw_fp k v i j) := by
  have p : 0 < 2 ^ k := Nat.two_pow_pos k
  have e1 : (i + 2 ^ k) / 2 ^ k % 2 = 1 := by
    rw [Nat.add_div_right i p]
    omega
  refine ⟨⟨if_neg (by omega), if_neg (by omega)⟩, fun j => ?_⟩
  by_cases z : j = i + 2 ^ k
  · rw [if_pos z, z]
    have a : qw_fp k v (i + 1) (i + 2 ^ k) = qe_st k v (i + 2 ^ k) := if_pos (Or.inr ⟨e1, by omega⟩)
    have b : qe_st k v (i + 2 ^ k) = v (i + 2 ^ k - 2 ^ k) - v (i + 2 ^ k) := if_neg (by omega)
    rw [a, b, Nat.add_sub_cancel]
  · rw [if_neg z]
    by_cases z2 : j = i
    · rw [if_pos z2, z2]
      have a : qw_fp k v (i + 1) i = qe_st k v i := if_pos (Or.inl ⟨hb, by omega⟩)
      have b : qe_st k v i = v i + v (i + 2 ^ k) := if_pos hb
      rw [a, b]
    · rw [if_neg z2]
      show (if (j / 2 ^ k % 2 = 0 ∧ j < i + 1) ∨ (j / 2 ^ k % 2 = 1 ∧ j < i + 1 + 2 ^ k) then qe_st k v j else v j) = (if (j / 2 ^ k % 2 = 0 ∧ j < i) ∨ (j / 2 ^ k % 2 = 1 ∧ j < i + 2 ^ k) then qe_st k v j else v j)
      by_cases c : (j / 2 ^ k % 2 = 0 ∧ j < i) ∨ (j / 2 ^ k % 2 = 1 ∧ j < i + 2 ^ k)
      · rw [if_pos c, if_pos (by omega)]
      · rw [if_neg c, if_neg (by omega)]
theorem qw_fpN {k : Nat} {v : Nat → qf_F} {i : Nat} (hb : ¬ i / 2 ^ k % 2 = 0) : qw_fp k v (i + 1) = qw_fp k v i := by
  have p : 0 < 2 ^ k := Nat.two_pow_pos k
  have e1 : (i + 2 ^ k) / 2 ^ k % 2 = 0 := by
    rw [Nat.add_div_right i p]
    omega
  funext j
  show (if (j / 2 ^ k % 2 = 0 ∧ j < i + 1) ∨ (j / 2 ^ k % 2 = 1 ∧ j < i + 1 + 2 ^ k) then qe_st k v j else v j) = (if (j / 2 ^ k % 2 = 0 ∧ j < i) ∨ (j / 2 ^ k % 2 = 1 ∧ j < i + 2 ^ k) then qe_st k v j else v j)
  by_cases z : j = i
  · subst z
    rw [if_pos (by omega), if_pos (by omega)]
  · by_cases z2 : j = i + 2 ^ k
    · subst z2
      rw [if_neg (by omega), if_neg (by omega)]
    · by_cases c : (j / 2 ^ k % 2 = 0 ∧ j < i) ∨ (j / 2 ^ k % 2 = 1 ∧ j < i + 2 ^ k)
      · rw [if_pos c, if_pos (by omega)]
      · rw [if_neg c, if_neg (by omega)]
theorem qw_fold10 {post : St1 → Prop} {J : Int32 → qw_K} {R : Nat → Nat → qf_F} {a1 a2 a3 a4 a5 a6 a7 a8 a9 a10 a11 a12 a13 a14 a15 : Nat → Int32} {r k : Nat} {v : Nat → qf_F} (hr : r < 12) (hk : k < 5) (h : qw_rows (qw_set R r v) a1) (H : ∀ b, qw_rows (qw_set R r (qe_st k v)) b → J (nI (2 ^ k * 2)) b a2 a3 a4 a5 a6 a7 a8 a9 a10 a11 a12 a13 a14 a15) : ∃ n, wX_foldRow_10 post J (nI r) (nI (2 ^ k)) n 0 a1 a2 a3 a4 a5 a6 a7 a8 a9 a10 a11 a12 a13 a14 a15 := by
  have p : 0 < 2 ^ k := Nat.two_pow_pos k
  have hp : 2 ^ k ≤ 16 := by
    have : 2 ^ k ≤ 2 ^ 4 := Nat.pow_le_pow_right (by omega) (by omega)
    omega
  refine pk_loop (fun n i s => wX_foldRow_10 post J (nI r) (nI (2 ^ k)) n (nI i) s a2 a3 a4 a5 a6 a7 a8 a9 a10 a11 a12 a13 a14 a15) (fun i s => qw_rows (qw_set R r (qw_fp k v i)) s) 32 0 a1 (by omega) (qw_cong h (fun t _ j hj => ?_)) (fun n s hs => ?_) (fun n i s hi hs hw => ?_)
  · by_cases e : t = r
    · rw [e, qw_setP, qw_setP]
      show (if (j / 2 ^ k % 2 = 0 ∧ j < 0) ∨ (j / 2 ^ k % 2 = 1 ∧ j < 0 + 2 ^ k) then qe_st k v j else v j) = v j
      rw [if_neg]
      intro c
      rcases c with c | c
      · omega
      · have := Nat.div_eq_of_lt (show j < 2 ^ k by omega)
        omega
    · rw [qw_setN e, qw_setN e]
  · refine pk_le 32 32 (fun _ => nm_r (pk_mul (2 ^ k) 2) (H s (qw_cong hs (fun t _ j hj => ?_)))) (fun z => absurd z (by omega))
    by_cases e : t = r
    · rw [e, qw_setP, qw_setP]
      show qe_st k v j = (if (j / 2 ^ k % 2 = 0 ∧ j < 32) ∨ (j / 2 ^ k % 2 = 1 ∧ j < 32 + 2 ^ k) then qe_st k v j else v j)
      rw [if_pos (by omega)]
    · rw [qw_setN e, qw_setN e]
  · obtain ⟨b1, b2⟩ := qw_bits k hk i hi
    refine pk_le 32 i (fun z => absurd z (by omega)) (fun _ => ek_if b1 (fun hb => ?_) (fun hb => nm_r (nI_1 i) (hw s (by rw [qw_fpN hb]; exact hs))))
    have hib := b2 hb
    obtain ⟨⟨f1, f2⟩, f3⟩ := qw_fpS (v := v) hb
    have ea : nI i + nI (2 ^ k) = nI (i + 2 ^ k) := nI_add i (2 ^ k)
    have eb : nI r * 32 + nI i + nI (2 ^ k) = nI (32 * r + (i + 2 ^ k)) := by
      rw [qw_ix, nI_add, Nat.add_assoc]
    refine qw_cell (u := (s, a2, a3, a4, a5, a6, a7, a8, a9, a10, a11, a12, a13, a14, a15)) (r := r) hr hi hs ?_
    rw [ea]
    refine qw_cell (u := (s, a2, a3, a4, a5, a6, a7, a8, a9, a10, a11, a12, a13, a14, a15)) (r := r) hr hib hs ?_
    rw [qw_setP, f1, f2]
    refine qf_plus ⟨qw_in hr hi, nm_r (by rw [qw_cl hr hi]) (qf_minus ⟨pk_in _ 384 (by omega) eb, nm_r (by rw [pk_cl _ eb]) (nm_r (nI_1 i) (hw _ ?_))⟩)⟩
    refine qw_cong (qw_put (r := r) (i := i + 2 ^ k) (x := v i - v (i + 2 ^ k)) (qw_put (r := r) (i := i) (x := v i + v (i + 2 ^ k)) hs hr hi rfl) hr hib rfl) (fun t _ j hj => ?_)
    by_cases e : t = r
    · rw [e, qw_setP, qw_setP, f3 j]
      show _ = if j = i + 2 ^ k then v i - v (i + 2 ^ k) else qw_set (qw_set R r (qw_fp k v i)) r (fun j => if j = i then v i + v (i + 2 ^ k) else qw_set R r (qw_fp k v i) r j) r j
      rw [qw_setP, qw_setP]
    · rw [qw_setN e, qw_setN e, qw_setN e, qw_setN e]
def qw_it (v : Nat → qf_F) : Nat → Nat → qf_F
  | 0 => v
  | k + 1 => qe_st k (qw_it v k)
theorem qw_foldRow {post : St1 → Prop} {R : Nat → Nat → qf_F} {u : St1} {r : Nat} (hr : r < 12) (h : qw_rows R u.1) (H : ∀ b, qw_rows (qw_set R r (qe_H (R r))) b → post (b, u.2)) : wpX_foldRow post u (nI r) := by
  obtain ⟨a1, a2, a3, a4, a5, a6, a7, a8, a9, a10, a11, a12, a13, a14, a15⟩ := u
  refine pk_loop (fun n k s => wX_foldRow_2 post (nI r) n (nI (2 ^ k)) s a2 a3 a4 a5 a6 a7 a8 a9 a10 a11 a12 a13 a14 a15) (fun k s => qw_rows (qw_set R r (qw_it (R r) k)) s) 5 0 a1 (by omega) (qw_cong h (fun t _ j hj => ?_)) (fun n s hs => ?_) (fun n k s hk hs hw => ?_)
  · by_cases e : t = r
    · rw [e, qw_setP]
      rfl
    · rw [qw_setN e]
  · exact br_t (by decide) (H s hs)
  · have hp : 2 ^ k ≤ 16 := by
      have : 2 ^ k ≤ 2 ^ 4 := Nat.pow_le_pow_right (by omega) (by omega)
      omega
    refine br_f (nI_ge (b := 32) (a := 2 ^ k) (by omega) (by decide)) (qw_fold10 hr hk hs (fun b hb => ?_))
    have := hw b hb
    have this' : wX_foldRow_2 post (nI r) n (nI (2 ^ (k + 1))) b a2 a3 a4 a5 a6 a7 a8 a9 a10 a11 a12 a13 a14 a15 := this
    rw [Nat.pow_succ] at this'
    exact this'
theorem qw_cross87 {post : Int32 → St1 → Prop} {R : Nat → Nat → qf_F} {a1 a2 a3 a4 a5 a6 a7 a8 a9 a10 a11 a12 a13 a14 a15 : Nat → Int32} {s : Nat} (hs : s < 5) (ht : qw_tab a2 a3 a4) (h : qw_rows R a1) (H : ∀ b, qw_rows (qw_set R s (fun i => R s i * qf_inv 32)) b → post 1 (b, a2, a3, a4, a5, a6, a7, a8, a9, a10, a11, a12, a13, a14, a15)) : ∃ n, wX_cross_87 post (nI s) n 0 a1 a2 a3 a4 a5 a6 a7 a8 a9 a10 a11 a12 a13 a14 a15 := by
  have i32 : a2 32 = qf_i (qf_inv 32) := ht.1 32 (by omega) (by omega)
  refine pk_loop (fun n i c => wX_cross_87 post (nI s) n (nI i) c a2 a3 a4 a5 a6 a7 a8 a9 a10 a11 a12 a13 a14 a15) (fun i c => qw_rows (qw_part R s (fun i => R s i * qf_inv 32) i) c) 32 0 a1 (by omega) (qw_part0 h) (fun n c hc => ?_) (fun n i c hi hc hw => ?_)
  · exact pk_le 32 32 (fun _ => H c (qw_part32 hc)) (fun z => absurd z (by omega))
  · refine pk_le 32 i (fun z => absurd z (by omega)) (fun _ => ⟨qw_in (by omega) hi, by decide, qw_write (u := (c, a2, a3, a4, a5, a6, a7, a8, a9, a10, a11, a12, a13, a14, a15)) (r := s) (by omega) hi (nm_r (nI_1 i) (hw _ (qw_step hc (by omega) hi ?_)))⟩)
    rw [qw_at hc (by omega) hi, qw_partN (by omega), i32, qf_mul]
theorem qw_cross36 {post : Int32 → St1 → Prop} {R : Nat → Nat → qf_F} {a1 a2 a3 a4 a5 a6 a7 a8 a9 a10 a11 a12 a13 a14 a15 : Nat → Int32} {s : Nat} (hs : s < 5) (ht : qw_tab a2 a3 a4) (h : qw_rows R a1) (H : ∀ b, qw_rows (qw_set R s (fun i => qe_H (fun i => R s i * R 6 i) i * qf_inv 32)) b → post 1 (b, a2, a3, a4, a5, a6, a7, a8, a9, a10, a11, a12, a13, a14, a15)) : ∃ n, wX_cross_36 post (nI s) n 0 a1 a2 a3 a4 a5 a6 a7 a8 a9 a10 a11 a12 a13 a14 a15 := by
  refine pk_loop (fun n i c => wX_cross_36 post (nI s) n (nI i) c a2 a3 a4 a5 a6 a7 a8 a9 a10 a11 a12 a13 a14 a15) (fun i c => qw_rows (qw_part R s (fun i => R s i * R 6 i) i) c) 32 0 a1 (by omega) (qw_part0 h) (fun n c hc => ?_) (fun n i c hi hc hw => ?_)
  · have hc' := qw_part32 hc
    refine pk_le 32 32 (fun _ => qw_foldRow (u := (c, a2, a3, a4, a5, a6, a7, a8, a9, a10, a11, a12, a13, a14, a15)) (by omega) hc' (fun b hb => qw_cross87 hs ht hb (fun b2 hb2 => H b2 (qw_cong hb2 (fun t _ j hj => ?_))))) (fun z => absurd z (by omega))
    by_cases e : t = s
    · rw [e, qw_setP, qw_setP, qw_setP, qw_setP]
    · rw [qw_setN e, qw_setN e, qw_setN e, qw_setN e]
  · refine pk_le 32 i (fun z => absurd z (by omega)) (fun _ => ⟨qw_in (by omega) hi, qw_kin 6 192 rfl (by omega) hi, by decide, qw_write (u := (c, a2, a3, a4, a5, a6, a7, a8, a9, a10, a11, a12, a13, a14, a15)) (r := s) (by omega) hi (nm_r (nI_1 i) (hw _ (qw_step hc (by omega) hi ?_)))⟩)
    rw [qw_at hc (by omega) hi, qw_kat 6 192 rfl hc (by omega) hi, qw_partN (by omega), qw_partN (by omega), qf_mul]
theorem qw_cross {post : Int32 → St1 → Prop} {R : Nat → Nat → qf_F} {u : St1} {s t : Nat} (hs : s < 5) (ht : t < 5) (h : qw_ok R u) (H : ∀ u' R', qw_ok R' u' → (∀ j, j < 5 → j ≠ s → R' j = R j) → qs_sm (R' s) 32 = qs_sm (R s) 32 * qs_sm (R t) 32 → post 1 u') : wpX_cross post u (nI s) (nI t) := by
  obtain ⟨a1, a2, a3, a4, a5, a6, a7, a8, a9, a10, a11, a12, a13, a14, a15⟩ := u
  have ht' : qw_tab a2 a3 a4 := h.2
  unfold wpX_cross
  refine qw_is hs ?_
  refine br_f qw_10 ?_
  refine qw_is ht ?_
  refine br_f qw_10 ?_
  refine qw_copyRow (u := (a1, a2, a3, a4, a5, a6, a7, a8, a9, a10, a11, a12, a13, a14, a15)) (r := t) (t := 6) (by omega) (by omega) h.1 (fun c1 h1 => qw_foldRow (u := (c1, a2, a3, a4, a5, a6, a7, a8, a9, a10, a11, a12, a13, a14, a15)) (r := 6) (by omega) h1 (fun c2 h2 => qw_foldRow (u := (c2, a2, a3, a4, a5, a6, a7, a8, a9, a10, a11, a12, a13, a14, a15)) (r := s) (by omega) h2 (fun c3 h3 => ?_)))
  have e6 : ∀ R : Nat → Nat → qf_F, qw_set (qw_set (qw_set R 6 (R t)) 6 (qe_H (qw_set R 6 (R t) 6))) s (qe_H (qw_set (qw_set R 6 (R t)) 6 (qe_H (qw_set R 6 (R t) 6)) s)) 6 = qe_H (R t) := by
    intro R
    rw [qw_setN (show 6 ≠ s by omega), qw_setP, qw_setP]
  have es : ∀ R : Nat → Nat → qf_F, qw_set (qw_set (qw_set R 6 (R t)) 6 (qe_H (qw_set R 6 (R t) 6))) s (qe_H (qw_set (qw_set R 6 (R t)) 6 (qe_H (qw_set R 6 (R t) 6)) s)) s = qe_H (R s) := by
    intro R
    rw [qw_setP, qw_setN (show s ≠ 6 by omega), qw_setN (show s ≠ 6 by omega)]
  refine qw_cross36 hs ht' h3 (fun b hb => H (b, a2, a3, a4, a5, a6, a7, a8, a9, a10, a11, a12, a13, a14, a15) _ ⟨hb, ht'⟩ (fun j hj hjs => ?_) ?_)
  · rw [qw_setN hjs, qw_setN hjs, qw_setN (by omega), qw_setN (by omega)]
  · rw [qw_setP, e6, es, qs_mulR, qe_HB]
    show 32 * (qe_H (R s) 0 * qe_H (R t) 0) * qf_inv 32 = _
    rw [qe_HA, qe_HA]
    have e := qf_h32
    generalize qf_inv 32 = v at e
    generalize qs_sm (R s) 32 = a
    generalize qs_sm (R t) 32 = b
    grobner
/-! shifts -/
theorem qw_shift112 {post : Int32 → St1 → Prop} {R : Nat → Nat → qf_F} {a1 a2 a3 a4 a5 a6 a7 a8 a9 a10 a11 a12 a13 a14 a15 : Nat → Int32} {s : Nat} (hs : s < 5) (ht : qw_tab a2 a3 a4) (h : qw_rows R a1) (H : ∀ b, qw_rows (qw_set R s (fun i => R 5 (31 - i) * qf_ifac i)) b → post 1 (b, a2, a3, a4, a5, a6, a7, a8, a9, a10, a11, a12, a13, a14, a15)) : ∃ n, wX_shift_112 post (nI s) n 0 a1 a2 a3 a4 a5 a6 a7 a8 a9 a10 a11 a12 a13 a14 a15 := by
  refine pk_loop (fun n i c => wX_shift_112 post (nI s) n (nI i) c a2 a3 a4 a5 a6 a7 a8 a9 a10 a11 a12 a13 a14 a15) (fun i c => qw_rows (qw_part R s (fun i => R 5 (31 - i) * qf_ifac i) i) c) 32 0 a1 (by omega) (qw_part0 h) (fun n c hc => ?_) (fun n i c hi hc hw => ?_)
  · exact pk_le 32 32 (fun _ => H c (qw_part32 hc)) (fun z => absurd z (by omega))
  · have e1 : 191 - nI i = nI (32 * 5 + (31 - i)) := by
      show nI 191 - nI i = _
      rw [pk_sub (by omega), show 191 - i = 32 * 5 + (31 - i) by omega]
    have i4 : a4 i = qf_i (qf_ifac i) := ht.2.2 i hi
    refine pk_le 32 i (fun z => absurd z (by omega)) (fun _ => ⟨pk_in _ 384 (by omega) e1, pk_in i 32 hi, by decide, qw_write (u := (c, a2, a3, a4, a5, a6, a7, a8, a9, a10, a11, a12, a13, a14, a15)) (r := s) (by omega) hi (nm_r (nI_1 i) (hw _ (qw_step hc (by omega) hi ?_)))⟩)
    rw [pk_cl _ e1, nI_clamp (n := i) (by omega), hc 5 (31 - i) (by omega) (by omega), qw_partN (by omega), i4, qf_mul]
theorem qw_shift {post : Int32 → St1 → Prop} {R : Nat → Nat → qf_F} {u : St1} {s : Nat} {x : Int32} (hs : s < 5) (h : qw_ok R u) (H : ∀ u' R', qw_ok R' u' → (∀ j, j < 5 → j ≠ s → R' j = R j) → (∀ y, qe_val (R' s) y 32 = qe_val (R s) (y + qf_z x) 32) → post 1 u') : wpX_shift post u (nI s) x := by
  obtain ⟨a1, a2, a3, a4, a5, a6, a7, a8, a9, a10, a11, a12, a13, a14, a15⟩ := u
  have ht : qw_tab a2 a3 a4 := h.2
  have hr : qw_rows R a1 := h.1
  unfold wpX_shift
  refine qw_is hs ?_
  refine br_f qw_10 ?_
  refine qf_normal x ?_
  generalize qf_z x = w at H
  refine pk_loop (fun n i (q : Int32 × (Nat → Int32)) => wX_shift_20 post (nI s) (qf_i w) n q.1 (nI i) q.2 a2 a3 a4 a5 a6 a7 a8 a9 a10 a11 a12 a13 a14 a15) (fun i q => q.1 = qf_i (qs_pw w i) ∧ ∃ R', qw_rows R' q.2 ∧ (∀ t, t ≠ 6 → t ≠ 7 → R' t = R t) ∧ (∀ j, j < i → R' 6 (31 - j) = R s j * qf_fac j) ∧ (∀ j, j < i → R' 7 j = qs_pw w j * qf_ifac j)) 32 0 (1, a1) (by omega) ⟨rfl, R, hr, fun _ _ _ => rfl, fun j z => absurd z (by omega), fun j z => absurd z (by omega)⟩ (fun n q hI => ?_) (fun n i q hi hI hw => ?_)
  · obtain ⟨q1, q2⟩ := q
    obtain ⟨_, R', k1, k2, k3, k4⟩ := hI
    refine pk_le 32 32 (fun _ => qw_mulRows (u := (q2, a2, a3, a4, a5, a6, a7, a8, a9, a10, a11, a12, a13, a14, a15)) (R := R') (e := 2) (a := 6) (b := 7) (by omega) (by omega) (by omega) (by omega) (by omega) ⟨k1, ht⟩ (fun u' hu' => ?_)) (fun z => absurd z (by omega))
    obtain ⟨b1, b2, b3, b4, b5, b6, b7, b8, b9, b10, b11, b12, b13, b14, b15⟩ := u'
    have t' : qw_tab b2 b3 b4 := hu'.2
    have h1' : qw_rows (qw_set R' 5 (qp_mul (R' 6) (R' 7))) b1 := hu'.1
    refine qw_shift112 hs t' h1' (fun b hb => H (b, b2, b3, b4, b5, b6, b7, b8, b9, b10, b11, b12, b13, b14, b15) _ ⟨hb, t'⟩ (fun j hj hjs => ?_) (fun y => ?_))
    · rw [qw_setN hjs, qw_setN (by omega), k2 j (by omega) (by omega)]
    · rw [qw_setP, qw_setP]
      exact qe_shift (fac := qf_fac) (ifac := qf_ifac) rfl rfl (fun i _ => rfl) qf_ifacs y k3 k4 (qp_e_refl 32 (qp_mul (R' 6) (R' 7))) (fun i hi => rfl)
  · obtain ⟨q1, q2⟩ := q
    obtain ⟨hq, R', k1, k2, k3, k4⟩ := hI
    have hq' : q1 = qf_i (qs_pw w i) := hq
    subst hq'
    have e3 : a3 i = qf_i (qf_fac i) := ht.2.1 i hi
    have e4 : a4 i = qf_i (qf_ifac i) := ht.2.2 i hi
    have e31 : 31 - nI i = nI (31 - i) := pk_sub (a := 31) (by omega)
    refine pk_le 32 i (fun z => absurd z (by omega)) (fun _ => ⟨qw_in (by omega) hi, pk_in i 32 hi, by decide, ?_⟩)
    rw [qw_at k1 (by omega) hi, k2 s (by omega) (by omega), nI_clamp (n := i) (by omega), e3, qf_mul (R s i) (qf_fac i), e31]
    have p1 := qw_put (r := 6) (i := 31 - i) (x := R s i * qf_fac i) k1 (by omega) (by omega) rfl
    refine qw_write (u := (q2, a2, a3, a4, a5, a6, a7, a8, a9, a10, a11, a12, a13, a14, a15)) (r := 6) (i := 31 - i) (by omega) (by omega) ⟨pk_in i 32 hi, by decide, ?_⟩
    have p2 := qw_put (r := 7) (i := i) (x := qs_pw w i * qf_ifac i) p1 (by omega) hi rfl
    show wpX_write _ ((upd q2 (32 * 6 + (31 - i)) (qf_i (R s i * qf_fac i))), a2, a3, a4, a5, a6, a7, a8, a9, a10, a11, a12, a13, a14, a15) 7 (nI i) (qf_i (qs_pw w i) * a4 i - qf_i (qs_pw w i) * a4 i / 12289 * 12289)
    rw [e4, qf_mul (qs_pw w i) (qf_ifac i)]
    refine qw_write (u := ((upd q2 (32 * 6 + (31 - i)) (qf_i (R s i * qf_fac i))), a2, a3, a4, a5, a6, a7, a8, a9, a10, a11, a12, a13, a14, a15)) (r := 7) (i := i) (by omega) hi ⟨by decide, nm_r (qf_mul _ _) (nm_r (nI_1 i) (hw (_, _) ⟨rfl, _, p2, fun t t6 t7 => ?_, fun j hj => ?_, fun j hj => ?_⟩))⟩
    · rw [qw_setN t7, qw_setN t6, k2 t t6 t7]
    · rw [qw_setN (by omega), qw_setP]
      show (if 31 - j = 31 - i then R s i * qf_fac i else R' 6 (31 - j)) = _
      by_cases z : j = i
      · rw [if_pos (by omega), z]
      · rw [if_neg (by omega), k3 j (by omega)]
    · rw [qw_setP]
      show (if j = i then qs_pw w i * qf_ifac i else qw_set R' 6 (fun j => if j = 31 - i then R s i * qf_fac i else R' 6 j) 7 j) = _
      by_cases z : j = i
      · rw [if_pos z, z]
      · rw [if_neg z, qw_setN (by omega), k4 j (by omega)]
end
section
/-! division -/
theorem qw_rest137 {post : Int32 → St1 → Prop} {R : Nat → Nat → qf_F} {a1 a2 a3 a4 a5 a6 a7 a8 a9 a10 a11 a12 a13 a14 a15 : Nat → Int32} {s : Nat} (hs : s < 5) (h : qw_rows R a1) (H : ∀ b, qw_rows (qw_set R s (fun i => R s i - R 5 i)) b → post 1 (b, a2, a3, a4, a5, a6, a7, a8, a9, a10, a11, a12, a13, a14, a15)) : ∃ n, wX_rest_137 post (nI s) n 0 a1 a2 a3 a4 a5 a6 a7 a8 a9 a10 a11 a12 a13 a14 a15 := by
  refine pk_loop (fun n i c => wX_rest_137 post (nI s) n (nI i) c a2 a3 a4 a5 a6 a7 a8 a9 a10 a11 a12 a13 a14 a15) (fun i c => qw_rows (qw_part R s (fun i => R s i - R 5 i) i) c) 32 0 a1 (by omega) (qw_part0 h) (fun n c hc => ?_) (fun n i c hi hc hw => ?_)
  · exact pk_le 32 32 (fun _ => H c (qw_part32 hc)) (fun z => absurd z (by omega))
  · refine pk_le 32 i (fun z => absurd z (by omega)) (fun _ => ⟨qw_in (by omega) hi, qw_kin 5 160 rfl (by omega) hi, ?_⟩)
    rw [qw_at hc (by omega) hi, qw_kat 5 160 rfl hc (by omega) hi, qw_partN (by omega), qw_partN (by omega)]
    exact qf_minus (qw_write (u := (c, a2, a3, a4, a5, a6, a7, a8, a9, a10, a11, a12, a13, a14, a15)) (r := s) (by omega) hi (nm_r (nI_1 i) (hw _ (qw_step hc (by omega) hi rfl))))
theorem qw_rest93 {post : Int32 → St1 → Prop} {R : Nat → Nat → qf_F} {a1 a2 a3 a4 a5 a6 a7 a8 a9 a10 a11 a12 a13 a14 a15 : Nat → Int32} {s n m : Nat} (hs : s < 5) (hn : n < 32) (hm : m ≤ n) (h : qw_ok R (a1, a2, a3, a4, a5, a6, a7, a8, a9, a10, a11, a12, a13, a14, a15))
    (H : ∀ u' R', qw_ok R' u' → (∀ j, j < 5 → j ≠ s → R' j = R j) → (∀ i, i < 32 → R' s i = R s i - qp_mul (qw_turn (fun j => if j < n - m + 1 then R 5 j else 0) (n - m)) (R 9) i) → post 1 u') : ∃ f, wX_rest_93 post (nI s) (nI n) (nI m) f (nI (n - m + 1)) a1 a2 a3 a4 a5 a6 a7 a8 a9 a10 a11 a12 a13 a14 a15 := by
  have h1 : qw_rows R a1 := h.1
  have ht : qw_tab a2 a3 a4 := h.2
  refine pk_loop (fun f i c => wX_rest_93 post (nI s) (nI n) (nI m) f (nI i) c a2 a3 a4 a5 a6 a7 a8 a9 a10 a11 a12 a13 a14 a15) (fun i c => n - m + 1 ≤ i ∧ qw_rows (qw_part R 5 (fun j => if j < n - m + 1 then R 5 j else 0) i) c) 32 (n - m + 1) a1 (by omega) ⟨by omega, qw_cong h1 (fun t _ j hj => ?_)⟩ (fun f c hc => ?_) (fun f i c hi hc hw => ?_)
  · by_cases e : t = 5 ∧ j < n - m + 1
    · rw [e.1, qw_partP e.2, if_pos e.2]
    · rw [qw_partN e]
  · have hc' := qw_part32 hc.2
    refine pk_le 32 32 (fun _ => ?_) (fun z => absurd z (by omega))
    rw [pk_sub hm]
    refine qw_turnRow (u := (c, a2, a3, a4, a5, a6, a7, a8, a9, a10, a11, a12, a13, a14, a15)) (r := 5) (t := 6) (by omega) (by omega) (by omega) (by omega) hc' (fun c2 hc2 => ?_)
    refine qw_mulRows (u := (c2, a2, a3, a4, a5, a6, a7, a8, a9, a10, a11, a12, a13, a14, a15)) (e := 2) (a := 6) (b := 9) (by omega) (by omega) (by omega) (by omega) (by omega) ⟨hc2, ht⟩ (fun u' hu' => ?_)
    obtain ⟨b1, b2, b3, b4, b5, b6, b7, b8, b9, b10, b11, b12, b13, b14, b15⟩ := u'
    have t' : qw_tab b2 b3 b4 := hu'.2
    refine qw_rest137 hs hu'.1 (fun b hb => H (b, b2, b3, b4, b5, b6, b7, b8, b9, b10, b11, b12, b13, b14, b15) _ ⟨hb, t'⟩ (fun j hj hjs => ?_) (fun i hi => ?_))
    · rw [qw_setN hjs, qw_setN (by omega), qw_setN (by omega), qw_setN (by omega)]
    · rw [qw_setP, qw_setP, qw_setN (by omega), qw_setN (by omega), qw_setN (by omega), qw_setP, qw_setP, qw_setN (by omega), qw_setN (by omega)]
  · refine pk_le 32 i (fun z => absurd z (by omega)) (fun _ => qw_write (u := (c, a2, a3, a4, a5, a6, a7, a8, a9, a10, a11, a12, a13, a14, a15)) (r := 5) (by omega) hi (nm_r (nI_1 i) (hw _ ⟨by omega, qw_step hc.2 (by omega) hi ?_⟩)))
    show (0 : Int32) = qf_i (if i < n - m + 1 then R 5 i else 0)
    rw [if_neg (by omega)]
    rfl
theorem qw_dg1 {D : Nat} (h : 0 < D) : nI D + (-1) = nI (D - 1) := by
  obtain ⟨d, rfl⟩ : ∃ d, D = d + 1 := ⟨D - 1, by omega⟩
  rw [pk_m1, Nat.add_sub_cancel]
theorem qw_rest {post : Int32 → St1 → Prop} {R : Nat → Nat → qf_F} {u : St1} {s t : Nat} (hs : s < 5) (ht : t < 5) (h : qw_ok R u) (H0 : qw_dg (R t) 32 = 0 → post 0 u)
    (H1 : 0 < qw_dg (R t) 32 → ∀ u' R', qw_ok R' u' → (∀ j, j < 5 → j ≠ s → R' j = R j) → (∀ i, qw_dg (R t) 32 - 1 ≤ i → i < 32 → R' s i = 0) → post 1 u') : wpX_rest post u (nI s) (nI t) := by
  obtain ⟨a1, a2, a3, a4, a5, a6, a7, a8, a9, a10, a11, a12, a13, a14, a15⟩ := u
  have htab : qw_tab a2 a3 a4 := h.2
  obtain ⟨g1, g2, g3⟩ := qw_dgs (R t) 32
  obtain ⟨f1, f2, f3⟩ := qw_dgs (R s) 32
  unfold wpX_rest
  refine qw_is hs ?_
  refine br_f qw_10 ?_
  refine qw_is ht ?_
  refine br_f qw_10 ?_
  refine qw_degreeOf (u := (a1, a2, a3, a4, a5, a6, a7, a8, a9, a10, a11, a12, a13, a14, a15)) (r := t) (by omega) h.1 ?_
  rcases Nat.eq_zero_or_pos (qw_dg (R t) 32) with z | z
  · rw [z]
    exact br_f (by decide) (H0 z)
  rw [qw_dg1 z]
  refine br_t (nI_pos' (by omega)) ?_
  refine qw_degreeOf (u := (a1, a2, a3, a4, a5, a6, a7, a8, a9, a10, a11, a12, a13, a14, a15)) (r := s) (by omega) h.1 ?_
  refine qw_degreeOf (u := (a1, a2, a3, a4, a5, a6, a7, a8, a9, a10, a11, a12, a13, a14, a15)) (r := t) (by omega) h.1 ?_
  rw [qw_dg1 z]
  have H1' := H1 z
  rcases Nat.eq_zero_or_pos (qw_dg (R s) 32) with y | y
  · rw [y]
    refine br_f ?_ (H1' _ R h (fun _ _ _ => rfl) (fun i _ hi => f2 i (by omega) hi))
    rw [nI_0]
    have e : (0 : Int32) + (-1) < nI (qw_dg (R t) 32 - 1) := by
      rw [Int32.lt_iff_toInt_lt, nI_toInt (by omega)]
      have : ((0 : Int32) + (-1)).toInt = -1 := by decide
      omega
    exact Int32.not_le.mpr e
  rw [qw_dg1 y]
  refine pk_le (qw_dg (R t) 32 - 1) (qw_dg (R s) 32 - 1) (fun hle => ?_) (fun hlt => H1' _ R h (fun _ _ _ => rfl) (fun i hi1 hi2 => f2 i (by omega) hi2))
  have gm := g3 z
  have gz : ∀ j, qw_dg (R t) 32 - 1 < j → j < 32 → R t j = 0 := fun j a b => g2 j (by omega) b
  have fz : ∀ j, qw_dg (R s) 32 - 1 < j → j < 32 → R s j = 0 := fun j a b => f2 j (by omega) b
  have hn32 : qw_dg (R s) 32 - 1 < 32 := by omega
  generalize qw_dg (R t) 32 - 1 = m at *
  generalize qw_dg (R s) 32 - 1 = n at *
  refine qw_copyRow (u := (a1, a2, a3, a4, a5, a6, a7, a8, a9, a10, a11, a12, a13, a14, a15)) (r := t) (t := 9) (by omega) (by omega) h.1 (fun c1 h1 => ?_)
  refine qw_turnRow (u := (c1, a2, a3, a4, a5, a6, a7, a8, a9, a10, a11, a12, a13, a14, a15)) (r := 9) (t := 6) (by omega) (by omega) (by omega) (by omega) h1 (fun c2 h2 => ?_)
  have e6 : qw_set (qw_set R 9 (R t)) 6 (qw_turn (qw_set R 9 (R t) 9) m) 6 = qw_turn (R t) m := by rw [qw_setP, qw_setP]
  have e9 : qw_set (qw_set R 9 (R t)) 6 (qw_turn (qw_set R 9 (R t) 9) m) 9 = R t := by rw [qw_setN (by omega), qw_setP]
  have e5 : ∀ j, j < 5 → qw_set (qw_set R 9 (R t)) 6 (qw_turn (qw_set R 9 (R t) 9) m) j = R j := by
    intro j hj
    rw [qw_setN (by omega), qw_setN (by omega)]
  generalize qw_set (qw_set R 9 (R t)) 6 (qw_turn (qw_set R 9 (R t) 9) m) = R2 at h2 e6 e9 e5
  refine qw_invertRow (u := (c2, a2, a3, a4, a5, a6, a7, a8, a9, a10, a11, a12, a13, a14, a15)) (R := R2) (r := 6) (by omega) (by decide) ?_ ⟨h2, htab⟩ (fun u3 R3 k1 k2 k3 => ?_)
  · rw [e6]
    show (if 0 ≤ m then R t (m - 0) else 0) ≠ 0
    rw [if_pos (by omega), Nat.sub_zero]
    exact gm
  obtain ⟨b1, b2, b3, b4, b5, b6, b7, b8, b9, b10, b11, b12, b13, b14, b15⟩ := u3
  have tb : qw_tab b2 b3 b4 := k1.2
  have tn : ∀ j, j < 5 → ∀ l : List Nat, (∀ x, x ∈ l → 5 ≤ x) → j ∉ l := fun j hj l hl z => absurd (hl j z) (by omega)
  have e35 : ∀ j, j < 5 → R3 j = R j := fun j hj => by rw [k2 j (tn j hj _ (by decide)), e5 j hj]
  have e39 : R3 9 = R t := by rw [k2 9 (by decide), e9]
  refine qw_turnRow (u := (b1, b2, b3, b4, b5, b6, b7, b8, b9, b10, b11, b12, b13, b14, b15)) (r := s) (t := 10) (by omega) (by omega) (by omega) hn32 k1.1 (fun c4 h4 => ?_)
  refine qw_mulRows (u := (c4, b2, b3, b4, b5, b6, b7, b8, b9, b10, b11, b12, b13, b14, b15)) (e := 1) (a := 10) (b := 7) (by omega) (by omega) (by omega) (by omega) (by omega) ⟨h4, tb⟩ (fun u5 h5 => ?_)
  obtain ⟨c1, c2, c3, c4, c5, c6, c7, c8, c9, c10, c11, c12, c13, c14, c15⟩ := u5
  rw [qw_setP, qw_setN (show 7 ≠ 10 by omega), e35 s hs] at h5
  have ex : nI n - nI m + 1 = nI (n - m + 1) := by
    rw [pk_sub hle, nI_1]
  refine nm_r ex (qw_rest93 hs hn32 hle h5 (fun u' R' q1 q2 q3 => H1' u' R' q1 (fun j hj hjs => ?_) ?_))
  · rw [q2 j hj hjs, qw_setN (by omega), qw_setN (by omega), e35 j hj]
  · rw [e6] at k3
    refine qe_rest (f := R s) (g := R t) (one := qw_turn (R t) m) (two := R3 7) (five := qw_turn (R s) n) (o := fun j => if j < n - m + 1 then qp_mul (qw_turn (R s) n) (R3 7) j else 0) (q := qw_turn (fun j => if j < n - m + 1 then qp_mul (qw_turn (R s) n) (R3 7) j else 0) (n - m)) hle hn32 fz gz (fun j _ => rfl) k3 (fun j _ => rfl) (fun j hj => if_pos (by omega)) (fun j _ => rfl) (qp_e_refl 32 _) (fun j hj => ?_)
    rw [q3 j hj, qw_setN (show s ≠ 5 by omega), qw_setN (show s ≠ 10 by omega), e35 s hs, qw_setP, qw_setN (show 9 ≠ 5 by omega), qw_setN (show 9 ≠ 10 by omega), e39]
theorem qw_crossAny {post : Int32 → St1 → Prop} {R : Nat → Nat → qf_F} {u : St1} {p q : Int32} (h : qw_ok R u) (H : ∀ r u' R', qw_ok R' u' → post r u') : wpX_cross post u p q := by
  rcases pk_ix p (n := 5) (by omega) with z | z | ⟨s, hs, rfl⟩
  · obtain ⟨a1, a2, a3, a4, a5, a6, a7, a8, a9, a10, a11, a12, a13, a14, a15⟩ := u
    unfold wpX_cross
    exact qw_isN (Or.inl z) (br_t rfl (H 0 _ R h))
  · obtain ⟨a1, a2, a3, a4, a5, a6, a7, a8, a9, a10, a11, a12, a13, a14, a15⟩ := u
    unfold wpX_cross
    exact qw_isN (Or.inr z) (br_t rfl (H 0 _ R h))
  rcases pk_ix q (n := 5) (by omega) with z | z | ⟨t, ht, rfl⟩
  · obtain ⟨a1, a2, a3, a4, a5, a6, a7, a8, a9, a10, a11, a12, a13, a14, a15⟩ := u
    unfold wpX_cross
    refine qw_is hs ?_
    refine br_f qw_10 ?_
    exact qw_isN (Or.inl z) (br_t rfl (H 0 _ R h))
  · obtain ⟨a1, a2, a3, a4, a5, a6, a7, a8, a9, a10, a11, a12, a13, a14, a15⟩ := u
    unfold wpX_cross
    refine qw_is hs ?_
    refine br_f qw_10 ?_
    exact qw_isN (Or.inr z) (br_t rfl (H 0 _ R h))
  exact qw_cross hs ht h (fun u' R' k _ _ => H 1 u' R' k)
theorem qw_restAny {post : Int32 → St1 → Prop} {R : Nat → Nat → qf_F} {u : St1} {p q : Int32} (h : qw_ok R u) (H : ∀ r u' R', qw_ok R' u' → post r u') : wpX_rest post u p q := by
  rcases pk_ix p (n := 5) (by omega) with z | z | ⟨s, hs, rfl⟩
  · obtain ⟨a1, a2, a3, a4, a5, a6, a7, a8, a9, a10, a11, a12, a13, a14, a15⟩ := u
    unfold wpX_rest
    exact qw_isN (Or.inl z) (br_t rfl (H 0 _ R h))
  · obtain ⟨a1, a2, a3, a4, a5, a6, a7, a8, a9, a10, a11, a12, a13, a14, a15⟩ := u
    unfold wpX_rest
    exact qw_isN (Or.inr z) (br_t rfl (H 0 _ R h))
  rcases pk_ix q (n := 5) (by omega) with z | z | ⟨t, ht, rfl⟩
  · obtain ⟨a1, a2, a3, a4, a5, a6, a7, a8, a9, a10, a11, a12, a13, a14, a15⟩ := u
    unfold wpX_rest
    refine qw_is hs ?_
    refine br_f qw_10 ?_
    exact qw_isN (Or.inl z) (br_t rfl (H 0 _ R h))
  · obtain ⟨a1, a2, a3, a4, a5, a6, a7, a8, a9, a10, a11, a12, a13, a14, a15⟩ := u
    unfold wpX_rest
    refine qw_is hs ?_
    refine br_f qw_10 ?_
    exact qw_isN (Or.inr z) (br_t rfl (H 0 _ R h))
  exact qw_rest hs ht h (fun _ => H 0 u R h) (fun _ s' R' k _ _ => H 1 s' R' k)
theorem qw_shiftAny {post : Int32 → St1 → Prop} {R : Nat → Nat → qf_F} {u : St1} {p v : Int32} (h : qw_ok R u) (H : ∀ r u' R', qw_ok R' u' → post r u') : wpX_shift post u p v := by
  rcases pk_ix p (n := 5) (by omega) with z | z | ⟨s, hs, rfl⟩
  · obtain ⟨a1, a2, a3, a4, a5, a6, a7, a8, a9, a10, a11, a12, a13, a14, a15⟩ := u
    unfold wpX_shift
    exact qw_isN (Or.inl z) (br_t rfl (H 0 _ R h))
  · obtain ⟨a1, a2, a3, a4, a5, a6, a7, a8, a9, a10, a11, a12, a13, a14, a15⟩ := u
    unfold wpX_shift
    exact qw_isN (Or.inr z) (br_t rfl (H 0 _ R h))
  exact qw_shift hs h (fun u' R' k _ _ => H 1 u' R' k)
end
section
/-! the tables -/
theorem qf_powerN {post : Int32 → Prop} {n e : Nat} (hn : n < 12289) (he : e < 2 ^ 31) (H : post (qf_i (qs_pw (qs_nat n) e))) : wpX_power post () (nI n) (nI e) := by
  rw [qf_nat hn]
  exact qf_power he H
theorem ql_180 {post : St1 → Prop} {mc ms kc ks : Nat} {a1 a2 a3 a4 a5 a6 a7 a8 a9 a10 a11 a12 a13 a14 a15 : Nat → Int32} (h2 : ∀ i, 0 < i → i < 64 → a2 i = qf_i (qf_inv i)) (h3 : a3 0 = qf_i 1) (h4 : a4 0 = qf_i 1) (H : ∀ c d, qw_tab a2 c d → post (a1, a2, c, d, a5, a6, a7, a8, a9, a10, a11, a12, a13, a14, a15)) : ∃ n, wX_init_180 post mc ms kc ks n 1 a1 a2 a3 a4 a5 a6 a7 a8 a9 a10 a11 a12 a13 a14 a15 := by
  refine pk_loop (fun n i (q : (Nat → Int32) × (Nat → Int32)) => wX_init_180 post mc ms kc ks n (nI i) a1 a2 q.1 q.2 a5 a6 a7 a8 a9 a10 a11 a12 a13 a14 a15) (fun i q => 0 < i ∧ (∀ j, j < i → q.1 j = qf_i (qf_fac j)) ∧ (∀ j, j < i → q.2 j = qf_i (qf_ifac j))) 32 1 (a3, a4) (by omega) ⟨by omega, fun j hj => ?_, fun j hj => ?_⟩ (fun n q hI => ?_) (fun n i q hi hI hw => ?_)
  · have e : j = 0 := by omega
    rw [e]
    exact h3
  · have e : j = 0 := by omega
    rw [e]
    exact h4
  · exact pk_le 32 32 (fun _ => H q.1 q.2 ⟨h2, hI.2.1, hI.2.2⟩) (fun z => absurd z (by omega))
  · obtain ⟨q1, q2⟩ := q
    obtain ⟨hi0, k1, k2⟩ := hI
    obtain ⟨d, rfl⟩ : ∃ d, i = d + 1 := ⟨i - 1, by omega⟩
    have k1' : ∀ j, j < d + 1 → q1 j = qf_i (qf_fac j) := k1
    have k2' : ∀ j, j < d + 1 → q2 j = qf_i (qf_ifac j) := k2
    have e1 : nI (d + 1) - 1 = nI d := nI_pred d
    have en : nI (d + 1) = qf_i (qs_nat (d + 1)) := qf_nat (by omega)
    have c1 : (nI (d + 1)).toNatClampNeg = d + 1 := nI_clamp (by omega)
    have c0 : (nI (d + 1) - 1).toNatClampNeg = d := pk_cl d e1
    have f1 : q1 (nI (d + 1) - 1).toNatClampNeg * nI (d + 1) - q1 (nI (d + 1) - 1).toNatClampNeg * nI (d + 1) / 12289 * 12289 = qf_i (qf_fac (d + 1)) := by
      rw [c0, k1' d (by omega), en, qf_mul]
      rfl
    have f2 : q2 (nI (d + 1) - 1).toNatClampNeg * a2 (nI (d + 1)).toNatClampNeg - q2 (nI (d + 1) - 1).toNatClampNeg * a2 (nI (d + 1)).toNatClampNeg / 12289 * 12289 = qf_i (qf_ifac (d + 1)) := by
      rw [c0, c1, k2' d (by omega), h2 (d + 1) (by omega) (by omega), qf_mul]
      rfl
    refine pk_le 32 (d + 1) (fun z => absurd z (by omega)) (fun _ => ⟨pk_in d 32 (by omega) e1, by decide, pk_in (d + 1) 32 hi, nm_r (e' := upd q1 (d + 1) (qf_i (qf_fac (d + 1)))) ?_ ⟨pk_in d 32 (by omega) e1, pk_in (d + 1) 64 (by omega), by decide, pk_in (d + 1) 32 hi, nm_r (e' := upd q2 (d + 1) (qf_i (qf_ifac (d + 1)))) ?_ (nm_r (nI_1 (d + 1)) (hw (_, _) ⟨by omega, fun j hj => ?_, fun j hj => ?_⟩))⟩⟩)
    · show upd q1 (nI (d + 1)).toNatClampNeg (q1 (nI (d + 1) - 1).toNatClampNeg * nI (d + 1) - q1 (nI (d + 1) - 1).toNatClampNeg * nI (d + 1) / 12289 * 12289) = _
      rw [f1, c1]
    · show upd q2 (nI (d + 1)).toNatClampNeg (q2 (nI (d + 1) - 1).toNatClampNeg * a2 (nI (d + 1)).toNatClampNeg - q2 (nI (d + 1) - 1).toNatClampNeg * a2 (nI (d + 1)).toNatClampNeg / 12289 * 12289) = _
      rw [f2, c1]
    · show upd q1 (d + 1) (qf_i (qf_fac (d + 1))) j = _
      by_cases z : j = d + 1
      · rw [z, pk_us]
      · rw [pk_un z]
        exact k1' j (by omega)
    · show upd q2 (d + 1) (qf_i (qf_ifac (d + 1))) j = _
      by_cases z : j = d + 1
      · rw [z, pk_us]
      · rw [pk_un z]
        exact k2' j (by omega)
theorem ql_139 {post : St1 → Prop} {mc ms kc ks : Nat} {a1 a2 a3 a4 a5 a6 a7 a8 a9 a10 a11 a12 a13 a14 a15 : Nat → Int32} (h2 : a2 1 = qf_i 1) (H : ∀ b c d, qw_tab b c d → post (a1, b, c, d, a5, a6, a7, a8, a9, a10, a11, a12, a13, a14, a15)) : ∃ n, wX_init_139 post mc ms kc ks n 2 a1 a2 a3 a4 a5 a6 a7 a8 a9 a10 a11 a12 a13 a14 a15 := by
  refine pk_loop (fun n i b => wX_init_139 post mc ms kc ks n (nI i) a1 b a3 a4 a5 a6 a7 a8 a9 a10 a11 a12 a13 a14 a15) (fun i b => 2 ≤ i ∧ ∀ j, 0 < j → j < i → b j = qf_i (qf_inv j)) 64 2 a2 (by omega) ⟨by omega, fun j h0 hj => ?_⟩ (fun n b hI => ?_) (fun n i b hi hI hw => ?_)
  · have e : j = 1 := by omega
    rw [e, qf_inv1]
    exact h2
  · refine pk_le 64 64 (fun _ => nm_e (nm_e (ql_180 hI.2 ?_ ?_ (fun c d hc => H b c d hc)))) (fun z => absurd z (by omega))
    · rw [pk_us]
      rfl
    · rw [pk_us]
      rfl
  · refine pk_le 64 i (fun z => absurd z (by omega)) (fun _ => qf_powerN (e := 12287) (by omega) (by omega) ⟨pk_in i 64 hi, nm_r (by rw [pk_cl i]) (nm_r (nI_1 i) (hw _ ⟨by omega, fun j h0 hj => ?_⟩))⟩)
    by_cases z : j = i
    · rw [z, pk_us]
      rfl
    · rw [pk_un z]
      exact hI.2 j h0 (by omega)
theorem ql_init {post : St1 → Prop} (H : ∀ u R, qw_ok R u → post u) : wpX_init post 15 2620 () := by
  have key : ∀ b, b = upd (fun _ => 0) 1 1 → ∃ n, wX_init_139 post 15 2620 15 2620 n 2 (fun _ => 0) b (fun _ => 0) (fun _ => 0) (fun _ => 0) (fun _ => 0) (fun _ => 0) (fun _ => 0) (fun _ => 0) (fun _ => 0) (fun _ => 0) (fun _ => 0) (fun _ => 0) (fun _ => 0) (fun _ => 0) := by
    intro b hb
    refine ql_139 ?_ (fun b' c d ht => H _ (fun _ _ => 0) ⟨fun r i hr hi => rfl, ht⟩)
    rw [hb, pk_us]
    rfl
  unfold wpX_init
  refine ⟨by omega, by omega, by omega, by omega, by omega, by omega, by omega, by omega, by omega, by omega, by omega, by omega, by omega, by omega, by omega, by omega, by omega, by omega, by omega, by omega, by omega, by omega, by omega, by omega, by omega, by omega, by omega, by omega, by omega, by omega, key⟩
/-! a turn -/
theorem ql_89 {post : St1 → Prop} {R : Nat → Nat → qf_F} {a1 a2 a3 a4 a5 a6 a7 a8 a9 a10 a11 a12 a13 a14 a15 : Nat → Int32} {x2 x3 x4 x5 x6 x7 z0 : Int32} (h : qw_ok R (a1, a2, a3, a4, a5, a6, a7, a8, a9, a10, a11, a12, a13, a14, a15)) (H : ∀ u R', qw_ok R' u → post u) : wL_turn_89 post x2 x3 x4 x5 x6 x7 z0 a1 a2 a3 a4 a5 a6 a7 a8 a9 a10 a11 a12 a13 a14 a15 := by
  unfold wL_turn_89
  refine br_c (fun _ => ?_) (fun _ => qw_setAny h (fun r u' R' k => H u' R' k))
  refine br_c (fun _ => ?_) (fun _ => qw_fillAny h (fun r u' R' k => H u' R' k))
  refine br_c (fun _ => ?_) (fun _ => qw_copyAny h (fun r u' R' k => H u' R' k))
  refine br_c (fun _ => ?_) (fun _ => qw_addAny h (fun r u' R' k => H u' R' k))
  refine br_c (fun _ => ?_) (fun _ => br_c (fun _ => qw_multiplyAny h (fun r u' R' k => H u' R' k)) (fun _ => ⟨by decide, qw_multiplyAny h (fun r u' R' k => H u' R' k)⟩))
  refine br_c (fun _ => qw_crossAny h (fun r u' R' k => H u' R' k)) (fun _ => ?_)
  refine br_c (fun _ => ?_) (fun _ => qw_invertAny h (fun r u' R' k => H u' R' k))
  refine br_c (fun _ => ?_) (fun _ => qw_restAny h (fun r u' R' k => H u' R' k))
  refine br_c (fun _ => ?_) (fun _ => qw_setAny h (fun r u' R' k => ?_))
  refine br_c (fun _ => ?_) (fun _ => qw_setAny h (fun r u' R' k => ?_))
  refine br_c (fun _ => ?_) (fun _ => qw_rootAny h (fun r u' R' k => H u' R' k))
  exact br_c (fun _ => qw_fillAny h (fun r u' R' k => H u' R' k)) (fun _ => qw_shiftAny h (fun r u' R' k => H u' R' k))
  · obtain ⟨b1, b2, b3, b4, b5, b6, b7, b8, b9, b10, b11, b12, b13, b14, b15⟩ := u'
    exact qw_expAny k (fun r u' R' k => H u' R' k)
  · obtain ⟨b1, b2, b3, b4, b5, b6, b7, b8, b9, b10, b11, b12, b13, b14, b15⟩ := u'
    exact qw_logAny k (fun r u' R' k => H u' R' k)
theorem ql_turn {post : St1 → Prop} {R : Nat → Nat → qf_F} {u : St1} {p1 p2 p3 : Int32} (h : qw_ok R u) (H : ∀ u R', qw_ok R' u → post u) : wpL_turn post u p1 p2 p3 := by
  obtain ⟨a1, a2, a3, a4, a5, a6, a7, a8, a9, a10, a11, a12, a13, a14, a15⟩ := u
  have k54 : ∀ x1 x2 x3 x4 x5 x6 z0, wL_turn_54 post x1 x2 x3 x4 x5 x6 z0 a1 a2 a3 a4 a5 a6 a7 a8 a9 a10 a11 a12 a13 a14 a15 := fun x1 x2 x3 x4 x5 x6 z0 => br_c (fun _ => ql_89 h H) (fun _ => br_c (fun _ => ql_89 h H) (fun _ => ql_89 h H))
  have k35 : ∀ x1 x2 x3 x4 x5 z0, wL_turn_35 post x1 x2 x3 x4 x5 z0 a1 a2 a3 a4 a5 a6 a7 a8 a9 a10 a11 a12 a13 a14 a15 := fun x1 x2 x3 x4 x5 z0 => br_c (fun _ => k54 _ _ _ _ _ _ _) (fun _ => ⟨by decide, k54 _ _ _ _ _ _ _⟩)
  have k18 : ∀ x1 x2 x3 x4 z0, wL_turn_18 post x1 x2 x3 x4 z0 a1 a2 a3 a4 a5 a6 a7 a8 a9 a10 a11 a12 a13 a14 a15 := fun x1 x2 x3 x4 z0 => br_c (fun _ => k35 _ _ _ _ _ _) (fun _ => ⟨by decide, k35 _ _ _ _ _ _⟩)
  exact nm_e (br_c (fun _ => k18 _ _ _ _ _) (fun _ => k18 _ _ _ _ _))
end
section
/-! what the law checks -/
def ql_v (f : Nat → qf_F) : Nat → Int64
  | 0 => 0
  | i + 1 => ql_v f i * 12289 + (qf_i (f i)).toInt64
theorem ql_vc {f g : Nat → qf_F} {n : Nat} (h : qp_e n f g) : ql_v f n = ql_v g n := by
  induction n with
  | zero => rfl
  | succ n ih =>
    show ql_v f n * 12289 + (qf_i (f n)).toInt64 = ql_v g n * 12289 + (qf_i (g n)).toInt64
    rw [ih (fun i hi => h i (by omega)), h n (by omega)]
theorem ql_view {post : Int64 → Prop} {R : Nat → Nat → qf_F} {u : St1} {s : Nat} (hs : s < 5) (h : qw_ok R u) (H : post (ql_v (R s) 32)) : wpL_view post u (nI s) := by
  obtain ⟨a1, a2, a3, a4, a5, a6, a7, a8, a9, a10, a11, a12, a13, a14, a15⟩ := u
  exact pk_loop (fun n i v => wL_view_5 post (nI s) a1 a2 a3 a4 a5 a6 a7 a8 a9 a10 a11 a12 a13 a14 a15 n v (nI i)) (fun i v => v = ql_v (R s) i) 32 0 (0 : Int64) (by omega) rfl
    (fun n v hv => pk_le 32 32 (fun _ => by rw [hv]; exact H) (fun z => absurd z (by omega)))
    (fun n i v hi hv hw => pk_le 32 i (fun z => absurd z (by omega)) (fun _ => qw_coefficient (u := (a1, a2, a3, a4, a5, a6, a7, a8, a9, a10, a11, a12, a13, a14, a15)) hs hi h (nm_r (by rw [hv]; rfl) (nm_r (nI_1 i) (hw _ rfl)))))
theorem ql_range (x : qf_F) : (¬ qf_i x < 0) ∧ ¬ (12288 : Int32) < qf_i x := by
  have a := qf_lt x
  exact ⟨nI_pos (by omega), nI_nlt (b := x.val) (a := 12288) (by omega) (by omega)⟩
theorem ql_94 {post : Int32 → St1 → Prop} {R : Nat → Nat → qf_F} {u : St1} {s : Nat} (hs : s < 5) (h : qw_ok R u) (H : ∀ u' R', qw_ok R' u' → post 1 u') : ∃ n, wL_limits_94 post (nI s) n 1 0 u.1 u.2.1 u.2.2.1 u.2.2.2.1 u.2.2.2.2.1 u.2.2.2.2.2.1 u.2.2.2.2.2.2.1 u.2.2.2.2.2.2.2.1 u.2.2.2.2.2.2.2.2.1 u.2.2.2.2.2.2.2.2.2.1 u.2.2.2.2.2.2.2.2.2.2.1 u.2.2.2.2.2.2.2.2.2.2.2.1 u.2.2.2.2.2.2.2.2.2.2.2.2.1 u.2.2.2.2.2.2.2.2.2.2.2.2.2.1 u.2.2.2.2.2.2.2.2.2.2.2.2.2.2 := by
  refine pk_loop (fun n c (q : St1) => wL_limits_94 post (nI s) n 1 (nI c) q.1 q.2.1 q.2.2.1 q.2.2.2.1 q.2.2.2.2.1 q.2.2.2.2.2.1 q.2.2.2.2.2.2.1 q.2.2.2.2.2.2.2.1 q.2.2.2.2.2.2.2.2.1 q.2.2.2.2.2.2.2.2.2.1 q.2.2.2.2.2.2.2.2.2.2.1 q.2.2.2.2.2.2.2.2.2.2.2.1 q.2.2.2.2.2.2.2.2.2.2.2.2.1 q.2.2.2.2.2.2.2.2.2.2.2.2.2.1 q.2.2.2.2.2.2.2.2.2.2.2.2.2.2) (fun _ q => ∃ R', qw_ok R' q) 25 0 u (by omega) ⟨R, h⟩ (fun n q hI => ?_) (fun n c q hc hI hw => ?_)
  · obtain ⟨R', k⟩ := hI
    exact pk_le 25 25 (fun _ => ⟨rfl, H q R' k⟩) (fun z => absurd z (by omega))
  · obtain ⟨R', k⟩ := hI
    obtain ⟨b1, b2, b3, b4, b5, b6, b7, b8, b9, b10, b11, b12, b13, b14, b15⟩ := q
    have e1 : nI c / 5 = nI (c / 5) := pk_div (d := 5) (by omega) (by omega) (by omega)
    have e2 : nI c - nI c / 5 * 5 = nI (c % 5) := pk_rem (d := 5) (by omega) (by omega) (by omega)
    refine pk_le 25 c (fun z => absurd z (by omega)) (fun _ => br_f qw_10 ⟨by decide, by decide, by decide, ?_⟩)
    rw [e2, e1]
    exact qw_agree (u := (b1, b2, b3, b4, b5, b6, b7, b8, b9, b10, b11, b12, b13, b14, b15)) (by omega) (by omega) hs (by omega) k (fun u' R2 k2 _ => br_f qw_10 (nm_r (nI_1 c) (hw u' ⟨R2, k2⟩)))
theorem ql_limits {post : Int32 → St1 → Prop} {R : Nat → Nat → qf_F} {u : St1} {s : Nat} {x : Int32} (hs : s < 5) (h : qw_ok R u) (H : ∀ u' R', qw_ok R' u' → post 1 u') : wpL_limits post u (nI s) x := by
  obtain ⟨a1, a2, a3, a4, a5, a6, a7, a8, a9, a10, a11, a12, a13, a14, a15⟩ := u
  unfold wpL_limits
  refine qw_value (u := (a1, a2, a3, a4, a5, a6, a7, a8, a9, a10, a11, a12, a13, a14, a15)) hs h ?_
  refine br_f (ql_range _).1 ?_
  refine br_f (ql_range _).2 ?_
  refine qw_value (u := (a1, a2, a3, a4, a5, a6, a7, a8, a9, a10, a11, a12, a13, a14, a15)) hs h ?_
  refine qw_coefficient (u := (a1, a2, a3, a4, a5, a6, a7, a8, a9, a10, a11, a12, a13, a14, a15)) (i := 0) hs (by omega) h ?_
  have e0 : qf_z 0 = 0 := by decide
  rw [e0, qe_at0]
  refine br_t rfl ?_
  refine pk_loop (fun n i v => wL_limits_43 post (nI s) a1 a2 a3 a4 a5 a6 a7 a8 a9 a10 a11 a12 a13 a14 a15 n v (nI i)) (fun _ v => v = 1) 32 0 (1 : Int32) (by omega) rfl (fun n v hv => ?_) (fun n i v hi hv hw => ?_)
  · subst hv
    exact pk_le 32 32 (fun _ => ql_94 (u := (a1, a2, a3, a4, a5, a6, a7, a8, a9, a10, a11, a12, a13, a14, a15)) hs h H) (fun z => absurd z (by omega))
  · subst hv
    exact pk_le 32 i (fun z => absurd z (by omega)) (fun _ => br_f qw_10 (qw_coefficient (u := (a1, a2, a3, a4, a5, a6, a7, a8, a9, a10, a11, a12, a13, a14, a15)) hs hi h (br_f (ql_range _).1 (qw_coefficient (u := (a1, a2, a3, a4, a5, a6, a7, a8, a9, a10, a11, a12, a13, a14, a15)) hs hi h (br_f (ql_range _).2 (nm_r (nI_1 i) (hw 1 rfl)))))))
theorem ql_dgI {D : Nat} (h : D ≤ 32) : (nI D + (-1)).toInt = (D : Int) - 1 := by
  have e : (-1 : Int32).toInt = -1 := by decide
  have a : (nI D).toInt = (D : Int) := nI_toInt (by omega)
  rw [Jvm.Kit.i32_add (by rw [a, e]; omega) (by rw [a, e]; omega), a, e]
  omega
theorem ql_modM {post : Int32 → Prop} (x y : qf_F) (H : post (qf_i (x * y))) : wpL_mod post () ((qf_i x).toInt64 * (qf_i y).toInt64) := by
  refine qf_mod _ ?_
  have a := qf_b x y
  have e1 : (qf_i x).toInt64.toInt = (x.val : Int) := by rw [Jvm.Kit.i64_of_i32, qf_iI]
  have e2 : (qf_i y).toInt64.toInt = (y.val : Int) := by rw [Jvm.Kit.i64_of_i32, qf_iI]
  have e3 : (x.val : Int) * (y.val : Int) = ((x.val * y.val : Nat) : Int) := (Int.natCast_mul _ _).symm
  rw [Jvm.Kit.i64_mul (by rw [e1, e2, e3]; omega) (by rw [e1, e2, e3]; omega), e1, e2, qf_ofM]
  exact H
theorem ql_modA {post : Int32 → Prop} (x y : qf_F) (H : post (qf_i (x + y))) : wpL_mod post () ((qf_i x).toInt64 + (qf_i y).toInt64) := by
  refine qf_mod _ ?_
  rw [lg_i2l_add, qf_iI, qf_iI, qf_ofA]
  exact H
theorem ql_modI {post : Int32 → Prop} (v : Int32) (H : post (qf_i (qf_z v))) : wpL_mod post () v.toInt64 := by
  refine qf_mod _ ?_
  rw [Jvm.Kit.i64_of_i32]
  exact H
theorem ql_products {post : Int32 → St1 → Prop} {R : Nat → Nat → qf_F} {u : St1} {s t e : Nat} {x : Int32} (hs : s < 3) (ht : t < 3) (he : e < 5) (h : qw_ok R u) (H : ∀ u' R', qw_ok R' u' → post 1 u') : wpL_products post u (nI s) (nI t) (nI e) x := by
  obtain ⟨a1, a2, a3, a4, a5, a6, a7, a8, a9, a10, a11, a12, a13, a14, a15⟩ := u
  obtain ⟨f1, f2, _⟩ := qw_dgs (R s) 32
  obtain ⟨g1, g2, _⟩ := qw_dgs (R t) 32
  unfold wpL_products
  refine qw_degree (u := (a1, a2, a3, a4, a5, a6, a7, a8, a9, a10, a11, a12, a13, a14, a15)) (s := s) (by omega) h ?_
  refine qw_degree (u := (a1, a2, a3, a4, a5, a6, a7, a8, a9, a10, a11, a12, a13, a14, a15)) (s := t) (by omega) h ?_
  refine nm_e ?_
  refine qw_value (u := (a1, a2, a3, a4, a5, a6, a7, a8, a9, a10, a11, a12, a13, a14, a15)) (s := s) (by omega) h ?_
  refine qw_value (u := (a1, a2, a3, a4, a5, a6, a7, a8, a9, a10, a11, a12, a13, a14, a15)) (s := t) (by omega) h ?_
  refine qw_copy (u := (a1, a2, a3, a4, a5, a6, a7, a8, a9, a10, a11, a12, a13, a14, a15)) (s := 3) (t := s) (by omega) (by omega) h (fun u1 h1 => ?_)
  obtain ⟨b1, b2, b3, b4, b5, b6, b7, b8, b9, b10, b11, b12, b13, b14, b15⟩ := u1
  refine qw_copy (u := (b1, b2, b3, b4, b5, b6, b7, b8, b9, b10, b11, b12, b13, b14, b15)) (s := 4) (t := s) (by omega) (by omega) h1 (fun u2 h2 => ?_)
  obtain ⟨c1, c2, c3, c4, c5, c6, c7, c8, c9, c10, c11, c12, c13, c14, c15⟩ := u2
  have v3 : qw_set (qw_set R 3 (R s)) 4 (qw_set R 3 (R s) s) 3 = R s := by rw [qw_setN (by omega), qw_setP]
  have v4 : qw_set (qw_set R 3 (R s)) 4 (qw_set R 3 (R s) s) 4 = R s := by rw [qw_setP, qw_setN (by omega)]
  have vt : qw_set (qw_set R 3 (R s)) 4 (qw_set R 3 (R s) s) t = R t := by rw [qw_setN (by omega), qw_setN (by omega)]
  generalize qw_set (qw_set R 3 (R s)) 4 (qw_set R 3 (R s) s) = R2 at h2 v3 v4 vt
  refine qw_multiply (u := (c1, c2, c3, c4, c5, c6, c7, c8, c9, c10, c11, c12, c13, c14, c15)) (s := 3) (t := t) he (by omega) (by omega) h2 (fun u3 R3 h3 k1 k2 => ?_)
  obtain ⟨d1, d2, d3, d4, d5, d6, d7, d8, d9, d10, d11, d12, d13, d14, d15⟩ := u3
  refine qw_multiply (u := (d1, d2, d3, d4, d5, d6, d7, d8, d9, d10, d11, d12, d13, d14, d15)) (e := 0) (s := 4) (t := t) (by omega) (by omega) (by omega) h3 (fun u4 R4 h4 m1 m2 => ?_)
  obtain ⟨e1, e2, e3, e4, e5, e6, e7, e8, e9, e10, e11, e12, e13, e14, e15⟩ := u4
  have r3 : R4 3 = qp_mul (R s) (R t) := by rw [m1 3 (by omega) (by omega), k2, v3, vt]
  have r4 : R4 4 = qp_mul (R s) (R t) := by rw [m2, k1 4 (by omega) (by omega), k1 t (by omega) (by omega), v4, vt]
  refine br_f qw_10 ?_
  refine br_f qw_10 ?_
  refine br_f qw_10 ?_
  refine br_f qw_10 ?_
  refine ql_view (u := (e1, e2, e3, e4, e5, e6, e7, e8, e9, e10, e11, e12, e13, e14, e15)) (s := 3) (by omega) h4 ?_
  refine ql_view (u := (e1, e2, e3, e4, e5, e6, e7, e8, e9, e10, e11, e12, e13, e14, e15)) (s := 4) (by omega) h4 ?_
  rw [r3, r4]
  refine br_t rfl ?_
  refine br_c (fun _ => H (e1, e2, e3, e4, e5, e6, e7, e8, e9, e10, e11, e12, e13, e14, e15) R4 h4) (fun z => ?_)
  have z' : qw_dg (R s) 32 + qw_dg (R t) 32 ≤ 33 := by
    have q := Int32.not_lt.mp z
    rw [Int32.le_iff_toInt_le, Jvm.Kit.i32_add (by rw [ql_dgI f1, ql_dgI g1]; omega) (by rw [ql_dgI f1, ql_dgI g1]; omega), ql_dgI f1, ql_dgI g1] at q
    have e31 : (31 : Int32).toInt = 31 := by decide
    omega
  refine qw_value (u := (e1, e2, e3, e4, e5, e6, e7, e8, e9, e10, e11, e12, e13, e14, e15)) (s := 3) (by omega) h4 ?_
  refine ql_modM _ _ ?_
  rw [r3, qe_mul]
  · exact br_t rfl (H (e1, e2, e3, e4, e5, e6, e7, e8, e9, e10, e11, e12, e13, e14, e15) R4 h4)
  · intro i j hi hj hij
    by_cases y : qw_dg (R s) 32 ≤ i
    · rw [f2 i y hi]
      grobner
    · rw [g2 j (by omega) hj]
      grobner
/-! back and forth -/
theorem ql_178 {post : Int32 → St1 → Prop} {R : Nat → Nat → qf_F} {a1 a2 a3 a4 a5 a6 a7 a8 a9 a10 a11 a12 a13 a14 a15 : Nat → Int32} {s : Nat} {w : Int64} (hs : s < 5) (h : qw_ok R (a1, a2, a3, a4, a5, a6, a7, a8, a9, a10, a11, a12, a13, a14, a15)) (hw : ql_v (R s) 32 = w) (H : ∀ u' R', qw_ok R' u' → post 1 u') : wL_backs_178 post (nI s) w 1 1 1 1 1 a1 a2 a3 a4 a5 a6 a7 a8 a9 a10 a11 a12 a13 a14 a15 := by
  unfold wL_backs_178
  refine br_f qw_10 ?_
  refine br_f qw_10 ?_
  refine br_f qw_10 ?_
  refine br_f qw_10 ?_
  refine br_f qw_10 ?_
  refine ql_view (u := (a1, a2, a3, a4, a5, a6, a7, a8, a9, a10, a11, a12, a13, a14, a15)) hs h ?_
  exact br_t hw (H (a1, a2, a3, a4, a5, a6, a7, a8, a9, a10, a11, a12, a13, a14, a15) R h)
theorem ql_144 {post : Int32 → St1 → Prop} {R : Nat → Nat → qf_F} {a1 a2 a3 a4 a5 a6 a7 a8 a9 a10 a11 a12 a13 a14 a15 : Nat → Int32} {s e : Nat} {w : Int64} (hs : s < 3) (he : e < 5) (h : qw_ok R (a1, a2, a3, a4, a5, a6, a7, a8, a9, a10, a11, a12, a13, a14, a15)) (hw : ql_v (R s) 32 = w) (H : ∀ u' R', qw_ok R' u' → post 1 u') : wL_backs_144 post (nI s) (nI e) w 1 1 1 a1 a2 a3 a4 a5 a6 a7 a8 a9 a10 a11 a12 a13 a14 a15 := by
  unfold wL_backs_144
  refine qw_root (u := (a1, a2, a3, a4, a5, a6, a7, a8, a9, a10, a11, a12, a13, a14, a15)) (t := s) (by omega) h (fun z => ?_) (fun z u1 R1 h1 k1 k2 => ?_)
  · refine qw_copy (u := (a1, a2, a3, a4, a5, a6, a7, a8, a9, a10, a11, a12, a13, a14, a15)) (s := 4) (t := s) (by omega) (by omega) h (fun u2 h2 => ?_)
    obtain ⟨b1, b2, b3, b4, b5, b6, b7, b8, b9, b10, b11, b12, b13, b14, b15⟩ := u2
    refine br_t rfl (ql_178 (by omega) h2 ?_ H)
    rw [qw_setN (by omega)]
    exact hw
  · obtain ⟨b1, b2, b3, b4, b5, b6, b7, b8, b9, b10, b11, b12, b13, b14, b15⟩ := u1
    refine qw_copy (u := (b1, b2, b3, b4, b5, b6, b7, b8, b9, b10, b11, b12, b13, b14, b15)) (s := 4) (t := s) (by omega) (by omega) h1 (fun u2 h2 => ?_)
    obtain ⟨c1, c2, c3, c4, c5, c6, c7, c8, c9, c10, c11, c12, c13, c14, c15⟩ := u2
    refine br_f qw_10 ?_
    refine qw_multiply (u := (c1, c2, c3, c4, c5, c6, c7, c8, c9, c10, c11, c12, c13, c14, c15)) (s := s) (t := 4) he (by omega) (by omega) h2 (fun u3 R3 h3 m1 m2 => ?_)
    obtain ⟨d1, d2, d3, d4, d5, d6, d7, d8, d9, d10, d11, d12, d13, d14, d15⟩ := u3
    refine ql_178 (by omega) h3 ?_ H
    rw [m2, qw_setP, qw_setN (by omega), ← hw]
    exact ql_vc k2
theorem ql_120 {post : Int32 → St1 → Prop} {R : Nat → Nat → qf_F} {a1 a2 a3 a4 a5 a6 a7 a8 a9 a10 a11 a12 a13 a14 a15 : Nat → Int32} {s e : Nat} {w : Int64} {z : Int32} (hs : s < 3) (he : e < 5) (h : qw_ok R (a1, a2, a3, a4, a5, a6, a7, a8, a9, a10, a11, a12, a13, a14, a15)) (hw : ql_v (R s) 32 = w) (H : ∀ u' R', qw_ok R' u' → post 1 u') : wL_backs_120 post (nI s) (nI e) w 1 1 z z a1 a2 a3 a4 a5 a6 a7 a8 a9 a10 a11 a12 a13 a14 a15 := by
  unfold wL_backs_120
  refine br_t rfl ?_
  refine ql_view (u := (a1, a2, a3, a4, a5, a6, a7, a8, a9, a10, a11, a12, a13, a14, a15)) (by omega) h ?_
  exact br_t hw (ql_144 hs he h hw H)
theorem ql_93 {post : Int32 → St1 → Prop} {R : Nat → Nat → qf_F} {a1 a2 a3 a4 a5 a6 a7 a8 a9 a10 a11 a12 a13 a14 a15 : Nat → Int32} {s e : Nat} {w : Int64} (hs : s < 3) (he : e < 5) (h : qw_ok R (a1, a2, a3, a4, a5, a6, a7, a8, a9, a10, a11, a12, a13, a14, a15)) (hw : ql_v (R s) 32 = w) (H : ∀ u' R', qw_ok R' u' → post 1 u') : wL_backs_93 post (nI s) (nI e) w 1 1 a1 a2 a3 a4 a5 a6 a7 a8 a9 a10 a11 a12 a13 a14 a15 := by
  unfold wL_backs_93
  refine qw_log (u := (a1, a2, a3, a4, a5, a6, a7, a8, a9, a10, a11, a12, a13, a14, a15)) (t := s) (by omega) h (fun z => ?_) (fun z u1 R1 h1 k1 k2 => ?_)
  · exact br_t rfl (ql_120 hs he h hw H)
  · obtain ⟨b1, b2, b3, b4, b5, b6, b7, b8, b9, b10, b11, b12, b13, b14, b15⟩ := u1
    refine br_f qw_10 ?_
    refine qw_exp (u := (b1, b2, b3, b4, b5, b6, b7, b8, b9, b10, b11, b12, b13, b14, b15)) (t := s) (by omega) h1 (fun y => absurd k2.1 y) (fun y u2 R2 h2 m1 m2 => ?_)
    obtain ⟨c1, c2, c3, c4, c5, c6, c7, c8, c9, c10, c11, c12, c13, c14, c15⟩ := u2
    refine br_f qw_10 (ql_120 hs he h2 ?_ H)
    rw [← hw]
    exact ql_vc (qp_expUni qf_pnz m2 k2)
theorem ql_69 {post : Int32 → St1 → Prop} {R : Nat → Nat → qf_F} {a1 a2 a3 a4 a5 a6 a7 a8 a9 a10 a11 a12 a13 a14 a15 : Nat → Int32} {s e : Nat} {w : Int64} {z : Int32} (hs : s < 3) (he : e < 5) (h : qw_ok R (a1, a2, a3, a4, a5, a6, a7, a8, a9, a10, a11, a12, a13, a14, a15)) (hw : ql_v (R s) 32 = w) (H : ∀ u' R', qw_ok R' u' → post 1 u') : wL_backs_69 post (nI s) (nI e) w 1 z z a1 a2 a3 a4 a5 a6 a7 a8 a9 a10 a11 a12 a13 a14 a15 := by
  unfold wL_backs_69
  refine br_t rfl ?_
  refine ql_view (u := (a1, a2, a3, a4, a5, a6, a7, a8, a9, a10, a11, a12, a13, a14, a15)) (by omega) h ?_
  exact br_t hw (ql_93 hs he h hw H)
theorem ql_42 {post : Int32 → St1 → Prop} {R : Nat → Nat → qf_F} {a1 a2 a3 a4 a5 a6 a7 a8 a9 a10 a11 a12 a13 a14 a15 : Nat → Int32} {s e : Nat} {w : Int64} (hs : s < 3) (he : e < 5) (h : qw_ok R (a1, a2, a3, a4, a5, a6, a7, a8, a9, a10, a11, a12, a13, a14, a15)) (hw : ql_v (R s) 32 = w) (H : ∀ u' R', qw_ok R' u' → post 1 u') : wL_backs_42 post (nI s) (nI e) w 1 a1 a2 a3 a4 a5 a6 a7 a8 a9 a10 a11 a12 a13 a14 a15 := by
  unfold wL_backs_42
  refine qw_exp (u := (a1, a2, a3, a4, a5, a6, a7, a8, a9, a10, a11, a12, a13, a14, a15)) (t := s) (by omega) h (fun z => ?_) (fun z u1 R1 h1 k1 k2 => ?_)
  · exact br_t rfl (ql_69 hs he h hw H)
  · obtain ⟨b1, b2, b3, b4, b5, b6, b7, b8, b9, b10, b11, b12, b13, b14, b15⟩ := u1
    refine br_f qw_10 ?_
    refine qw_log (u := (b1, b2, b3, b4, b5, b6, b7, b8, b9, b10, b11, b12, b13, b14, b15)) (t := s) (by omega) h1 (fun y => absurd k2.2.1 y) (fun y u2 R2 h2 m1 m2 => ?_)
    obtain ⟨c1, c2, c3, c4, c5, c6, c7, c8, c9, c10, c11, c12, c13, c14, c15⟩ := u2
    refine br_f qw_10 (ql_69 hs he h2 ?_ H)
    rw [← hw]
    exact ql_vc (qp_logUni qf_pnz m2 k2)
theorem ql_backs {post : Int32 → St1 → Prop} {R : Nat → Nat → qf_F} {u : St1} {s e : Nat} (hs : s < 3) (he : e < 5) (h : qw_ok R u) (H : ∀ u' R', qw_ok R' u' → post 1 u') : wpL_backs post u (nI s) (nI e) := by
  obtain ⟨a1, a2, a3, a4, a5, a6, a7, a8, a9, a10, a11, a12, a13, a14, a15⟩ := u
  unfold wpL_backs
  refine ql_view (u := (a1, a2, a3, a4, a5, a6, a7, a8, a9, a10, a11, a12, a13, a14, a15)) (s := s) (by omega) h ?_
  refine qw_invert (u := (a1, a2, a3, a4, a5, a6, a7, a8, a9, a10, a11, a12, a13, a14, a15)) (t := s) (by omega) h (fun z => ?_) (fun z u1 R1 h1 k1 k2 => ?_)
  · refine qw_invert (u := (a1, a2, a3, a4, a5, a6, a7, a8, a9, a10, a11, a12, a13, a14, a15)) (t := s) (by omega) h (fun _ => ?_) (fun y => absurd z y)
    refine br_t rfl ?_
    refine ql_view (u := (a1, a2, a3, a4, a5, a6, a7, a8, a9, a10, a11, a12, a13, a14, a15)) (s := s) (by omega) h ?_
    exact br_t rfl (ql_42 hs he h rfl H)
  · obtain ⟨b1, b2, b3, b4, b5, b6, b7, b8, b9, b10, b11, b12, b13, b14, b15⟩ := u1
    have nz : R1 s 0 ≠ 0 := by
      intro y
      have e0 := k2 0 (by omega)
      rw [qp_mul0, y] at e0
      have e1 : (qp_c (1 : qf_F)) 0 = 1 := rfl
      rw [e1] at e0
      have e2 : (1 : qf_F) = 0 := by
        rw [← e0]
        grobner
      exact absurd e2 (by decide)
    refine qw_invert (u := (b1, b2, b3, b4, b5, b6, b7, b8, b9, b10, b11, b12, b13, b14, b15)) (t := s) (by omega) h1 (fun y => absurd y nz) (fun _ u2 R2 h2 m1 m2 => ?_)
    obtain ⟨c1, c2, c3, c4, c5, c6, c7, c8, c9, c10, c11, c12, c13, c14, c15⟩ := u2
    have ev : ql_v (R2 s) 32 = ql_v (R s) 32 := ql_vc (qp_inv2 k2 m2)
    refine br_t rfl ?_
    refine ql_view (u := (c1, c2, c3, c4, c5, c6, c7, c8, c9, c10, c11, c12, c13, c14, c15)) (s := s) (by omega) h2 ?_
    exact br_t ev (ql_42 hs he h2 ev H)
/-! values -/
theorem ql_107 {post : Int32 → St1 → Prop} {R : Nat → Nat → qf_F} {a1 a2 a3 a4 a5 a6 a7 a8 a9 a10 a11 a12 a13 a14 a15 : Nat → Int32} {s t : Nat} (hs : s < 3) (ht : t < 3) (h : qw_ok R (a1, a2, a3, a4, a5, a6, a7, a8, a9, a10, a11, a12, a13, a14, a15)) (H : ∀ u' R', qw_ok R' u' → post 1 u') : wL_values_107 post (nI s) (nI t) 1 1 1 1 a1 a2 a3 a4 a5 a6 a7 a8 a9 a10 a11 a12 a13 a14 a15 := by
  have z1 : qf_z 1 = 1 := by decide
  unfold wL_values_107
  refine qw_value (u := (a1, a2, a3, a4, a5, a6, a7, a8, a9, a10, a11, a12, a13, a14, a15)) (s := s) (by omega) h ?_
  refine qw_value (u := (a1, a2, a3, a4, a5, a6, a7, a8, a9, a10, a11, a12, a13, a14, a15)) (s := t) (by omega) h ?_
  refine qw_copy (u := (a1, a2, a3, a4, a5, a6, a7, a8, a9, a10, a11, a12, a13, a14, a15)) (s := 3) (t := s) (by omega) (by omega) h (fun u1 h1 => ?_)
  obtain ⟨b1, b2, b3, b4, b5, b6, b7, b8, b9, b10, b11, b12, b13, b14, b15⟩ := u1
  refine qw_cross (u := (b1, b2, b3, b4, b5, b6, b7, b8, b9, b10, b11, b12, b13, b14, b15)) (s := 3) (t := t) (by omega) (by omega) h1 (fun u2 R2 h2 k1 k2 => ?_)
  obtain ⟨c1, c2, c3, c4, c5, c6, c7, c8, c9, c10, c11, c12, c13, c14, c15⟩ := u2
  refine br_f qw_10 ?_
  refine br_f qw_10 ?_
  refine br_f qw_10 ?_
  refine br_f qw_10 ?_
  refine br_f qw_10 ?_
  refine br_f qw_10 ?_
  refine qw_value (u := (c1, c2, c3, c4, c5, c6, c7, c8, c9, c10, c11, c12, c13, c14, c15)) (s := 3) (by omega) h2 ?_
  refine ql_modM _ _ ?_
  rw [qw_setP, qw_setN (show t ≠ 3 by omega)] at k2
  refine br_t ?_ (H (c1, c2, c3, c4, c5, c6, c7, c8, c9, c10, c11, c12, c13, c14, c15) R2 h2)
  rw [z1, qe_at1, qe_at1, qe_at1, k2]
theorem ql_dgle {f : Nat → qf_F} {m : Nat} (h : ∀ i, m ≤ i → i < 32 → f i = 0) : qw_dg f 32 ≤ m := by
  obtain ⟨a, b, c⟩ := qw_dgs f 32
  rcases Nat.lt_or_ge m (qw_dg f 32) with z | z
  · exact absurd (h (qw_dg f 32 - 1) (by omega) (by omega)) (c (by omega))
  · exact z
theorem ql_57 {post : Int32 → St1 → Prop} {R : Nat → Nat → qf_F} {a1 a2 a3 a4 a5 a6 a7 a8 a9 a10 a11 a12 a13 a14 a15 : Nat → Int32} {s t : Nat} (hs : s < 3) (ht : t < 3) (h : qw_ok R (a1, a2, a3, a4, a5, a6, a7, a8, a9, a10, a11, a12, a13, a14, a15)) (H : ∀ u' R', qw_ok R' u' → post 1 u') : wL_values_57 post (nI s) (nI t) 1 1 1 a1 a2 a3 a4 a5 a6 a7 a8 a9 a10 a11 a12 a13 a14 a15 := by
  unfold wL_values_57
  refine qw_rest (u := (a1, a2, a3, a4, a5, a6, a7, a8, a9, a10, a11, a12, a13, a14, a15)) (s := 3) (t := t) (by omega) (by omega) h (fun z => ?_) (fun z u1 R1 h1 k1 k2 => ?_)
  · refine br_t rfl ?_
    refine qw_degree (u := (a1, a2, a3, a4, a5, a6, a7, a8, a9, a10, a11, a12, a13, a14, a15)) (s := t) (by omega) h ?_
    rw [z]
    exact br_t (by decide) (ql_107 hs ht h H)
  · obtain ⟨b1, b2, b3, b4, b5, b6, b7, b8, b9, b10, b11, b12, b13, b14, b15⟩ := u1
    refine br_f qw_10 ?_
    refine qw_degree (u := (b1, b2, b3, b4, b5, b6, b7, b8, b9, b10, b11, b12, b13, b14, b15)) (s := 3) (by omega) h1 ?_
    refine qw_degree (u := (b1, b2, b3, b4, b5, b6, b7, b8, b9, b10, b11, b12, b13, b14, b15)) (s := t) (by omega) h1 ?_
    rw [k1 t (by omega) (by omega)]
    have d3 := ql_dgle k2
    have dt := (qw_dgs (R t) 32).1
    refine br_f ?_ (ql_107 hs ht h1 H)
    rw [Int32.le_iff_toInt_le, ql_dgI dt, ql_dgI (show qw_dg (R1 3) 32 ≤ 32 by omega)]
    omega
theorem ql_values {post : Int32 → St1 → Prop} {R : Nat → Nat → qf_F} {u : St1} {s t : Nat} {x y : Int32} (hs : s < 3) (ht : t < 3) (h : qw_ok R u) (H : ∀ u' R', qw_ok R' u' → post 1 u') : wpL_values post u (nI s) (nI t) x y := by
  obtain ⟨a1, a2, a3, a4, a5, a6, a7, a8, a9, a10, a11, a12, a13, a14, a15⟩ := u
  unfold wpL_values
  refine ql_modI y ?_
  refine ql_modI x ?_
  refine ql_modA _ _ ?_
  refine qw_value (u := (a1, a2, a3, a4, a5, a6, a7, a8, a9, a10, a11, a12, a13, a14, a15)) (s := s) (by omega) h ?_
  rw [qf_zi]
  refine qw_copy (u := (a1, a2, a3, a4, a5, a6, a7, a8, a9, a10, a11, a12, a13, a14, a15)) (s := 3) (t := s) (by omega) (by omega) h (fun u1 h1 => ?_)
  obtain ⟨b1, b2, b3, b4, b5, b6, b7, b8, b9, b10, b11, b12, b13, b14, b15⟩ := u1
  refine qw_shift (u := (b1, b2, b3, b4, b5, b6, b7, b8, b9, b10, b11, b12, b13, b14, b15)) (s := 3) (by omega) h1 (fun u2 R2 h2 k1 k2 => ?_)
  obtain ⟨c1, c2, c3, c4, c5, c6, c7, c8, c9, c10, c11, c12, c13, c14, c15⟩ := u2
  refine qw_value (u := (c1, c2, c3, c4, c5, c6, c7, c8, c9, c10, c11, c12, c13, c14, c15)) (s := 3) (by omega) h2 ?_
  rw [k2, qw_setP]
  exact br_t rfl (ql_57 hs ht h2 H)
end
section
/-! the law -/
theorem ql_and3 (x : Int32) : ∃ s, s < 3 ∧ (x &&& 3) - (x &&& 3) / 3 * 3 = nI s := by
  obtain ⟨j, hj, e⟩ := pk_andE x (m := 3) 2 (by decide)
  refine ⟨j % 3, by omega, ?_⟩
  rw [e]
  exact pk_rem (d := 3) (by omega) (by omega) (by omega)
theorem ql_and5 (x : Int32) : ∃ s, s < 5 ∧ (x &&& 255) - (x &&& 255) / 5 * 5 = nI s := by
  obtain ⟨j, hj, e⟩ := pk_andE x (m := 255) 8 (by decide)
  refine ⟨j % 5, by omega, ?_⟩
  rw [e]
  exact pk_rem (d := 5) (by omega) (by omega) (by omega)
theorem ql_10 {L : Nat} {xs : Nat → Int32} {kc ks : Nat} (hL : L ≤ 260) {u : St1} {R : Nat → Nat → qf_F} (h : qw_ok R u) : ∃ n, wL_law_10 (fun r => r = 1) L xs kc ks n 0 u.1 u.2.1 u.2.2.1 u.2.2.2.1 u.2.2.2.2.1 u.2.2.2.2.2.1 u.2.2.2.2.2.2.1 u.2.2.2.2.2.2.2.1 u.2.2.2.2.2.2.2.2.1 u.2.2.2.2.2.2.2.2.2.1 u.2.2.2.2.2.2.2.2.2.2.1 u.2.2.2.2.2.2.2.2.2.2.2.1 u.2.2.2.2.2.2.2.2.2.2.2.2.1 u.2.2.2.2.2.2.2.2.2.2.2.2.2.1 u.2.2.2.2.2.2.2.2.2.2.2.2.2.2 := by
  refine pk_loop (fun n j (s : St1) => wL_law_10 (fun r => r = 1) L xs kc ks n (nI (3 * j)) s.1 s.2.1 s.2.2.1 s.2.2.2.1 s.2.2.2.2.1 s.2.2.2.2.2.1 s.2.2.2.2.2.2.1 s.2.2.2.2.2.2.2.1 s.2.2.2.2.2.2.2.2.1 s.2.2.2.2.2.2.2.2.2.1 s.2.2.2.2.2.2.2.2.2.2.1 s.2.2.2.2.2.2.2.2.2.2.2.1 s.2.2.2.2.2.2.2.2.2.2.2.2.1 s.2.2.2.2.2.2.2.2.2.2.2.2.2.1 s.2.2.2.2.2.2.2.2.2.2.2.2.2.2) (fun _ s => ∃ R', qw_ok R' s) (L / 3) 0 u (by omega) ⟨R, h⟩ (fun n s hI => ?_) (fun n j s hj hI hw => ?_)
  · have e2 : nI (3 * (L / 3)) + 2 = nI (3 * (L / 3) + 2) := nI_add _ 2
    exact pk_le L (3 * (L / 3) + 2) (fun _ => rfl) (fun z => absurd z (by omega)) rfl e2
  · obtain ⟨R', k⟩ := hI
    obtain ⟨b1, b2, b3, b4, b5, b6, b7, b8, b9, b10, b11, b12, b13, b14, b15⟩ := s
    have g1 : nI (3 * j) + 1 = nI (3 * j + 1) := nI_add _ 1
    have g2 : nI (3 * j) + 2 = nI (3 * j + 2) := nI_add _ 2
    have g3 : nI (3 * j) + 3 = nI (3 * (j + 1)) := nI_add _ 3
    have v0 : vp_in (nI (3 * j)) L := pk_in (3 * j) L (by omega)
    have v1 : vp_in (nI (3 * j) + 1) L := pk_in (3 * j + 1) L (by omega) g1
    have v2 : vp_in (nI (3 * j) + 2) L := pk_in (3 * j + 2) L (by omega) g2
    refine pk_le L (3 * j + 2) (fun z => absurd z (by omega)) (fun _ => ⟨v0, v1, v2, ?_⟩) rfl g2
    refine ql_turn k (fun u1 R1 k1 => ?_)
    obtain ⟨c1, c2, c3, c4, c5, c6, c7, c8, c9, c10, c11, c12, c13, c14, c15⟩ := u1
    refine ⟨v0, fun x3 _ => ⟨by decide, fun x4 hx4 => ⟨by decide, fun x5 hx5 => ⟨by decide, fun x6 hx6 => ⟨v1, fun x7 _ => ?_⟩⟩⟩⟩⟩
    obtain ⟨s, hs, es⟩ := ql_and3 x3
    obtain ⟨t, ht, et⟩ := ql_and3 (x3 >>> ((2 : Int32) &&& 31))
    obtain ⟨e, he, ee⟩ := ql_and5 (x3 >>> ((4 : Int32) &&& 31))
    rw [es] at hx4
    rw [et] at hx5
    rw [ee] at hx6
    subst hx4 hx5 hx6
    refine ql_limits (u := (c1, c2, c3, c4, c5, c6, c7, c8, c9, c10, c11, c12, c13, c14, c15)) (by omega) k1 (fun u2 R2 k2 => ?_)
    obtain ⟨d1, d2, d3, d4, d5, d6, d7, d8, d9, d10, d11, d12, d13, d14, d15⟩ := u2
    refine br_f qw_10 ?_
    refine ql_products (u := (d1, d2, d3, d4, d5, d6, d7, d8, d9, d10, d11, d12, d13, d14, d15)) hs ht he k2 (fun u3 R3 k3 => ?_)
    obtain ⟨e1, e2, e3, e4, e5, e6, e7, e8, e9, e10, e11, e12, e13, e14, e15⟩ := u3
    refine br_f qw_10 ?_
    refine ql_backs (u := (e1, e2, e3, e4, e5, e6, e7, e8, e9, e10, e11, e12, e13, e14, e15)) hs he k3 (fun u4 R4 k4 => ?_)
    obtain ⟨f1, f2, f3, f4, f5, f6, f7, f8, f9, f10, f11, f12, f13, f14, f15⟩ := u4
    refine br_f qw_10 ?_
    refine ql_values (u := (f1, f2, f3, f4, f5, f6, f7, f8, f9, f10, f11, f12, f13, f14, f15)) hs ht k4 (fun u5 R5 k5 => ?_)
    exact br_f qw_10 (nm_r g3 (hw u5 ⟨R5, k5⟩))
theorem i_vc (xs : Nat → Int32) (L : Nat) (hL : L ≤ 260) : wpL_law (fun r => r = 1) L xs := by
  refine ⟨15, 2620, by omega, by omega, ql_init (fun u R h => ?_)⟩
  exact ql_10 hL h
end
