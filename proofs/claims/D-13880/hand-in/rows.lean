section
/-- an Int as a long -/
def mq_L (z : Int) : Int64 := Int64.ofInt z
theorem mq_Lmul (a b : Int) : mq_L a * mq_L b = mq_L (a * b) := (Int64.ofInt_mul a b).symm
theorem mq_Ladd (a b : Int) : mq_L a + mq_L b = mq_L (a + b) := (Int64.ofInt_add a b).symm
theorem mq_Lsub (a b : Int) : mq_L a - mq_L b = mq_L (a - b) := (Int64.ofInt_sub a b).symm
theorem mq_Lneg (a : Int) : - mq_L a = mq_L (-a) := (Int64.ofInt_neg a).symm
theorem mq_L32 (x : Int32) : x.toInt64 = mq_L x.toInt := (Int64.ofInt_int32ToInt x).symm
theorem mq_LN (n : Nat) : mq_L (n : Int) = lN n := Int64.ofInt_eq_ofNat
theorem mq_L8 : (8 : Int64) = mq_L 8 := by decide
theorem mq_L0 : (0 : Int64) = mq_L 0 := by decide
theorem mq_L1 : (1 : Int64) = mq_L 1 := by decide
/-- bounded by K -/
def mq_bd (K a : Int) : Prop := -K ≤ a ∧ a ≤ K
theorem mq_bd_mul {K M a b : Int} (ha : mq_bd K a) (hb : mq_bd M b) : mq_bd (K * M) (a * b) := by
  have h1 := Int.mul_nonneg (show 0 ≤ K - a by have := ha.2; omega) (show 0 ≤ M + b by have := hb.1; omega)
  have h2 := Int.mul_nonneg (show 0 ≤ K + a by have := ha.1; omega) (show 0 ≤ M - b by have := hb.2; omega)
  have h3 := Int.mul_nonneg (show 0 ≤ K - a by have := ha.2; omega) (show 0 ≤ M - b by have := hb.2; omega)
  have h4 := Int.mul_nonneg (show 0 ≤ K + a by have := ha.1; omega) (show 0 ≤ M + b by have := hb.1; omega)
  simp only [Int.sub_mul, Int.add_mul, Int.mul_add, Int.mul_sub] at h1 h2 h3 h4
  refine ⟨?_, ?_⟩ <;> omega
theorem mq_bd_add {K M a b : Int} (ha : mq_bd K a) (hb : mq_bd M b) : mq_bd (K + M) (a + b) := by
  unfold mq_bd at *; omega
theorem mq_bd_sub {K M a b : Int} (ha : mq_bd K a) (hb : mq_bd M b) : mq_bd (K + M) (a - b) := by
  unfold mq_bd at *; omega
theorem mq_bd_mono {K M a : Int} (ha : mq_bd K a) (h : K ≤ M) : mq_bd M a := by
  unfold mq_bd at *; omega
theorem mq_lo {a : Int} (h : mq_bd 4611686018427387904 a) : Int64.minValue.toInt ≤ a := by
  rw [Int64.toInt_minValue]; unfold mq_bd at h; omega
theorem mq_hi {a : Int} (h : mq_bd 4611686018427387904 a) : a ≤ Int64.maxValue.toInt := by
  rw [Int64.toInt_maxValue]; unfold mq_bd at h; omega
theorem mq_Lle {a b : Int} (ha : mq_bd 4611686018427387904 a) (hb : mq_bd 4611686018427387904 b) : mq_L a ≤ mq_L b ↔ a ≤ b :=
  Int64.ofInt_le_iff_le (mq_lo ha) (mq_hi ha) (mq_lo hb) (mq_hi hb)
theorem mq_Llt {a b : Int} (ha : mq_bd 4611686018427387904 a) (hb : mq_bd 4611686018427387904 b) : mq_L a < mq_L b ↔ a < b :=
  Int64.ofInt_lt_iff_lt (mq_lo ha) (mq_hi ha) (mq_lo hb) (mq_hi hb)
theorem mq_LT {a : Int} (ha : mq_bd 4611686018427387904 a) : (mq_L a).toInt = a := by
  unfold mq_bd at ha
  exact Int64.toInt_ofInt_of_le (by omega) (by omega)
theorem mq_Leq {a b : Int} (ha : mq_bd 4611686018427387904 a) (hb : mq_bd 4611686018427387904 b) : mq_L a = mq_L b ↔ a = b := by
  constructor
  · intro h
    rw [← mq_LT ha, ← mq_LT hb, h]
  · intro h; rw [h]
theorem mq_Ldiv {a b : Int} (ha : mq_bd 4611686018427387904 a) (hb : mq_bd 4611686018427387904 b) : mq_L a / mq_L b = mq_L (a.tdiv b) :=
  (Int64.ofInt_tdiv (mq_lo ha) (mq_hi ha) (mq_lo hb) (mq_hi hb)).symm
theorem mq_Ldx {a b c : Int} (h0 : 0 < b) (h : a = b * c) (ha : mq_bd 4611686018427387904 a) (hb : mq_bd 4611686018427387904 b) : mq_L a / mq_L b = mq_L c := by
  rw [mq_Ldiv ha hb, h, Int.mul_tdiv_cancel_left c (by omega)]
theorem mq_Lne {a : Int} (h0 : 0 < a) (ha : mq_bd 4611686018427387904 a) : ¬ mq_L a = 0 := by
  rw [mq_L0, mq_Leq ha (by unfold mq_bd; omega)]; omega
end
section
def mq_d3 (a b c d e f g h i : Int) : Int := a * (e * i - f * h) - b * (d * i - f * g) + c * (d * h - e * g)
def mq_d4 (a b c d e f g h i j k l m n o p : Int) : Int := a * mq_d3 f g h j k l n o p - b * mq_d3 e g h i k l m o p + c * mq_d3 e f h i j l m n p - d * mq_d3 e f g i j k m n o
/-- the matrix after 1, 2, 3, 4 rounds of elimination: minors -/
def mq_A1 (m : Nat → Nat → Int) (i c : Nat) : Int := match i with
  | 0 => m 0 c
  | 1 => m 1 c * m 0 0 - m 1 0 * m 0 c
  | 2 => m 2 c * m 0 0 - m 2 0 * m 0 c
  | _ => m 3 c * m 0 0 - m 3 0 * m 0 c
def mq_A2 (m : Nat → Nat → Int) (i c : Nat) : Int := match i with
  | 0 => m 0 c * m 1 1 - m 0 1 * m 1 c
  | 1 => m 1 c * m 0 0 - m 1 0 * m 0 c
  | 2 => mq_d3 (m 0 0) (m 0 1) (m 0 c) (m 1 0) (m 1 1) (m 1 c) (m 2 0) (m 2 1) (m 2 c)
  | _ => mq_d3 (m 0 0) (m 0 1) (m 0 c) (m 1 0) (m 1 1) (m 1 c) (m 3 0) (m 3 1) (m 3 c)
def mq_A3 (m : Nat → Nat → Int) (i c : Nat) : Int := match i with
  | 0 => mq_d3 (m 0 c) (m 0 1) (m 0 2) (m 1 c) (m 1 1) (m 1 2) (m 2 c) (m 2 1) (m 2 2)
  | 1 => mq_d3 (m 0 0) (m 0 c) (m 0 2) (m 1 0) (m 1 c) (m 1 2) (m 2 0) (m 2 c) (m 2 2)
  | 2 => mq_d3 (m 0 0) (m 0 1) (m 0 c) (m 1 0) (m 1 1) (m 1 c) (m 2 0) (m 2 1) (m 2 c)
  | _ => mq_d4 (m 0 0) (m 0 1) (m 0 2) (m 0 c) (m 1 0) (m 1 1) (m 1 2) (m 1 c) (m 2 0) (m 2 1) (m 2 2) (m 2 c) (m 3 0) (m 3 1) (m 3 2) (m 3 c)
def mq_A4 (m : Nat → Nat → Int) (i c : Nat) : Int := match i with
  | 0 => mq_d4 (m 0 c) (m 0 1) (m 0 2) (m 0 3) (m 1 c) (m 1 1) (m 1 2) (m 1 3) (m 2 c) (m 2 1) (m 2 2) (m 2 3) (m 3 c) (m 3 1) (m 3 2) (m 3 3)
  | 1 => mq_d4 (m 0 0) (m 0 c) (m 0 2) (m 0 3) (m 1 0) (m 1 c) (m 1 2) (m 1 3) (m 2 0) (m 2 c) (m 2 2) (m 2 3) (m 3 0) (m 3 c) (m 3 2) (m 3 3)
  | 2 => mq_d4 (m 0 0) (m 0 1) (m 0 c) (m 0 3) (m 1 0) (m 1 1) (m 1 c) (m 1 3) (m 2 0) (m 2 1) (m 2 c) (m 2 3) (m 3 0) (m 3 1) (m 3 c) (m 3 3)
  | _ => mq_d4 (m 0 0) (m 0 1) (m 0 2) (m 0 c) (m 1 0) (m 1 1) (m 1 2) (m 1 c) (m 2 0) (m 2 1) (m 2 2) (m 2 c) (m 3 0) (m 3 1) (m 3 2) (m 3 c)
def mq_A (m : Nat → Nat → Int) (k i c : Nat) : Int := match k with
  | 0 => m i c
  | 1 => mq_A1 m i c
  | 2 => mq_A2 m i c
  | 3 => mq_A3 m i c
  | _ => mq_A4 m i c
def mq_B (m : Nat → Nat → Int) (k : Nat) : Int := match k with
  | 0 => 1
  | 1 => m 0 0
  | 2 => mq_A1 m 1 1
  | 3 => mq_A2 m 2 2
  | _ => mq_A3 m 3 3
theorem mq_4 {P : Nat → Prop} (h0 : P 0) (h1 : P 1) (h2 : P 2) (h3 : P 3) : ∀ i, i < 4 → P i := by
  intro i hi
  match i, hi with
  | 0, _ => exact h0
  | 1, _ => exact h1
  | 2, _ => exact h2
  | 3, _ => exact h3
theorem mq_s0 (m : Nat → Nat → Int) (c : Nat) : ∀ i, i < 4 → i ≠ 0 → m i c * m 0 0 - m i 0 * m 0 c = 1 * mq_A1 m i c := by
  refine mq_4 (fun h => absurd rfl h) (fun _ => ?_) (fun _ => ?_) (fun _ => ?_) <;> (rw [Int.one_mul]; rfl)
theorem mq_i10 (a00 a01 a0c a10 a11 a1c : Int) : a0c * (a11 * a00 - a10 * a01) - a01 * (a1c * a00 - a10 * a0c) = a00 * (a0c * a11 - a01 * a1c) := by grind
theorem mq_i12 (a00 a01 a0c a10 a11 a1c a20 a21 a2c : Int) : (a2c * a00 - a20 * a0c) * (a11 * a00 - a10 * a01) - (a21 * a00 - a20 * a01) * (a1c * a00 - a10 * a0c) = a00 * mq_d3 a00 a01 a0c a10 a11 a1c a20 a21 a2c := by
  unfold mq_d3; grind
theorem mq_s1 (m : Nat → Nat → Int) (c : Nat) : ∀ i, i < 4 → i ≠ 1 → mq_A1 m i c * mq_A1 m 1 1 - mq_A1 m i 1 * mq_A1 m 1 c = m 0 0 * mq_A2 m i c :=
  mq_4 (fun _ => mq_i10 _ _ _ _ _ _) (fun h => absurd rfl h) (fun _ => mq_i12 _ _ _ _ _ _ _ _ _) (fun _ => mq_i12 _ _ _ _ _ _ _ _ _)
theorem mq_i20 (a b c d e f g h i x y z : Int) : (x * e - b * y) * mq_d3 a b c d e f g h i - (c * e - b * f) * mq_d3 a b x d e y g h z = (e * a - d * b) * mq_d3 x b c y e f z h i := by
  unfold mq_d3; grind
theorem mq_i21 (a b c d e f g h i x y z : Int) : (y * a - d * x) * mq_d3 a b c d e f g h i - (f * a - d * c) * mq_d3 a b x d e y g h z = (e * a - d * b) * mq_d3 a x c d y f g z i := by
  unfold mq_d3; grind
theorem mq_i23 (a b c d e f g h i x y z p q r s : Int) : mq_d3 a b x d e y p q s * mq_d3 a b c d e f g h i - mq_d3 a b c d e f p q r * mq_d3 a b x d e y g h z = (e * a - d * b) * mq_d4 a b c x d e f y g h i z p q r s := by
  unfold mq_d4 mq_d3; grind
theorem mq_s2 (m : Nat → Nat → Int) (c : Nat) : ∀ i, i < 4 → i ≠ 2 → mq_A2 m i c * mq_A2 m 2 2 - mq_A2 m i 2 * mq_A2 m 2 c = mq_A1 m 1 1 * mq_A3 m i c :=
  mq_4 (fun _ => mq_i20 _ _ _ _ _ _ _ _ _ _ _ _) (fun _ => mq_i21 _ _ _ _ _ _ _ _ _ _ _ _) (fun h => absurd rfl h) (fun _ => mq_i23 _ _ _ _ _ _ _ _ _ _ _ _ _ _ _ _)
theorem mq_i30 (a b c d x e f g h y i j k l z m n o p w : Int) : mq_d3 x b c y f g z j k * mq_d4 a b c d e f g h i j k l m n o p - mq_d3 d b c h f g l j k * mq_d4 a b c x e f g y i j k z m n o w = mq_d3 a b c e f g i j k * mq_d4 x b c d y f g h z j k l w n o p := by
  unfold mq_d4 mq_d3; grind
theorem mq_i31 (a b c d x e f g h y i j k l z m n o p w : Int) : mq_d3 a x c e y g i z k * mq_d4 a b c d e f g h i j k l m n o p - mq_d3 a d c e h g i l k * mq_d4 a b c x e f g y i j k z m n o w = mq_d3 a b c e f g i j k * mq_d4 a x c d e y g h i z k l m w o p := by
  unfold mq_d4 mq_d3; grind
theorem mq_i32 (a b c d x e f g h y i j k l z m n o p w : Int) : mq_d3 a b x e f y i j z * mq_d4 a b c d e f g h i j k l m n o p - mq_d3 a b d e f h i j l * mq_d4 a b c x e f g y i j k z m n o w = mq_d3 a b c e f g i j k * mq_d4 a b x d e f y h i j z l m n w p := by
  unfold mq_d4 mq_d3; grind
theorem mq_s3 (m : Nat → Nat → Int) (c : Nat) : ∀ i, i < 4 → i ≠ 3 → mq_A3 m i c * mq_A3 m 3 3 - mq_A3 m i 3 * mq_A3 m 3 c = mq_A2 m 2 2 * mq_A4 m i c :=
  mq_4 (fun _ => mq_i30 _ _ _ _ _ _ _ _ _ _ _ _ _ _ _ _ _ _ _ _) (fun _ => mq_i31 _ _ _ _ _ _ _ _ _ _ _ _ _ _ _ _ _ _ _ _) (fun _ => mq_i32 _ _ _ _ _ _ _ _ _ _ _ _ _ _ _ _ _ _ _ _) (fun h => absurd rfl h)
/-- one round of elimination -/
theorem mq_step (m : Nat → Nat → Int) (c i : Nat) (hi : i < 4) : ∀ k, k < 4 → i ≠ k → mq_A m k i c * mq_A m k k k - mq_A m k i k * mq_A m k k c = mq_B m k * mq_A m (k + 1) i c :=
  mq_4 (fun h => mq_s0 m c i hi h) (fun h => mq_s1 m c i hi h) (fun h => mq_s2 m c i hi h) (fun h => mq_s3 m c i hi h)
theorem mq_row (m : Nat → Nat → Int) (c : Nat) : ∀ k, k < 4 → mq_A m (k + 1) k c = mq_A m k k c :=
  mq_4 rfl rfl rfl rfl
theorem mq_Bs (m : Nat → Nat → Int) : ∀ k, k < 4 → mq_B m (k + 1) = mq_A m k k k :=
  mq_4 rfl rfl rfl rfl
/-- Cramer -/
theorem mq_c0 (a b c d x e f g h y i j k l z m n o p w : Int) : a * mq_d4 x b c d y f g h z j k l w n o p + b * mq_d4 a x c d e y g h i z k l m w o p + c * mq_d4 a b x d e f y h i j z l m n w p + d * mq_d4 a b c x e f g y i j k z m n o w = x * mq_d4 a b c d e f g h i j k l m n o p := by
  unfold mq_d4 mq_d3; grind
theorem mq_c1 (a b c d x e f g h y i j k l z m n o p w : Int) : e * mq_d4 x b c d y f g h z j k l w n o p + f * mq_d4 a x c d e y g h i z k l m w o p + g * mq_d4 a b x d e f y h i j z l m n w p + h * mq_d4 a b c x e f g y i j k z m n o w = y * mq_d4 a b c d e f g h i j k l m n o p := by
  unfold mq_d4 mq_d3; grind
theorem mq_c2 (a b c d x e f g h y i j k l z m n o p w : Int) : i * mq_d4 x b c d y f g h z j k l w n o p + j * mq_d4 a x c d e y g h i z k l m w o p + k * mq_d4 a b x d e f y h i j z l m n w p + l * mq_d4 a b c x e f g y i j k z m n o w = z * mq_d4 a b c d e f g h i j k l m n o p := by
  unfold mq_d4 mq_d3; grind
theorem mq_c3 (a b c d x e f g h y i j k l z m n o p w : Int) : m * mq_d4 x b c d y f g h z j k l w n o p + n * mq_d4 a x c d e y g h i z k l m w o p + o * mq_d4 a b x d e f y h i j z l m n w p + p * mq_d4 a b c x e f g y i j k z m n o w = w * mq_d4 a b c d e f g h i j k l m n o p := by
  unfold mq_d4 mq_d3; grind
/-- the values: numerators and the denominator -/
def mq_T (m : Nat → Nat → Int) (s : Nat) : Int := mq_A4 m s 4
def mq_D (m : Nat → Nat → Int) : Int := mq_A3 m 3 3
theorem mq_cramer (m : Nat → Nat → Int) : ∀ i, i < 4 → m i 0 * mq_T m 0 + m i 1 * mq_T m 1 + m i 2 * mq_T m 2 + m i 3 * mq_T m 3 = m i 4 * mq_D m :=
  mq_4 (mq_c0 _ _ _ _ _ _ _ _ _ _ _ _ _ _ _ _ _ _ _ _) (mq_c1 _ _ _ _ _ _ _ _ _ _ _ _ _ _ _ _ _ _ _ _) (mq_c2 _ _ _ _ _ _ _ _ _ _ _ _ _ _ _ _ _ _ _ _) (mq_c3 _ _ _ _ _ _ _ _ _ _ _ _ _ _ _ _ _ _ _ _)
/-- turned about -/
theorem mq_turn4 (a b c d e f g h i j k l m n o p : Int) : mq_d4 p o n m l k j i h g f e d c b a = mq_d4 a b c d e f g h i j k l m n o p := by
  unfold mq_d4 mq_d3; grind
theorem mq_turnD {m w : Nat → Nat → Int} (h : ∀ i c, i < 4 → c < 4 → w (3 - i) (3 - c) = m i c) : mq_D w = mq_D m := by
  have e : ∀ i c, i < 4 → c < 4 → w i c = m (3 - i) (3 - c) := fun i c hi hc => by
    rw [← h (3 - i) (3 - c) (by omega) (by omega)]
    rw [show 3 - (3 - i) = i by omega, show 3 - (3 - c) = c by omega]
  show mq_d4 _ _ _ _ _ _ _ _ _ _ _ _ _ _ _ _ = mq_d4 _ _ _ _ _ _ _ _ _ _ _ _ _ _ _ _
  rw [e 0 0 (by omega) (by omega), e 0 1 (by omega) (by omega), e 0 2 (by omega) (by omega), e 0 3 (by omega) (by omega), e 1 0 (by omega) (by omega), e 1 1 (by omega) (by omega), e 1 2 (by omega) (by omega), e 1 3 (by omega) (by omega), e 2 0 (by omega) (by omega), e 2 1 (by omega) (by omega), e 2 2 (by omega) (by omega), e 2 3 (by omega) (by omega), e 3 0 (by omega) (by omega), e 3 1 (by omega) (by omega), e 3 2 (by omega) (by omega), e 3 3 (by omega) (by omega)]
  exact mq_turn4 _ _ _ _ _ _ _ _ _ _ _ _ _ _ _ _
theorem mq_turnT {m w : Nat → Nat → Int} (h : ∀ i c, i < 4 → c < 4 → w (3 - i) (3 - c) = m i c) (h4 : ∀ i, i < 4 → w (3 - i) 4 = m i 4) : ∀ s, s < 4 → mq_T w (3 - s) = mq_T m s := by
  have e : ∀ i c, i < 4 → c < 4 → w i c = m (3 - i) (3 - c) := fun i c hi hc => by
    rw [← h (3 - i) (3 - c) (by omega) (by omega)]
    rw [show 3 - (3 - i) = i by omega, show 3 - (3 - c) = c by omega]
  have e4 : ∀ i, i < 4 → w i 4 = m (3 - i) 4 := fun i hi => by
    rw [← h4 (3 - i) (by omega), show 3 - (3 - i) = i by omega]
  refine mq_4 ?_ ?_ ?_ ?_
  · show mq_d4 (w 0 0) (w 0 1) (w 0 2) (w 0 4) (w 1 0) (w 1 1) (w 1 2) (w 1 4) (w 2 0) (w 2 1) (w 2 2) (w 2 4) (w 3 0) (w 3 1) (w 3 2) (w 3 4) = mq_d4 _ _ _ _ _ _ _ _ _ _ _ _ _ _ _ _
    rw [e 0 0 (by omega) (by omega), e 0 1 (by omega) (by omega), e 0 2 (by omega) (by omega), e4 0 (by omega), e 1 0 (by omega) (by omega), e 1 1 (by omega) (by omega), e 1 2 (by omega) (by omega), e4 1 (by omega), e 2 0 (by omega) (by omega), e 2 1 (by omega) (by omega), e 2 2 (by omega) (by omega), e4 2 (by omega), e 3 0 (by omega) (by omega), e 3 1 (by omega) (by omega), e 3 2 (by omega) (by omega), e4 3 (by omega)]
    exact mq_turn4 _ _ _ _ _ _ _ _ _ _ _ _ _ _ _ _
  · show mq_d4 (w 0 0) (w 0 1) (w 0 4) (w 0 3) (w 1 0) (w 1 1) (w 1 4) (w 1 3) (w 2 0) (w 2 1) (w 2 4) (w 2 3) (w 3 0) (w 3 1) (w 3 4) (w 3 3) = mq_d4 _ _ _ _ _ _ _ _ _ _ _ _ _ _ _ _
    rw [e 0 0 (by omega) (by omega), e 0 1 (by omega) (by omega), e 0 3 (by omega) (by omega), e4 0 (by omega), e 1 0 (by omega) (by omega), e 1 1 (by omega) (by omega), e 1 3 (by omega) (by omega), e4 1 (by omega), e 2 0 (by omega) (by omega), e 2 1 (by omega) (by omega), e 2 3 (by omega) (by omega), e4 2 (by omega), e 3 0 (by omega) (by omega), e 3 1 (by omega) (by omega), e 3 3 (by omega) (by omega), e4 3 (by omega)]
    exact mq_turn4 _ _ _ _ _ _ _ _ _ _ _ _ _ _ _ _
  · show mq_d4 (w 0 0) (w 0 4) (w 0 2) (w 0 3) (w 1 0) (w 1 4) (w 1 2) (w 1 3) (w 2 0) (w 2 4) (w 2 2) (w 2 3) (w 3 0) (w 3 4) (w 3 2) (w 3 3) = mq_d4 _ _ _ _ _ _ _ _ _ _ _ _ _ _ _ _
    rw [e 0 0 (by omega) (by omega), e 0 2 (by omega) (by omega), e 0 3 (by omega) (by omega), e4 0 (by omega), e 1 0 (by omega) (by omega), e 1 2 (by omega) (by omega), e 1 3 (by omega) (by omega), e4 1 (by omega), e 2 0 (by omega) (by omega), e 2 2 (by omega) (by omega), e 2 3 (by omega) (by omega), e4 2 (by omega), e 3 0 (by omega) (by omega), e 3 2 (by omega) (by omega), e 3 3 (by omega) (by omega), e4 3 (by omega)]
    exact mq_turn4 _ _ _ _ _ _ _ _ _ _ _ _ _ _ _ _
  · show mq_d4 (w 0 4) (w 0 1) (w 0 2) (w 0 3) (w 1 4) (w 1 1) (w 1 2) (w 1 3) (w 2 4) (w 2 1) (w 2 2) (w 2 3) (w 3 4) (w 3 1) (w 3 2) (w 3 3) = mq_d4 _ _ _ _ _ _ _ _ _ _ _ _ _ _ _ _
    rw [e 0 1 (by omega) (by omega), e 0 2 (by omega) (by omega), e 0 3 (by omega) (by omega), e4 0 (by omega), e 1 1 (by omega) (by omega), e 1 2 (by omega) (by omega), e 1 3 (by omega) (by omega), e4 1 (by omega), e 2 1 (by omega) (by omega), e 2 2 (by omega) (by omega), e 2 3 (by omega) (by omega), e4 2 (by omega), e 3 1 (by omega) (by omega), e 3 2 (by omega) (by omega), e 3 3 (by omega) (by omega), e4 3 (by omega)]
    exact mq_turn4 _ _ _ _ _ _ _ _ _ _ _ _ _ _ _ _
end
section
theorem mq_b2 {a b c d : Int} (ha : mq_bd 160 a) (hb : mq_bd 160 b) (hc : mq_bd 160 c) (hd : mq_bd 160 d) : mq_bd 24576000 (a * b - c * d) :=
  mq_bd_mono (mq_bd_sub (mq_bd_mul ha hb) (mq_bd_mul hc hd)) (by decide)
theorem mq_b3 {a b c d e f g h i : Int} (ha : mq_bd 160 a) (hb : mq_bd 160 b) (hc : mq_bd 160 c) (hd : mq_bd 160 d) (he : mq_bd 160 e) (hf : mq_bd 160 f) (hg : mq_bd 160 g) (hh : mq_bd 160 h) (hi : mq_bd 160 i) : mq_bd 24576000 (mq_d3 a b c d e f g h i) :=
  mq_bd_mono (mq_bd_add (mq_bd_sub (mq_bd_mul ha (mq_bd_sub (mq_bd_mul he hi) (mq_bd_mul hf hh))) (mq_bd_mul hb (mq_bd_sub (mq_bd_mul hd hi) (mq_bd_mul hf hg)))) (mq_bd_mul hc (mq_bd_sub (mq_bd_mul hd hh) (mq_bd_mul he hg)))) (by decide)
theorem mq_b4 {a b c d e f g h i j k l m n o p : Int} (ha : mq_bd 160 a) (hb : mq_bd 160 b) (hc : mq_bd 160 c) (hd : mq_bd 160 d) (he : mq_bd 160 e) (hf : mq_bd 160 f) (hg : mq_bd 160 g) (hh : mq_bd 160 h) (hi : mq_bd 160 i) (hj : mq_bd 160 j) (hk : mq_bd 160 k) (hl : mq_bd 160 l) (hm : mq_bd 160 m) (hn : mq_bd 160 n) (ho : mq_bd 160 o) (hp : mq_bd 160 p) : mq_bd 15728640000 (mq_d4 a b c d e f g h i j k l m n o p) :=
  mq_bd_mono (mq_bd_sub (mq_bd_add (mq_bd_sub (mq_bd_mul ha (mq_b3 hf hg hh hj hk hl hn ho hp)) (mq_bd_mul hb (mq_b3 he hg hh hi hk hl hm ho hp))) (mq_bd_mul hc (mq_b3 he hf hh hi hj hl hm hn hp))) (mq_bd_mul hd (mq_b3 he hf hg hi hj hk hm hn ho))) (by decide)
theorem mq_bA {m : Nat → Nat → Int} (hm : ∀ i c, i < 4 → c < 5 → mq_bd 160 (m i c)) {c : Nat} (hc : c < 5) : ∀ k, k < 4 → ∀ i, i < 4 → (k < 3 ∨ i ≠ 3) → mq_bd 24576000 (mq_A m k i c) := by
  have h : ∀ i, i < 4 → mq_bd 160 (m i c) := fun i hi => hm i c hi hc
  have g : ∀ i j, i < 4 → j < 4 → mq_bd 160 (m i j) := fun i j hi hj => hm i j hi (by omega)
  refine mq_4 ?_ ?_ ?_ ?_
  · intro i hi _
    exact mq_bd_mono (h i hi) (by decide)
  · refine mq_4 (fun _ => mq_bd_mono (h 0 (by omega)) (by decide)) (fun _ => ?_) (fun _ => ?_) (fun _ => ?_)
    · exact mq_b2 (h 1 (by omega)) (g 0 0 (by omega) (by omega)) (g 1 0 (by omega) (by omega)) (h 0 (by omega))
    · exact mq_b2 (h 2 (by omega)) (g 0 0 (by omega) (by omega)) (g 2 0 (by omega) (by omega)) (h 0 (by omega))
    · exact mq_b2 (h 3 (by omega)) (g 0 0 (by omega) (by omega)) (g 3 0 (by omega) (by omega)) (h 0 (by omega))
  · refine mq_4 (fun _ => ?_) (fun _ => ?_) (fun _ => ?_) (fun _ => ?_)
    · exact mq_b2 (h 0 (by omega)) (g 1 1 (by omega) (by omega)) (g 0 1 (by omega) (by omega)) (h 1 (by omega))
    · exact mq_b2 (h 1 (by omega)) (g 0 0 (by omega) (by omega)) (g 1 0 (by omega) (by omega)) (h 0 (by omega))
    · exact mq_b3 (g 0 0 (by omega) (by omega)) (g 0 1 (by omega) (by omega)) (h 0 (by omega)) (g 1 0 (by omega) (by omega)) (g 1 1 (by omega) (by omega)) (h 1 (by omega)) (g 2 0 (by omega) (by omega)) (g 2 1 (by omega) (by omega)) (h 2 (by omega))
    · exact mq_b3 (g 0 0 (by omega) (by omega)) (g 0 1 (by omega) (by omega)) (h 0 (by omega)) (g 1 0 (by omega) (by omega)) (g 1 1 (by omega) (by omega)) (h 1 (by omega)) (g 3 0 (by omega) (by omega)) (g 3 1 (by omega) (by omega)) (h 3 (by omega))
  · refine mq_4 (fun _ => ?_) (fun _ => ?_) (fun _ => ?_) (fun z => absurd z (by omega))
    · exact mq_b3 (h 0 (by omega)) (g 0 1 (by omega) (by omega)) (g 0 2 (by omega) (by omega)) (h 1 (by omega)) (g 1 1 (by omega) (by omega)) (g 1 2 (by omega) (by omega)) (h 2 (by omega)) (g 2 1 (by omega) (by omega)) (g 2 2 (by omega) (by omega))
    · exact mq_b3 (g 0 0 (by omega) (by omega)) (h 0 (by omega)) (g 0 2 (by omega) (by omega)) (g 1 0 (by omega) (by omega)) (h 1 (by omega)) (g 1 2 (by omega) (by omega)) (g 2 0 (by omega) (by omega)) (h 2 (by omega)) (g 2 2 (by omega) (by omega))
    · exact mq_b3 (g 0 0 (by omega) (by omega)) (g 0 1 (by omega) (by omega)) (h 0 (by omega)) (g 1 0 (by omega) (by omega)) (g 1 1 (by omega) (by omega)) (h 1 (by omega)) (g 2 0 (by omega) (by omega)) (g 2 1 (by omega) (by omega)) (h 2 (by omega))
theorem mq_bA33 {m : Nat → Nat → Int} (hm : ∀ i c, i < 4 → c < 5 → mq_bd 160 (m i c)) {c : Nat} (hc : c < 5) : mq_bd 15728640000 (mq_A3 m 3 c) := by
  have h : ∀ i, i < 4 → mq_bd 160 (m i c) := fun i hi => hm i c hi hc
  have g : ∀ i j, i < 4 → j < 4 → mq_bd 160 (m i j) := fun i j hi hj => hm i j hi (by omega)
  exact mq_b4 (g 0 0 (by omega) (by omega)) (g 0 1 (by omega) (by omega)) (g 0 2 (by omega) (by omega)) (h 0 (by omega)) (g 1 0 (by omega) (by omega)) (g 1 1 (by omega) (by omega)) (g 1 2 (by omega) (by omega)) (h 1 (by omega)) (g 2 0 (by omega) (by omega)) (g 2 1 (by omega) (by omega)) (g 2 2 (by omega) (by omega)) (h 2 (by omega)) (g 3 0 (by omega) (by omega)) (g 3 1 (by omega) (by omega)) (g 3 2 (by omega) (by omega)) (h 3 (by omega))
theorem mq_bk {m : Nat → Nat → Int} (hm : ∀ i c, i < 4 → c < 5 → mq_bd 160 (m i c)) {c : Nat} (hc : c < 5) : ∀ k, k < 4 → mq_bd 15728640000 (mq_A m k k c) :=
  mq_4 (mq_bd_mono (mq_bA hm hc 0 (by omega) 0 (by omega) (by omega)) (by decide)) (mq_bd_mono (mq_bA hm hc 1 (by omega) 1 (by omega) (by omega)) (by decide)) (mq_bd_mono (mq_bA hm hc 2 (by omega) 2 (by omega) (by omega)) (by decide)) (mq_bA33 hm hc)
theorem mq_bB {m : Nat → Nat → Int} (hm : ∀ i c, i < 4 → c < 5 → mq_bd 160 (m i c)) : ∀ k, k ≤ 4 → mq_bd 15728640000 (mq_B m k) := by
  intro k hk
  match k, hk with
  | 0, _ => exact (by decide : (-15728640000 : Int) ≤ 1 ∧ (1 : Int) ≤ 15728640000)
  | k + 1, hk => rw [mq_Bs m k (by omega)]; exact mq_bk hm (by omega) k (by omega)
theorem mq_bstep {m : Nat → Nat → Int} (hm : ∀ i c, i < 4 → c < 5 → mq_bd 160 (m i c)) {k i c : Nat} (hk : k < 4) (hi : i < 4) (hc : c < 5) (hn : i ≠ k) : mq_bd 4611686018427387904 (mq_A m k i c * mq_A m k k k - mq_A m k i k * mq_A m k k c) :=
  mq_bd_mono (mq_bd_sub (mq_bd_mul (mq_bA hm hc k hk i hi (by omega)) (mq_bk hm (by omega) k hk)) (mq_bd_mul (mq_bA hm (by omega) k hk i hi (by omega)) (mq_bk hm hc k hk))) (by decide)
theorem mq_bT {m : Nat → Nat → Int} (hm : ∀ i c, i < 4 → c < 5 → mq_bd 160 (m i c)) : ∀ s, s < 4 → mq_bd 15728640000 (mq_T m s) := by
  have g : ∀ i j, i < 4 → j < 5 → mq_bd 160 (m i j) := hm
  refine mq_4 ?_ ?_ ?_ ?_
  · exact mq_b4 (g 0 4 (by omega) (by omega)) (g 0 1 (by omega) (by omega)) (g 0 2 (by omega) (by omega)) (g 0 3 (by omega) (by omega)) (g 1 4 (by omega) (by omega)) (g 1 1 (by omega) (by omega)) (g 1 2 (by omega) (by omega)) (g 1 3 (by omega) (by omega)) (g 2 4 (by omega) (by omega)) (g 2 1 (by omega) (by omega)) (g 2 2 (by omega) (by omega)) (g 2 3 (by omega) (by omega)) (g 3 4 (by omega) (by omega)) (g 3 1 (by omega) (by omega)) (g 3 2 (by omega) (by omega)) (g 3 3 (by omega) (by omega))
  · exact mq_b4 (g 0 0 (by omega) (by omega)) (g 0 4 (by omega) (by omega)) (g 0 2 (by omega) (by omega)) (g 0 3 (by omega) (by omega)) (g 1 0 (by omega) (by omega)) (g 1 4 (by omega) (by omega)) (g 1 2 (by omega) (by omega)) (g 1 3 (by omega) (by omega)) (g 2 0 (by omega) (by omega)) (g 2 4 (by omega) (by omega)) (g 2 2 (by omega) (by omega)) (g 2 3 (by omega) (by omega)) (g 3 0 (by omega) (by omega)) (g 3 4 (by omega) (by omega)) (g 3 2 (by omega) (by omega)) (g 3 3 (by omega) (by omega))
  · exact mq_b4 (g 0 0 (by omega) (by omega)) (g 0 1 (by omega) (by omega)) (g 0 4 (by omega) (by omega)) (g 0 3 (by omega) (by omega)) (g 1 0 (by omega) (by omega)) (g 1 1 (by omega) (by omega)) (g 1 4 (by omega) (by omega)) (g 1 3 (by omega) (by omega)) (g 2 0 (by omega) (by omega)) (g 2 1 (by omega) (by omega)) (g 2 4 (by omega) (by omega)) (g 2 3 (by omega) (by omega)) (g 3 0 (by omega) (by omega)) (g 3 1 (by omega) (by omega)) (g 3 4 (by omega) (by omega)) (g 3 3 (by omega) (by omega))
  · exact mq_b4 (g 0 0 (by omega) (by omega)) (g 0 1 (by omega) (by omega)) (g 0 2 (by omega) (by omega)) (g 0 4 (by omega) (by omega)) (g 1 0 (by omega) (by omega)) (g 1 1 (by omega) (by omega)) (g 1 2 (by omega) (by omega)) (g 1 4 (by omega) (by omega)) (g 2 0 (by omega) (by omega)) (g 2 1 (by omega) (by omega)) (g 2 2 (by omega) (by omega)) (g 2 4 (by omega) (by omega)) (g 3 0 (by omega) (by omega)) (g 3 1 (by omega) (by omega)) (g 3 2 (by omega) (by omega)) (g 3 4 (by omega) (by omega))
/-- rows whose diagonal outweighs the others -/
def mq_dom (m : Nat → Nat → Int) : Prop := ∀ i, i < 4 → (∀ c, c < 4 → c ≠ i → m i c ≤ 0) ∧ 0 < m i 0 + m i 1 + m i 2 + m i 3
theorem mq_dom_diag {m : Nat → Nat → Int} (h : mq_dom m) : ∀ i, i < 4 → 0 < m i i := by
  refine mq_4 ?_ ?_ ?_ ?_
  · have z := h 0 (by omega)
    have z1 := z.1 1 (by omega) (by omega)
    have z2 := z.1 2 (by omega) (by omega)
    have z3 := z.1 3 (by omega) (by omega)
    have := z.2
    omega
  · have z := h 1 (by omega)
    have z1 := z.1 0 (by omega) (by omega)
    have z2 := z.1 2 (by omega) (by omega)
    have z3 := z.1 3 (by omega) (by omega)
    have := z.2
    omega
  · have z := h 2 (by omega)
    have z1 := z.1 0 (by omega) (by omega)
    have z2 := z.1 1 (by omega) (by omega)
    have z3 := z.1 3 (by omega) (by omega)
    have := z.2
    omega
  · have z := h 3 (by omega)
    have z1 := z.1 0 (by omega) (by omega)
    have z2 := z.1 1 (by omega) (by omega)
    have z3 := z.1 2 (by omega) (by omega)
    have := z.2
    omega
theorem mq_np {B x : Int} (hB : 0 < B) (h : B * x ≤ 0) : x ≤ 0 :=
  Int.le_of_mul_le_mul_left (show B * x ≤ B * 0 by rw [Int.mul_zero]; exact h) hB
theorem mq_pp {B x : Int} (hB : 0 < B) (h : 0 < B * x) : 0 < x :=
  Int.lt_of_mul_lt_mul_left (show B * 0 < B * x by rw [Int.mul_zero]; exact h) (by omega)
theorem mq_nn {a b : Int} (ha : a ≤ 0) (hb : b ≤ 0) : 0 ≤ a * b := by
  have h := Int.mul_nonneg (show 0 ≤ -a by omega) (show 0 ≤ -b by omega)
  rw [Int.neg_mul_neg] at h
  exact h
theorem mq_nq {a b : Int} (ha : a ≤ 0) (hb : 0 ≤ b) : a * b ≤ 0 := by
  have h := Int.mul_nonneg (show 0 ≤ -a by omega) hb
  rw [Int.neg_mul] at h
  omega
theorem mq_sum {B p f x0 x1 x2 x3 y0 y1 y2 y3 z0 z1 z2 z3 : Int} (h0 : y0 * p - f * z0 = B * x0) (h1 : y1 * p - f * z1 = B * x1) (h2 : y2 * p - f * z2 = B * x2) (h3 : y3 * p - f * z3 = B * x3) (hB : 0 < B) (hp : 0 < p) (hf : f ≤ 0) (hy : 0 < y0 + y1 + y2 + y3) (hz : 0 < z0 + z1 + z2 + z3) : 0 < x0 + x1 + x2 + x3 := by
  refine mq_pp hB ?_
  have e : B * (x0 + x1 + x2 + x3) = (y0 + y1 + y2 + y3) * p - f * (z0 + z1 + z2 + z3) := by
    simp only [Int.mul_add, Int.add_mul]
    omega
  have a := Int.mul_pos hy hp
  have b := mq_nq hf (show 0 ≤ z0 + z1 + z2 + z3 by omega)
  omega
theorem mq_dom_step {m : Nat → Nat → Int} {k : Nat} (hk : k < 4) (hB : 0 < mq_B m k) (h : mq_dom (mq_A m k)) : mq_dom (mq_A m (k + 1)) := by
  have hp := mq_dom_diag h k hk
  intro i hi
  by_cases e : i = k
  · rw [e]
    refine ⟨fun c hc hn => ?_, ?_⟩
    · rw [mq_row m c k hk]
      exact (h k hk).1 c hc hn
    · rw [mq_row m 0 k hk, mq_row m 1 k hk, mq_row m 2 k hk, mq_row m 3 k hk]
      exact (h k hk).2
  · have hf : mq_A m k i k ≤ 0 := (h i hi).1 k hk (fun z => e z.symm)
    refine ⟨fun c hc hn => ?_, ?_⟩
    · refine mq_np hB ?_
      rw [← mq_step m c i hi k hk e]
      by_cases ec : c = k
      · rw [ec]; omega
      · have a := mq_nq ((h i hi).1 c hc hn) (Int.le_of_lt hp)
        have b := mq_nn hf ((h k hk).1 c hc ec)
        omega
    · exact mq_sum (mq_step m 0 i hi k hk e) (mq_step m 1 i hi k hk e) (mq_step m 2 i hi k hk e) (mq_step m 3 i hi k hk e) hB hp hf (h i hi).2 (h k hk).2
theorem mq_dom_all {m : Nat → Nat → Int} (h : mq_dom m) : ∀ k, k ≤ 4 → mq_dom (mq_A m k) ∧ 0 < mq_B m k := by
  intro k
  induction k with
  | zero => exact fun _ => ⟨h, (by decide : (0 : Int) < 1)⟩
  | succ k ih =>
    intro hk
    have z := ih (by omega)
    refine ⟨mq_dom_step (by omega) z.2 z.1, ?_⟩
    rw [mq_Bs m k (by omega)]
    exact mq_dom_diag z.1 k (by omega)
theorem mq_Dpos {m : Nat → Nat → Int} (h : mq_dom m) : 0 < mq_D m := (mq_dom_all h 4 (by omega)).2
end
section
/-- the action (2 s + a) that policy p takes in state s; the equations of a policy -/
def mq_x (p s : Nat) : Nat := 2 * s + p / 2 ^ s % 2
def mq_m (R H : Nat → Int) (p s c : Nat) : Int := if c < 4 then (if s = c then 8 else 0) - H (4 * mq_x p s + c) else 8 * R (mq_x p s)
def mq_ok (R H : Nat → Int) : Prop := (∀ j, j < 8 → mq_bd 20 (R j)) ∧ (∀ j, j < 32 → 0 ≤ H j ∧ H j ≤ 4) ∧ (∀ x, x < 8 → H (4 * x + 0) + H (4 * x + 1) + H (4 * x + 2) + H (4 * x + 3) = 4)
def mq_gain (R H : Nat → Int) (T : Nat → Int) (D : Int) (x : Nat) : Int := 8 * R x * D + H (4 * x + 0) * T 0 + H (4 * x + 1) * T 1 + H (4 * x + 2) * T 2 + H (4 * x + 3) * T 3
theorem mq_x_lt (p : Nat) {s : Nat} (hs : s < 4) : mq_x p s < 8 := by
  unfold mq_x
  have : p / 2 ^ s % 2 < 2 := Nat.mod_lt _ (by omega)
  omega
theorem mq_m_bd {R H : Nat → Int} (h : mq_ok R H) (p : Nat) : ∀ i c, i < 4 → c < 5 → mq_bd 160 (mq_m R H p i c) := by
  intro i c hi hc
  have hx := mq_x_lt p hi
  unfold mq_m
  by_cases e : c < 4
  · rw [if_pos e]
    have z := h.2.1 (4 * mq_x p i + c) (by omega)
    unfold mq_bd
    split <;> omega
  · rw [if_neg e]
    have z := h.1 (mq_x p i) hx
    unfold mq_bd at *
    omega
theorem mq_m_dom {R H : Nat → Int} (h : mq_ok R H) (p : Nat) : mq_dom (mq_m R H p) := by
  intro i hi
  have hx := mq_x_lt p hi
  refine ⟨fun c hc hn => ?_, ?_⟩
  · unfold mq_m
    rw [if_pos hc, if_neg (fun z => hn z.symm)]
    have z := h.2.1 (4 * mq_x p i + c) (by omega)
    omega
  · have z := h.2.2 (mq_x p i) hx
    have e : ∀ c, c < 4 → mq_m R H p i c = (if i = c then 8 else 0) - H (4 * mq_x p i + c) := fun c hc => if_pos hc
    rw [e 0 (by omega), e 1 (by omega), e 2 (by omega), e 3 (by omega)]
    clear e
    revert z hx
    generalize mq_x p i = x
    revert i hi
    refine mq_4 ?_ ?_ ?_ ?_ <;> (intro _ z; simp only [if_true, if_false, reduceIte, Nat.reduceEqDiff]; omega)
/-- a policy's values -/
def mq_V (R H : Nat → Int) (p s : Nat) : Int := mq_T (mq_m R H p) s
def mq_W (R H : Nat → Int) (p : Nat) : Int := mq_D (mq_m R H p)
theorem mq_Wpos {R H : Nat → Int} (h : mq_ok R H) (p : Nat) : 0 < mq_W R H p := mq_Dpos (mq_m_dom h p)
theorem mq_Vbd {R H : Nat → Int} (h : mq_ok R H) (p : Nat) : ∀ s, s < 4 → mq_bd 15728640000 (mq_V R H p s) := mq_bT (mq_m_bd h p)
theorem mq_Wbd {R H : Nat → Int} (h : mq_ok R H) (p : Nat) : mq_bd 15728640000 (mq_W R H p) := mq_bA33 (mq_m_bd h p) (by omega)
theorem mq_eqn {R H : Nat → Int} (p : Nat) : ∀ s, s < 4 → mq_gain R H (mq_V R H p) (mq_W R H p) (mq_x p s) = 8 * mq_V R H p s := by
  have z := mq_cramer (mq_m R H p)
  have e4 : ∀ i, mq_m R H p i 4 = 8 * R (mq_x p i) := fun i => if_neg (by omega)
  have e : ∀ i c, c < 4 → mq_m R H p i c = (if i = c then 8 else 0) - H (4 * mq_x p i + c) := fun i c hc => if_pos hc
  intro s hs
  have zs := z s hs
  rw [e4 s, e s 0 (by omega), e s 1 (by omega), e s 2 (by omega), e s 3 (by omega)] at zs
  unfold mq_gain
  revert zs
  show _ * mq_V R H p 0 + _ * mq_V R H p 1 + _ * mq_V R H p 2 + _ * mq_V R H p 3 = _ * mq_W R H p → _
  generalize mq_x p s = x
  revert s hs
  refine mq_4 ?_ ?_ ?_ ?_ <;> (simp only [if_true, if_false, reduceIte, Nat.reduceEqDiff, Int.sub_mul, Int.zero_mul]; intro zs; omega)
theorem mq_least (W : Nat → Int) : ∃ k, k < 4 ∧ W k ≤ W 0 ∧ W k ≤ W 1 ∧ W k ≤ W 2 ∧ W k ≤ W 3 := by
  by_cases a : W 0 ≤ W 1 ∧ W 0 ≤ W 2 ∧ W 0 ≤ W 3
  · exact ⟨0, by omega, by omega, by omega, by omega, by omega⟩
  · by_cases b : W 1 ≤ W 0 ∧ W 1 ≤ W 2 ∧ W 1 ≤ W 3
    · exact ⟨1, by omega, by omega, by omega, by omega, by omega⟩
    · by_cases c : W 2 ≤ W 0 ∧ W 2 ≤ W 1 ∧ W 2 ≤ W 3
      · exact ⟨2, by omega, by omega, by omega, by omega, by omega⟩
      · exact ⟨3, by omega, by omega, by omega, by omega, by omega⟩
theorem mq_min {W : Nat → Int} (h : ∀ s, s < 4 → ∃ a b c d : Int, 0 ≤ a ∧ 0 ≤ b ∧ 0 ≤ c ∧ 0 ≤ d ∧ a + b + c + d = 4 ∧ a * W 0 + b * W 1 + c * W 2 + d * W 3 ≤ 8 * W s) : ∀ s, s < 4 → 0 ≤ W s := by
  obtain ⟨k, hk, h0, h1, h2, h3⟩ := mq_least W
  have hw : 0 ≤ W k := by
    obtain ⟨a, b, c, d, ha, hb, hc, hd, hs, hz⟩ := h k hk
    have ea := Int.mul_le_mul_of_nonneg_left h0 ha
    have eb := Int.mul_le_mul_of_nonneg_left h1 hb
    have ec := Int.mul_le_mul_of_nonneg_left h2 hc
    have ed := Int.mul_le_mul_of_nonneg_left h3 hd
    have e : (a + b + c + d) * W k = 4 * W k := by rw [hs]
    simp only [Int.add_mul] at e
    omega
  refine mq_4 ?_ ?_ ?_ ?_ <;> omega
/-- what is below its gain lies below what is above it -/
theorem mq_cmpW {R H T U : Nat → Int} {D E : Int} (x s : Nat) (hD : 0 < D) (hE : 0 < E) (h1 : 8 * T s ≤ mq_gain R H T D x) (h2 : mq_gain R H U E x ≤ 8 * U s) : H (4 * x + 0) * (U 0 * D - T 0 * E) + H (4 * x + 1) * (U 1 * D - T 1 * E) + H (4 * x + 2) * (U 2 * D - T 2 * E) + H (4 * x + 3) * (U 3 * D - T 3 * E) ≤ 8 * (U s * D - T s * E) ∧ (8 * T s < mq_gain R H T D x → H (4 * x + 0) * (U 0 * D - T 0 * E) + H (4 * x + 1) * (U 1 * D - T 1 * E) + H (4 * x + 2) * (U 2 * D - T 2 * E) + H (4 * x + 3) * (U 3 * D - T 3 * E) < 8 * (U s * D - T s * E)) := by
  have e : H (4 * x + 0) * (U 0 * D - T 0 * E) + H (4 * x + 1) * (U 1 * D - T 1 * E) + H (4 * x + 2) * (U 2 * D - T 2 * E) + H (4 * x + 3) * (U 3 * D - T 3 * E) = mq_gain R H U E x * D - mq_gain R H T D x * E := by
    unfold mq_gain; grind
  have a := Int.mul_le_mul_of_nonneg_right h2 (Int.le_of_lt hD)
  have b := Int.mul_le_mul_of_nonneg_right h1 (Int.le_of_lt hE)
  have e8 : 8 * (U s * D - T s * E) = 8 * U s * D - 8 * T s * E := by grind
  rw [e, e8]
  refine ⟨by omega, fun h => ?_⟩
  have c := Int.mul_lt_mul_of_pos_right h hE
  omega
theorem mq_cmp {R H T U : Nat → Int} {D E : Int} (ok : mq_ok R H) (hD : 0 < D) (hE : 0 < E) (h : ∀ s, s < 4 → ∃ x, x < 8 ∧ 8 * T s ≤ mq_gain R H T D x ∧ mq_gain R H U E x ≤ 8 * U s) : ∀ s, s < 4 → T s * E ≤ U s * D := by
  have z := mq_min (W := fun t => U t * D - T t * E) (fun s hs => by
    obtain ⟨x, hx, h1, h2⟩ := h s hs
    exact ⟨H (4 * x + 0), H (4 * x + 1), H (4 * x + 2), H (4 * x + 3), (ok.2.1 _ (by omega)).1, (ok.2.1 _ (by omega)).1, (ok.2.1 _ (by omega)).1, (ok.2.1 _ (by omega)).1, ok.2.2 x hx, (mq_cmpW x s hD hE h1 h2).1⟩)
  intro s hs
  have := z s hs
  omega
theorem mq_cmps {R H T U : Nat → Int} {D E : Int} (ok : mq_ok R H) (hD : 0 < D) (hE : 0 < E) (h : ∀ s, s < 4 → ∃ x, x < 8 ∧ 8 * T s ≤ mq_gain R H T D x ∧ mq_gain R H U E x ≤ 8 * U s) {s : Nat} (hs : s < 4) {x : Nat} (hx : x < 8) (h1 : 8 * T s < mq_gain R H T D x) (h2 : mq_gain R H U E x ≤ 8 * U s) : T s * E < U s * D := by
  have z := mq_cmp ok hD hE h
  have y := (mq_cmpW x s hD hE (Int.le_of_lt h1) h2).2 h1
  have z0 := Int.mul_nonneg (ok.2.1 (4 * x + 0) (by omega)).1 (show 0 ≤ U 0 * D - T 0 * E by have := z 0 (by omega); omega)
  have z1 := Int.mul_nonneg (ok.2.1 (4 * x + 1) (by omega)).1 (show 0 ≤ U 1 * D - T 1 * E by have := z 1 (by omega); omega)
  have z2 := Int.mul_nonneg (ok.2.1 (4 * x + 2) (by omega)).1 (show 0 ≤ U 2 * D - T 2 * E by have := z 2 (by omega); omega)
  have z3 := Int.mul_nonneg (ok.2.1 (4 * x + 3) (by omega)).1 (show 0 ≤ U 3 * D - T 3 * E by have := z 3 (by omega); omega)
  omega
/-- best values -/
def mq_opt (R H T : Nat → Int) (D : Int) : Prop := 0 < D ∧ ∀ s, s < 4 → (∃ a, a < 2 ∧ mq_gain R H T D (2 * s + a) = 8 * T s) ∧ ∀ a, a < 2 → mq_gain R H T D (2 * s + a) ≤ 8 * T s
theorem mq_opt_le {R H T U : Nat → Int} {D E : Int} (ok : mq_ok R H) (h : mq_opt R H T D) (g : mq_opt R H U E) : ∀ s, s < 4 → T s * E ≤ U s * D :=
  mq_cmp ok h.1 g.1 (fun s hs => by
    obtain ⟨a, ha, e⟩ := (h.2 s hs).1
    exact ⟨2 * s + a, by omega, by omega, (g.2 s hs).2 a ha⟩)
theorem mq_opt_eq {R H T U : Nat → Int} {D E : Int} (ok : mq_ok R H) (h : mq_opt R H T D) (g : mq_opt R H U E) : ∀ s, s < 4 → T s * E = U s * D := by
  intro s hs
  have a := mq_opt_le ok h g s hs
  have b := mq_opt_le ok g h s hs
  omega
/-- the good actions are the same -/
theorem mq_opt_good {R H T U : Nat → Int} {D E : Int} (ok : mq_ok R H) (h : mq_opt R H T D) (g : mq_opt R H U E) {s x : Nat} (hs : s < 4) : mq_gain R H T D x = 8 * T s ↔ mq_gain R H U E x = 8 * U s := by
  have e := mq_opt_eq ok h g
  have q : mq_gain R H T D x * E = mq_gain R H U E x * D := by
    have e0 := e 0 (by omega)
    have e1 := e 1 (by omega)
    have e2 := e 2 (by omega)
    have e3 := e 3 (by omega)
    unfold mq_gain
    grind
  have es := e s hs
  have hD := h.1
  have hE := g.1
  constructor
  · intro z
    rw [z] at q
    have : D * mq_gain R H U E x = D * (8 * U s) := by grind
    exact Int.eq_of_mul_eq_mul_left (by omega) this
  · intro z
    rw [z] at q
    have : E * mq_gain R H T D x = E * (8 * T s) := by grind
    exact Int.eq_of_mul_eq_mul_left (by omega) this
/-- turned about -/
def mq_tw (R H R' H' : Nat → Int) : Prop := (∀ j, j < 8 → R' (7 - j) = R j) ∧ (∀ j, j < 32 → H' (31 - j) = H j)
theorem mq_tw_gain {R H R' H' U : Nat → Int} {E : Int} (h : mq_tw R H R' H') {x : Nat} (hx : x < 8) : mq_gain R' H' U E (7 - x) = mq_gain R H (fun s => U (3 - s)) E x := by
  unfold mq_gain
  dsimp only
  rw [h.1 x hx, ← h.2 (4 * x + 0) (by omega), ← h.2 (4 * x + 1) (by omega), ← h.2 (4 * x + 2) (by omega), ← h.2 (4 * x + 3) (by omega)]
  rw [show 31 - (4 * x + 0) = 4 * (7 - x) + 3 by omega, show 31 - (4 * x + 1) = 4 * (7 - x) + 2 by omega, show 31 - (4 * x + 2) = 4 * (7 - x) + 1 by omega, show 31 - (4 * x + 3) = 4 * (7 - x) + 0 by omega]
  show _ = 8 * R x * E + _ * U 3 + _ * U 2 + _ * U 1 + _ * U 0
  omega
theorem mq_tw_opt {R H R' H' U : Nat → Int} {E : Int} (h : mq_tw R H R' H') (g : mq_opt R' H' U E) : mq_opt R H (fun s => U (3 - s)) E := by
  refine ⟨g.1, fun s hs => ⟨?_, ?_⟩⟩
  · obtain ⟨a, ha, e⟩ := (g.2 (3 - s) (by omega)).1
    refine ⟨1 - a, by omega, ?_⟩
    rw [← mq_tw_gain h (by omega), show 7 - (2 * s + (1 - a)) = 2 * (3 - s) + a by omega]
    exact e
  · intro a ha
    rw [← mq_tw_gain h (by omega), show 7 - (2 * s + a) = 2 * (3 - s) + (1 - a) by omega]
    exact (g.2 (3 - s) (by omega)).2 (1 - a) (by omega)
/-- counting -/
def mq_cn (P : Nat → Bool) : Nat → Nat
  | 0 => 0
  | n + 1 => mq_cn P n + (if P n = true then 1 else 0)
theorem mq_cn_le {P Q : Nat → Bool} : ∀ n, (∀ i, i < n → P i = true → Q i = true) → mq_cn P n ≤ mq_cn Q n := by
  intro n
  induction n with
  | zero => intro _; exact Nat.le_refl _
  | succ n ih =>
    intro h
    have a := ih (fun i hi => h i (by omega))
    have b := h n (by omega)
    show mq_cn P n + (if P n = true then 1 else 0) ≤ mq_cn Q n + (if Q n = true then 1 else 0)
    by_cases e : P n = true
    · rw [if_pos e, if_pos (b e)]; omega
    · rw [if_neg e]; omega
theorem mq_cn_lt {P Q : Nat → Bool} : ∀ n, (∀ i, i < n → P i = true → Q i = true) → (∃ j, j < n ∧ Q j = true ∧ P j = false) → mq_cn P n < mq_cn Q n := by
  intro n
  induction n with
  | zero => intro _ h; obtain ⟨j, hj, _⟩ := h; omega
  | succ n ih =>
    intro h hj
    obtain ⟨j, hj, hq, hp⟩ := hj
    have b := h n (by omega)
    show mq_cn P n + (if P n = true then 1 else 0) < mq_cn Q n + (if Q n = true then 1 else 0)
    by_cases e : j = n
    · rw [e] at hq hp
      have a := mq_cn_le n (fun i hi => h i (show i < n + 1 by omega))
      rw [if_pos hq, if_neg (by rw [hp]; decide)]
      omega
    · have a := ih (fun i hi => h i (by omega)) ⟨j, by omega, hq, hp⟩
      by_cases e : P n = true
      · rw [if_pos e, if_pos (b e)]; omega
      · rw [if_neg e]; omega
theorem mq_cn_n (P : Nat → Bool) : ∀ n, mq_cn P n ≤ n := by
  intro n
  induction n with
  | zero => exact Nat.le_refl _
  | succ n ih =>
    show mq_cn P n + (if P n = true then 1 else 0) ≤ n + 1
    split <;> omega
/-- how many policies are no better than p -/
def mq_leb (R H : Nat → Int) (p q : Nat) : Bool := decide (mq_V R H q 0 * mq_W R H p ≤ mq_V R H p 0 * mq_W R H q) && decide (mq_V R H q 1 * mq_W R H p ≤ mq_V R H p 1 * mq_W R H q) && decide (mq_V R H q 2 * mq_W R H p ≤ mq_V R H p 2 * mq_W R H q) && decide (mq_V R H q 3 * mq_W R H p ≤ mq_V R H p 3 * mq_W R H q)
theorem mq_leb_iff {R H : Nat → Int} {p q : Nat} : mq_leb R H p q = true ↔ ∀ s, s < 4 → mq_V R H q s * mq_W R H p ≤ mq_V R H p s * mq_W R H q := by
  unfold mq_leb
  simp only [Bool.and_eq_true, decide_eq_true_eq]
  constructor
  · intro h
    exact mq_4 h.1.1.1 h.1.1.2 h.1.2 h.2
  · intro h
    exact ⟨⟨⟨h 0 (by omega), h 1 (by omega)⟩, h 2 (by omega)⟩, h 3 (by omega)⟩
theorem mq_tr {a b c u v w : Int} (hu : 0 < u) (hv : 0 < v) (hw : 0 < w) (h1 : a * v ≤ b * u) (h2 : b * w ≤ c * v) : a * w ≤ c * u := by
  have e1 := Int.mul_le_mul_of_nonneg_right h1 (Int.le_of_lt hw)
  have e2 := Int.mul_le_mul_of_nonneg_right h2 (Int.le_of_lt hu)
  have e : v * (a * w) ≤ v * (c * u) := by grind
  exact Int.le_of_mul_le_mul_left e hv
def mq_rank (R H : Nat → Int) (p : Nat) : Nat := mq_cn (mq_leb R H p) 16
theorem mq_rank_le (R H : Nat → Int) (p : Nat) : mq_rank R H p ≤ 16 := mq_cn_n _ 16
theorem mq_rank_up {R H : Nat → Int} (ok : mq_ok R H) {p q : Nat} (hq : q < 16) (h : ∀ s, s < 4 → 8 * mq_V R H p s ≤ mq_gain R H (mq_V R H p) (mq_W R H p) (mq_x q s)) (hs : ∃ s, s < 4 ∧ 8 * mq_V R H p s < mq_gain R H (mq_V R H p) (mq_W R H p) (mq_x q s)) : mq_rank R H p < mq_rank R H q := by
  have H1 : ∀ s, s < 4 → ∃ x, x < 8 ∧ 8 * mq_V R H p s ≤ mq_gain R H (mq_V R H p) (mq_W R H p) x ∧ mq_gain R H (mq_V R H q) (mq_W R H q) x ≤ 8 * mq_V R H q s :=
    fun s hs => ⟨mq_x q s, mq_x_lt q hs, h s hs, Int.le_of_eq (mq_eqn q s hs)⟩
  have z := mq_cmp ok (mq_Wpos ok p) (mq_Wpos ok q) H1
  refine mq_cn_lt 16 (fun i hi hp => ?_) ⟨q, hq, ?_, ?_⟩
  · rw [mq_leb_iff] at hp ⊢
    intro s hs
    exact mq_tr (mq_Wpos ok i) (mq_Wpos ok p) (mq_Wpos ok q) (hp s hs) (z s hs)
  · rw [mq_leb_iff]
    intro s _
    exact Int.le_refl _
  · obtain ⟨s, h4, hl⟩ := hs
    have y := mq_cmps ok (mq_Wpos ok p) (mq_Wpos ok q) H1 h4 (mq_x_lt q h4) hl (Int.le_of_eq (mq_eqn q s h4))
    cases hb : mq_leb R H p q with
    | false => rfl
    | true =>
      rw [mq_leb_iff] at hb
      have := hb s h4
      omega
end
section
theorem mq_wide {a : Int} (h : mq_bd 15728640000 a) : mq_bd 4611686018427387904 a := mq_bd_mono h (by decide)
/-- a fraction in lowest terms -/
def mq_lt (t d : Int) : Int := t.tdiv (Int.gcd t d : Nat)
def mq_lb (t d : Int) : Int := d.tdiv (Int.gcd t d : Nat)
theorem mq_low {t d u e : Int} (hd : 0 < d) (he : 0 < e) (h : t * e = u * d) : mq_lt t d = mq_lt u e ∧ mq_lb t d = mq_lb u e := by
  have g0 : 0 < Int.gcd t d := Int.gcd_pos_of_ne_zero_right t (by omega)
  have k0 : 0 < Int.gcd u e := Int.gcd_pos_of_ne_zero_right u (by omega)
  have E : Int.gcd t d * e.natAbs = Int.gcd u e * d.natAbs := by
    rw [← Int.gcd_mul_right, ← Int.gcd_mul_right, h, Int.mul_comm d e]
  have E' : ((Int.gcd t d : Nat) : Int) * e = ((Int.gcd u e : Nat) : Int) * d := by
    have := congrArg (fun n : Nat => (n : Int)) E
    simp only [Int.natCast_mul] at this
    rw [Int.natAbs_of_nonneg (by omega), Int.natAbs_of_nonneg (by omega)] at this
    exact this
  obtain ⟨a, ha⟩ := Int.gcd_dvd_left t d
  obtain ⟨a', ha'⟩ := Int.gcd_dvd_right t d
  obtain ⟨b, hb⟩ := Int.gcd_dvd_left u e
  obtain ⟨b', hb'⟩ := Int.gcd_dvd_right u e
  unfold mq_lt mq_lb
  generalize Int.gcd t d = g at *
  generalize Int.gcd u e = k at *
  have hg : (g : Int) ≠ 0 := by omega
  have hk : (k : Int) ≠ 0 := by omega
  have gp : (0 : Int) < (g : Int) * e := Int.mul_pos (by omega) he
  have q1 : ((g : Int) * e) * a = ((g : Int) * e) * b := by grind
  have q2 : ((g : Int) * e) * a' = ((g : Int) * e) * b' := by grind
  have r1 := Int.eq_of_mul_eq_mul_left (by omega) q1
  have r2 := Int.eq_of_mul_eq_mul_left (by omega) q2
  refine ⟨?_, ?_⟩
  · rw [ha, hb, Int.mul_tdiv_cancel_left _ hg, Int.mul_tdiv_cancel_left _ hk, r1]
  · rw [ha', hb', Int.mul_tdiv_cancel_left _ hg, Int.mul_tdiv_cancel_left _ hk, r2]
section
variable {b kb bd : Int64} {sv bp : Int32} {a1 a2 a7 : Nat → Int32} {a3 a4 a5 a6 : Nat → Int64}
theorem mq_cd17 {post : Int64 → Prop} (x y : Nat) (hx : x < 2 ^ 63) (hy : y < 2 ^ 63) (H : post (lN (Nat.gcd x y))) : ∃ n, wX_commonDivisor_17 post b kb sv bp bd a1 a2 a3 a4 a5 a6 a7 n (lN x) (lN y) :=
  loop_m (σ := Nat × Nat) (fun n s => wX_commonDivisor_17 post b kb sv bp bd a1 a2 a3 a4 a5 a6 a7 n (lN s.1) (lN s.2)) (fun s => s.1 < 2 ^ 63 ∧ s.2 < 2 ^ 63 ∧ Nat.gcd s.1 s.2 = Nat.gcd x y) (fun s => s.1)
    (fun n s h hw => by
      obtain ⟨a, c⟩ := s
      obtain ⟨ha, hc, hg⟩ := h
      dsimp only at ha hc hg
      show wX_commonDivisor_17 post b kb sv bp bd a1 a2 a3 a4 a5 a6 a7 (n + 1) (lN a) (lN c)
      by_cases e : a = 0
      · refine br_t (show lN a = 0 by rw [e]; rfl) ?_
        rw [e, Nat.gcd_zero_left] at hg
        rw [hg]
        exact H
      · have ne : ¬ lN a = 0 := fun z => e ((pk_lEQ ha (by decide)).mp (z.trans (show (0 : Int64) = lN 0 from rfl)))
        refine br_f ne ⟨ne, nm_r (pk_lRem hc (by omega) ha) (hw (c % a, a) ⟨?_, ha, ?_⟩ (Nat.mod_lt _ (by omega)))⟩
        · have := Nat.mod_lt c (show 0 < a by omega)
          show c % a < 2 ^ 63
          omega
        · rw [← hg]
          exact (Nat.gcd_rec a c).symm)
    (x, y) ⟨hx, hy, rfl⟩
theorem mq_nat {z : Int} (h : mq_bd 15728640000 z) : z.natAbs < 2 ^ 63 := by
  unfold mq_bd at h
  omega
theorem mq_cd {post : Int64 → Prop} (u : St1) {t d : Int} (ht : mq_bd 15728640000 t) (hd : mq_bd 15728640000 d) (h0 : 0 < d) (H : post (mq_L (Int.gcd t d : Nat))) : wpX_commonDivisor post u (mq_L t) (mq_L d) := by
  obtain ⟨b, kb, sv, bp, bd, a1, a2, a3, a4, a5, a6, a7⟩ := u
  have e : ∀ z : Int, z.natAbs = t.natAbs → 0 ≤ z → ∃ n, wX_commonDivisor_17 post b kb sv bp bd a1 a2 a3 a4 a5 a6 a7 n (mq_L z) (mq_L d) := by
    intro z hz h
    have q := mq_cd17 (b := b) (kb := kb) (bd := bd) (sv := sv) (bp := bp) (a1 := a1) (a2 := a2) (a3 := a3) (a4 := a4) (a5 := a5) (a6 := a6) (a7 := a7) (post := post) t.natAbs d.natAbs (mq_nat ht) (mq_nat hd) (by rw [mq_LN] at H; exact H)
    rw [← mq_LN, ← mq_LN, ← hz, Int.natAbs_of_nonneg h, Int.natAbs_of_nonneg (by omega)] at q
    exact q
  by_cases h : 0 ≤ t
  · exact br_t (by rw [mq_L0, mq_Lle (show mq_bd 4611686018427387904 0 from ⟨by decide, by decide⟩) (mq_wide ht)]; exact h) (e t rfl h)
  · exact br_f (by rw [mq_L0, mq_Lle (show mq_bd 4611686018427387904 0 from ⟨by decide, by decide⟩) (mq_wide ht)]; exact h) (nm_r (mq_Lneg t) (e (-t) (Int.natAbs_neg t) (by omega)))
theorem mq_gcd_bd {t d : Int} (hd : mq_bd 15728640000 d) (h0 : 0 < d) : 0 < ((Int.gcd t d : Nat) : Int) ∧ mq_bd 15728640000 (Int.gcd t d : Nat) := by
  have g0 : 0 < Int.gcd t d := Int.gcd_pos_of_ne_zero_right t (by omega)
  have g1 := Int.le_of_dvd h0 (Int.gcd_dvd_right t d)
  unfold mq_bd at *
  omega
theorem mq_lowTop {post : Int32 → Prop} (u : St1) {t d : Int} (ht : mq_bd 15728640000 t) (hd : mq_bd 15728640000 d) (h0 : 0 < d) (H : post ((mq_L (mq_lt t d)).toInt32)) : wpX_lowestTop post u (mq_L t) (mq_L d) := by
  have g := mq_gcd_bd (t := t) hd h0
  obtain ⟨b, kb, sv, bp, bd, a1, a2, a3, a4, a5, a6, a7⟩ := u
  refine mq_cd (b, kb, sv, bp, bd, a1, a2, a3, a4, a5, a6, a7) ht hd h0 ⟨mq_Lne g.1 (mq_wide g.2), ?_⟩
  rw [mq_Ldiv (mq_wide ht) (mq_wide g.2)]
  exact H
theorem mq_lowBot {post : Int32 → Prop} (u : St1) {t d : Int} (ht : mq_bd 15728640000 t) (hd : mq_bd 15728640000 d) (h0 : 0 < d) (H : post ((mq_L (mq_lb t d)).toInt32)) : wpX_lowestBottom post u (mq_L t) (mq_L d) := by
  have g := mq_gcd_bd (t := t) hd h0
  obtain ⟨b, kb, sv, bp, bd, a1, a2, a3, a4, a5, a6, a7⟩ := u
  refine mq_cd (b, kb, sv, bp, bd, a1, a2, a3, a4, a5, a6, a7) ht hd h0 ⟨mq_Lne g.1 (mq_wide g.2), ?_⟩
  rw [mq_Ldiv (mq_wide hd) (mq_wide g.2)]
  exact H
end
end
section
/-- an int array as Ints -/
def mq_R (a : Nat → Int32) (j : Nat) : Int := (a j).toInt
/-- the matrix in the array of rows -/
def mq_mat (a : Nat → Int64) (M : Nat → Nat → Int) : Prop := ∀ i c, i < 4 → c < 5 → a (5 * i + c) = mq_L (M i c)
theorem mq_ix4 (x i : Nat) : (4 : Int32) * nI x + nI i = nI (4 * x + i) := by
  show nI 4 * nI x + nI i = nI (4 * x + i)
  rw [pk_mul, nI_add]
theorem mq_ix5 (x i : Nat) : (5 : Int32) * nI x + nI i = nI (5 * x + i) := by
  show nI 5 * nI x + nI i = nI (5 * x + i)
  rw [pk_mul, nI_add]
theorem mq_ix54 (x : Nat) : (5 : Int32) * nI x + 4 = nI (5 * x + 4) := mq_ix5 x 4
theorem mq_ix2 (x i : Nat) : (2 : Int32) * nI x + nI i = nI (2 * x + i) := by
  show nI 2 * nI x + nI i = nI (2 * x + i)
  rw [pk_mul, nI_add]
theorem mq_fillL {f s : Nat → Int64} {i : Nat} {x : Int64} (h : ∀ j, j < i → s j = f j) (hx : x = f i) : ∀ j, j < i + 1 → vp_updL s i x j = f j := by
  intro j hj
  by_cases e : j = i
  · rw [e, pk_uLs, hx]
  · rw [pk_uLn e]
    exact h j (by omega)
theorem mq_act : ∀ s, s < 4 → ∀ p, p < 16 → (2 : Int32) * nI s + ((nI p >>> (nI s &&& 31)) &&& 1) = nI (mq_x p s) := by
  unfold mq_x
  decide +kernel
section
variable {b kb bd : Int64} {sv bp : Int32} {a1 a2 a7 : Nat → Int32} {a3 a4 a5 a6 : Nat → Int64}
theorem mq_fr49 {post : St1 → Prop} {J2 J20 : Int32 → (Nat → Int32) → (Nat → Int32) → (Nat → Int64) → (Nat → Int64) → (Nat → Int64) → (Nat → Int64) → (Nat → Int32) → Prop} {x1 : Int32} {s x i : Nat} {z : Int64} (hs : s < 4) (hx : x < 8) (hi : i < 4)
    (H : J20 (nI (i + 1)) a1 a2 (vp_updL a3 (5 * s + i) (z - (a2 (4 * x + i)).toInt64)) a4 a5 a6 a7) : wX_fillRows_49 post J2 J20 x1 (nI s) (nI x) (nI i) z (5 * nI s + nI i) b kb sv bp bd a1 a2 a3 a4 a5 a6 a7 := by
  unfold wX_fillRows_49
  rw [mq_ix4, mq_ix5, nI_clamp (show 4 * x + i < 2 ^ 31 by omega), nI_clamp (show 5 * s + i < 2 ^ 31 by omega)]
  exact ⟨vp_in_nI (by omega) (by decide), vp_in_nI (by omega) (by decide), nm_e (nm_r (nI_1 i) H)⟩
theorem mq_fr20 {post : St1 → Prop} {J2 : Int32 → (Nat → Int32) → (Nat → Int32) → (Nat → Int64) → (Nat → Int64) → (Nat → Int64) → (Nat → Int64) → (Nat → Int32) → Prop} {x1 : Int32} {p s : Nat} (hs : s < 4)
    (h : ∀ j, j < 5 * s → a3 j = mq_L (mq_m (mq_R a1) (mq_R a2) p (j / 5) (j % 5)))
    (H : ∀ a, (∀ j, j < 5 * (s + 1) → a j = mq_L (mq_m (mq_R a1) (mq_R a2) p (j / 5) (j % 5))) → J2 (nI (s + 1)) a1 a2 a a4 a5 a6 a7) :
    ∃ n, wX_fillRows_20 post J2 x1 (nI s) (nI (mq_x p s)) b kb sv bp bd n 0 a1 a2 a3 a4 a5 a6 a7 := by
  have hx := mq_x_lt p hs
  refine pk_loop (fun n i a => wX_fillRows_20 post J2 x1 (nI s) (nI (mq_x p s)) b kb sv bp bd n (nI i) a1 a2 a a4 a5 a6 a7) (fun i a => ∀ j, j < 5 * s + i → a j = mq_L (mq_m (mq_R a1) (mq_R a2) p (j / 5) (j % 5))) 4 0 a3 (by omega) h ?_ ?_
  · intro n a ha
    refine pk_le 4 4 (fun _ => ⟨pk_in (mq_x p s) 8 hx, pk_in (5 * s + 4) 20 (by omega) (mq_ix54 s), nm_e (nm_r (nI_1 s) (H _ ?_))⟩) (fun z => absurd z (by omega))
    rw [mq_ix54, nI_clamp (show 5 * s + 4 < 2 ^ 31 by omega), nI_clamp (show mq_x p s < 2 ^ 31 by omega)]
    refine mq_fillL (i := 5 * s + 4) ha ?_
    show _ = mq_L (mq_m (mq_R a1) (mq_R a2) p ((5 * s + 4) / 5) ((5 * s + 4) % 5))
    rw [show (5 * s + 4) / 5 = s by omega, show (5 * s + 4) % 5 = 4 by omega, mq_L32, mq_L8, mq_Lmul]
    rfl
  · intro n i a hi ha hw
    have key : ∀ (z : Int64) (y : Int), z = mq_L y → mq_m (mq_R a1) (mq_R a2) p s i = y - mq_R a2 (4 * mq_x p s + i) → wX_fillRows_20 post J2 x1 (nI s) (nI (mq_x p s)) b kb sv bp bd n (nI (i + 1)) a1 a2 (vp_updL a (5 * s + i) (z - (a2 (4 * mq_x p s + i)).toInt64)) a4 a5 a6 a7 := by
      intro z y hz hy
      refine hw _ (mq_fillL (i := 5 * s + i) ha ?_)
      show _ = mq_L (mq_m (mq_R a1) (mq_R a2) p ((5 * s + i) / 5) ((5 * s + i) % 5))
      rw [show (5 * s + i) / 5 = s by omega, show (5 * s + i) % 5 = i by omega, hy, hz, mq_L32, mq_Lsub]
      rfl
    refine pk_le 4 i (fun z => absurd z (by omega)) (fun _ => pk_eq s i (fun e => mq_fr49 hs hx hi (key 8 8 mq_L8 ?_)) (fun e => mq_fr49 hs hx hi (key 0 0 mq_L0 ?_)))
    · unfold mq_m
      rw [if_pos hi, if_pos e]
    · unfold mq_m
      rw [if_pos hi, if_neg e]
theorem mq_fill {post : St1 → Prop} {p : Nat} (hp : p < 16) (H : ∀ a, mq_mat a (mq_m (mq_R a1) (mq_R a2) p) → post (b, kb, sv, bp, bd, a1, a2, a, a4, a5, a6, a7)) : wpX_fillRows post (b, kb, sv, bp, bd, a1, a2, a3, a4, a5, a6, a7) (nI p) := by
  refine pk_loop (fun n i a => wX_fillRows_2 post (nI p) b kb sv bp bd n (nI i) a1 a2 a a4 a5 a6 a7) (fun i a => ∀ j, j < 5 * i → a j = mq_L (mq_m (mq_R a1) (mq_R a2) p (j / 5) (j % 5))) 4 0 a3 (by omega) (fun j hj => absurd hj (by omega)) ?_ ?_
  · intro n a ha
    refine pk_le 4 4 (fun _ => H a (fun i c hi hc => ?_)) (fun z => absurd z (by omega))
    rw [ha (5 * i + c) (by omega), show (5 * i + c) / 5 = i by omega, show (5 * i + c) % 5 = c by omega]
  · intro n i a hi ha hw
    exact pk_le 4 i (fun z => absurd z (by omega)) (fun _ => nm_r (mq_act i hi p hp) (mq_fr20 hi ha hw))
theorem mq_red {post : St1 → Prop} {M : Nat → Nat → Int} {N : Nat → Int} {r k : Nat} {B : Int} (hr : r < 4) (hk : k < 4) (hn : r ≠ k) (hB : 0 < B) (hb : mq_bd 4611686018427387904 B) (ha : mq_mat a3 M)
    (hN : ∀ c, c < 5 → M r c * M k k - M r k * M k c = B * N c) (hM : ∀ c, c < 5 → mq_bd 4611686018427387904 (M r c * M k k - M r k * M k c))
    (H : ∀ a, mq_mat a (fun i c => if i = r then N c else M i c) → post (b, kb, sv, bp, bd, a1, a2, a, a4, a5, a6, a7)) : wpX_reduce post (b, kb, sv, bp, bd, a1, a2, a3, a4, a5, a6, a7) (nI r) (nI k) (mq_L B) := by
  refine ⟨pk_in (5 * k + k) 20 (by omega) (mq_ix5 k k), nm_r (show _ = mq_L (M k k) by rw [mq_ix5, nI_clamp (by omega), ha k k hk (by omega)]) ⟨pk_in (5 * r + k) 20 (by omega) (mq_ix5 r k), nm_r (show _ = mq_L (M r k) by rw [mq_ix5, nI_clamp (by omega), ha r k hr (by omega)]) ?_⟩⟩
  refine pk_loop (fun n i a => wX_reduce_27 post (nI r) (nI k) (mq_L B) (mq_L (M k k)) (mq_L (M r k)) b kb sv bp bd n (nI i) a1 a2 a a4 a5 a6 a7) (fun j a => mq_mat a (fun i c => if i = r ∧ c < j then N c else M i c)) 5 0 a3 (by omega) ?_ ?_ ?_
  · intro i c hi hc
    rw [ha i c hi hc]
    show _ = mq_L (if i = r ∧ c < 0 then N c else M i c)
    rw [if_neg (by omega)]
  · intro n a hs
    refine pk_le 5 5 (fun _ => H a (fun i c hi hc => ?_)) (fun z => absurd z (by omega))
    rw [hs i c hi hc]
    show mq_L (if i = r ∧ c < 5 then N c else M i c) = mq_L (if i = r then N c else M i c)
    by_cases e : i = r
    · rw [if_pos ⟨e, hc⟩, if_pos e]
    · rw [if_neg (fun z => e z.1), if_neg e]
  · intro n j a hj hs hw
    have e1 : a (5 * r + j) = mq_L (M r j) := by
      rw [hs r j hr hj]
      show mq_L (if r = r ∧ j < j then N j else M r j) = _
      rw [if_neg (by omega)]
    have e2 : a (5 * k + j) = mq_L (M k j) := by
      rw [hs k j hk hj]
      show mq_L (if k = r ∧ j < j then N j else M k j) = _
      rw [if_neg (by omega)]
    refine pk_le 5 j (fun z => absurd z (by omega)) (fun _ => ⟨pk_in (5 * r + j) 20 (by omega) (mq_ix5 r j), pk_in (5 * k + j) 20 (by omega) (mq_ix5 k j), mq_Lne hB hb, pk_in (5 * r + j) 20 (by omega) (mq_ix5 r j), nm_e (nm_r (nI_1 j) (hw _ ?_))⟩)
    rw [mq_ix5, mq_ix5, nI_clamp (show 5 * r + j < 2 ^ 31 by omega), nI_clamp (show 5 * k + j < 2 ^ 31 by omega), e1, e2, mq_Lmul, mq_Lmul, mq_Lsub, mq_Ldx hB (hN j hj) (hM j hj) hb]
    intro i c hi hc
    show _ = mq_L (if i = r ∧ c < j + 1 then N c else M i c)
    by_cases e : 5 * i + c = 5 * r + j
    · have ei : i = r := by omega
      have ec : c = j := by omega
      rw [e, pk_uLs, if_pos ⟨ei, by omega⟩, ec]
    · rw [pk_uLn e, hs i c hi hc]
      show mq_L (if i = r ∧ c < j then N c else M i c) = _
      by_cases g : i = r ∧ c < j
      · rw [if_pos g, if_pos ⟨g.1, by omega⟩]
      · rw [if_neg g, if_neg (by omega)]
theorem mq_ev19 {post : St1 → Prop} {J10 : Int64 → Int32 → Int64 → Int64 → Int32 → Int32 → Int64 → (Nat → Int32) → (Nat → Int32) → (Nat → Int64) → (Nat → Int64) → (Nat → Int64) → (Nat → Int64) → (Nat → Int32) → Prop} {m : Nat → Nat → Int} (hm : ∀ i c, i < 4 → c < 5 → mq_bd 160 (m i c)) (hd : mq_dom m) {k : Nat} (hk : k < 4) (ha : mq_mat a3 (mq_A m k))
    (H : ∀ a, mq_mat a (mq_A m (k + 1)) → J10 (mq_L (mq_B m (k + 1))) (nI (k + 1)) b kb sv bp bd a1 a2 a a4 a5 a6 a7) : ∃ n, wX_evaluate_19 post J10 (mq_L (mq_B m k)) (nI k) n 0 b kb sv bp bd a1 a2 a3 a4 a5 a6 a7 := by
  refine pk_loop (fun n i a => wX_evaluate_19 post J10 (mq_L (mq_B m k)) (nI k) n (nI i) b kb sv bp bd a1 a2 a a4 a5 a6 a7) (fun i a => mq_mat a (fun r c => if r < i then mq_A m (k + 1) r c else mq_A m k r c)) 4 0 a3 (by omega) ?_ ?_ ?_
  · intro i c hi hc
    rw [ha i c hi hc]
    rfl
  · intro n a hs
    have hs' : mq_mat a (mq_A m (k + 1)) := by
      intro i c hi hc
      rw [hs i c hi hc]
      show mq_L (if i < 4 then mq_A m (k + 1) i c else mq_A m k i c) = _
      rw [if_pos hi]
    refine pk_le 4 4 (fun _ => ⟨pk_in (5 * k + k) 20 (by omega) (mq_ix5 k k), nm_r ?_ (nm_r (nI_1 k) (H a hs'))⟩) (fun z => absurd z (by omega))
    rw [mq_ix5, nI_clamp (show 5 * k + k < 2 ^ 31 by omega), hs' k k hk (by omega), mq_row m k k hk, mq_Bs m k hk]
  · intro n i a hi hs hw
    have hkk : ∀ c, (if k < i then mq_A m (k + 1) k c else mq_A m k k c) = mq_A m k k c := by
      intro c
      by_cases e : k < i
      · rw [if_pos e, mq_row m c k hk]
      · rw [if_neg e]
    have hii : ∀ c, (if i < i then mq_A m (k + 1) i c else mq_A m k i c) = mq_A m k i c := fun c => if_neg (by omega)
    refine pk_le 4 i (fun z => absurd z (by omega)) (fun _ => pk_eq i k (fun e => nm_r (nI_1 i) (hw a (fun r c hr hc => ?_))) (fun e => ?_))
    · rw [hs r c hr hc]
      show mq_L (if r < i then mq_A m (k + 1) r c else mq_A m k r c) = mq_L (if r < i + 1 then mq_A m (k + 1) r c else mq_A m k r c)
      by_cases g : r < i
      · rw [if_pos g, if_pos (by omega)]
      · by_cases q : r = k
        · rw [if_neg g, if_pos (by omega), q, mq_row m c k hk]
        · rw [if_neg g, if_neg (by omega)]
    · have z := mq_dom_all hd k (by omega)
      refine mq_red (M := fun r c => if r < i then mq_A m (k + 1) r c else mq_A m k r c) (N := fun c => mq_A m (k + 1) i c) hi hk e z.2 (mq_wide (mq_bB hm k (by omega))) hs ?_ ?_ ?_
      · intro c hc
        show (if i < i then mq_A m (k + 1) i c else mq_A m k i c) * (if k < i then mq_A m (k + 1) k k else mq_A m k k k) - (if i < i then mq_A m (k + 1) i k else mq_A m k i k) * (if k < i then mq_A m (k + 1) k c else mq_A m k k c) = _
        rw [hkk, hkk, hii, hii]
        exact mq_step m c i hi k hk e
      · intro c hc
        show mq_bd _ ((if i < i then mq_A m (k + 1) i c else mq_A m k i c) * (if k < i then mq_A m (k + 1) k k else mq_A m k k k) - (if i < i then mq_A m (k + 1) i k else mq_A m k i k) * (if k < i then mq_A m (k + 1) k c else mq_A m k k c))
        rw [hkk, hkk, hii, hii]
        exact mq_bstep hm hk hi hc e
      · intro a' ha'
        refine nm_r (nI_1 i) (hw a' (fun r c hr hc => ?_))
        rw [ha' r c hr hc]
        show mq_L (if r = i then mq_A m (k + 1) i c else (if r < i then mq_A m (k + 1) r c else mq_A m k r c)) = mq_L (if r < i + 1 then mq_A m (k + 1) r c else mq_A m k r c)
        by_cases g : r = i
        · rw [if_pos g, if_pos (by omega), g]
        · rw [if_neg g]
          by_cases q : r < i
          · rw [if_pos q, if_pos (by omega)]
          · rw [if_neg q, if_neg (by omega)]
theorem mq_ev74 {post : St1 → Prop} {m : Nat → Nat → Int} (ha : mq_mat a3 (mq_A m 4)) (H : ∀ a, (∀ s, s < 4 → a s = mq_L (mq_T m s)) → post (b, kb, sv, bp, bd, a1, a2, a3, a, a5, a6, a7)) : ∃ n, wX_evaluate_74 post b kb sv bp bd n 0 a1 a2 a3 a4 a5 a6 a7 := by
  refine pk_loop (fun n i a => wX_evaluate_74 post b kb sv bp bd n (nI i) a1 a2 a3 a a5 a6 a7) (fun i a => ∀ s, s < i → a s = mq_L (mq_T m s)) 4 0 a4 (by omega) (fun j hj => absurd hj (by omega)) ?_ ?_
  · intro n a hs
    exact pk_le 4 4 (fun _ => H a hs) (fun z => absurd z (by omega))
  · intro n i a hi hs hw
    refine pk_le 4 i (fun z => absurd z (by omega)) (fun _ => ⟨pk_in (5 * i + 4) 20 (by omega) (mq_ix54 i), pk_in i 4 hi, nm_e (nm_r (nI_1 i) (hw _ ?_))⟩)
    rw [mq_ix54, nI_clamp (show 5 * i + 4 < 2 ^ 31 by omega), nI_clamp (show i < 2 ^ 31 by omega)]
    exact mq_fillL hs (ha i 4 hi (by omega))
/-- evaluate: tops and bottom hold the policy's values -/
theorem mq_evaluate {post : St1 → Prop} {p : Nat} (ok : mq_ok (mq_R a1) (mq_R a2)) (hp : p < 16)
    (H : ∀ r t, (∀ s, s < 4 → t s = mq_L (mq_V (mq_R a1) (mq_R a2) p s)) → post (mq_L (mq_W (mq_R a1) (mq_R a2) p), kb, sv, bp, bd, a1, a2, r, t, a5, a6, a7)) : wpX_evaluate post (b, kb, sv, bp, bd, a1, a2, a3, a4, a5, a6, a7) (nI p) := by
  refine mq_fill hp (fun a ha => ?_)
  have hm := mq_m_bd ok p
  have hd := mq_m_dom ok p
  refine pk_loop (fun n k a => wX_evaluate_10 post n (mq_L (mq_B (mq_m (mq_R a1) (mq_R a2) p) k)) (nI k) b kb sv bp bd a1 a2 a a4 a5 a6 a7) (fun k a => mq_mat a (mq_A (mq_m (mq_R a1) (mq_R a2) p) k)) 4 0 a (by omega) ha ?_ ?_
  · intro n a hs
    exact pk_le 4 4 (fun _ => mq_ev74 hs (fun t ht => H a t ht)) (fun z => absurd z (by omega))
  · intro n k a hk hs hw
    exact pk_le 4 k (fun z => absurd z (by omega)) (fun _ => mq_ev19 hm hd hk hs hw)
end
end
section
/-- gains, summed up so far -/
def mq_pg (R H T : Nat → Int) (D : Int) (x : Nat) : Nat → Int
  | 0 => 8 * R x * D
  | i + 1 => mq_pg R H T D x i + H (4 * x + i) * T i
theorem mq_gain_bd {R H T : Nat → Int} {D : Int} (ok : mq_ok R H) (hT : ∀ s, s < 4 → mq_bd 15728640000 (T s)) (hD : mq_bd 15728640000 D) {x : Nat} (hx : x < 8) : mq_bd 4611686018427387904 (mq_gain R H T D x) := by
  have h : ∀ j, j < 32 → mq_bd 4 (H j) := fun j hj => by
    have := ok.2.1 j hj
    unfold mq_bd
    omega
  exact mq_bd_mono (mq_bd_add (mq_bd_add (mq_bd_add (mq_bd_add (mq_bd_mul (mq_bd_mul (show mq_bd 8 8 from ⟨by decide, by decide⟩) (ok.1 x hx)) hD) (mq_bd_mul (h _ (by omega)) (hT 0 (by omega)))) (mq_bd_mul (h _ (by omega)) (hT 1 (by omega)))) (mq_bd_mul (h _ (by omega)) (hT 2 (by omega)))) (mq_bd_mul (h _ (by omega)) (hT 3 (by omega)))) (by decide)
theorem mq_val_bd {t : Int} (h : mq_bd 15728640000 t) : mq_bd 4611686018427387904 (8 * t) :=
  mq_bd_mono (mq_bd_mul (show mq_bd 8 8 from ⟨by decide, by decide⟩) h) (by decide)
/-- a policy with another action in one state -/
def mq_set (q s a : Nat) : Nat := q - q / 2 ^ s % 2 * 2 ^ s + a * 2 ^ s
theorem mq_set_lt : ∀ s, s < 4 → ∀ a, a < 2 → ∀ q, q < 16 → mq_set q s a < 16 := by
  unfold mq_set
  decide +kernel
theorem mq_set_i : ∀ s, s < 4 → ∀ a, a < 2 → ∀ q, q < 16 → (nI q &&& (((1 : Int32) <<< (nI s &&& 31)) ^^^ (-1))) ||| (nI a <<< (nI s &&& 31)) = nI (mq_set q s a) := by
  unfold mq_set
  decide +kernel
theorem mq_set_x : ∀ s, s < 4 → ∀ a, a < 2 → ∀ q, q < 16 → mq_x (mq_set q s a) s = 2 * s + a := by
  unfold mq_set mq_x
  decide +kernel
theorem mq_set_o : ∀ s, s < 4 → ∀ a, a < 2 → ∀ q, q < 16 → ∀ t, t < 4 → t ≠ s → mq_x (mq_set q s a) t = mq_x q t := by
  unfold mq_set mq_x
  decide +kernel
theorem mq_mask : ∀ a, a < 2 → ∀ k, k < 2 ^ a → (nI k ||| ((1 : Int32) <<< (nI a &&& 31))).toInt8.toInt32 = nI (k + 2 ^ a) := by
  decide +kernel
/-- which actions are good -/
def mq_gm (R H T : Nat → Int) (D : Int) (s : Nat) : Nat := (if mq_gain R H T D (2 * s + 0) = 8 * T s then 1 else 0) + (if mq_gain R H T D (2 * s + 1) = 8 * T s then 2 else 0)
def mq_best (a1 a2 : Nat → Int32) (bd : Int64) (a6 : Nat → Int64) (a7 : Nat → Int32) : Prop := ∃ (T : Nat → Int) (D : Int), mq_opt (mq_R a1) (mq_R a2) T D ∧ mq_bd 15728640000 D ∧ (∀ s, s < 4 → mq_bd 15728640000 (T s)) ∧ bd = mq_L D ∧ (∀ s, s < 4 → a6 s = mq_L (T s)) ∧ (∀ s, s < 4 → a7 s = nI (mq_gm (mq_R a1) (mq_R a2) T D s))
section
variable {b kb bd : Int64} {sv bp : Int32} {a1 a2 a7 : Nat → Int32} {a3 a4 a5 a6 : Nat → Int64}
theorem mq_gainOf {post : Int64 → Prop} {T : Nat → Int} {D : Int} {s a : Nat} (hs : s < 4) (ha : a < 2) (hD : bd = mq_L D) (hT : ∀ t, t < 4 → a6 t = mq_L (T t)) (H : post (mq_L (mq_gain (mq_R a1) (mq_R a2) T D (2 * s + a)))) : wpX_gainOf post (b, kb, sv, bp, bd, a1, a2, a3, a4, a5, a6, a7) (nI s) (nI a) := by
  refine nm_r (mq_ix2 s a) ⟨pk_in (2 * s + a) 8 (by omega), nm_r (show _ = mq_L (mq_pg (mq_R a1) (mq_R a2) T D (2 * s + a) 0) by rw [nI_clamp (show 2 * s + a < 2 ^ 31 by omega), mq_L32, mq_L8, mq_Lmul, hD, mq_Lmul]; rfl) ?_⟩
  refine pk_loop (fun n i g => wX_gainOf_27 post (nI (2 * s + a)) b kb sv bp bd a1 a2 a3 a4 a5 a6 a7 n g (nI i)) (fun i g => g = mq_L (mq_pg (mq_R a1) (mq_R a2) T D (2 * s + a) i)) 4 0 _ (by omega) rfl ?_ ?_
  · intro n g hg
    refine pk_le 4 4 (fun _ => ?_) (fun z => absurd z (by omega))
    rw [hg]
    exact H
  · intro n i g hi hg hw
    refine pk_le 4 i (fun z => absurd z (by omega)) (fun _ => ⟨pk_in (4 * (2 * s + a) + i) 32 (by omega) (mq_ix4 _ i), pk_in i 4 hi, nm_e (nm_r (nI_1 i) (hw _ ?_))⟩)
    rw [mq_ix4, nI_clamp (show 4 * (2 * s + a) + i < 2 ^ 31 by omega), nI_clamp (show i < 2 ^ 31 by omega), hT i hi, mq_L32, hg, mq_Lmul, mq_Ladd]
    rfl
theorem mq_im66 {post : Int32 → St1 → Prop} {J4 J30 : Int32 → Int32 → Int32 → (Nat → Int32) → (Nat → Int32) → (Nat → Int64) → (Nat → Int64) → (Nat → Int64) → (Nat → Int64) → (Nat → Int32) → Prop} {x1 : Int32} {s a q : Nat} {v g : Int} (hs : s < 4) (ha : a < 2) (hq : q < 16) (hv : mq_bd 4611686018427387904 v) (hg : mq_bd 4611686018427387904 g)
    (H : J30 (if v < g then 1 else x1) (nI (a + 1)) (nI (if v < g then mq_set q s a else q)) a1 a2 a3 a4 a5 a6 a7) : wX_improve_66 post J4 J30 x1 (nI s) (mq_L v) (nI a) (mq_L g) b kb sv (nI q) bd a1 a2 a3 a4 a5 a6 a7 := by
  unfold wX_improve_66
  by_cases e : v < g
  · rw [if_pos e, if_pos e] at H
    exact br_t ((mq_Llt hv hg).mpr e) (nm_r (mq_set_i s hs a ha q hq) (nm_r (nI_1 a) H))
  · rw [if_neg e, if_neg e] at H
    exact br_f (fun z => e ((mq_Llt hv hg).mp z)) (nm_r (nI_1 a) H)
theorem mq_im30 {post : Int32 → St1 → Prop} {J4 : Int32 → Int32 → Int32 → (Nat → Int32) → (Nat → Int32) → (Nat → Int64) → (Nat → Int64) → (Nat → Int64) → (Nat → Int64) → (Nat → Int32) → Prop} {T : Nat → Int} {D : Int} {x1 : Int32} {s a q k : Nat} (n : Nat) (ok : mq_ok (mq_R a1) (mq_R a2)) (hTb : ∀ t, t < 4 → mq_bd 15728640000 (T t)) (hDb : mq_bd 15728640000 D) (hT : ∀ t, t < 4 → a6 t = mq_L (T t)) (hs : s < 4) (ha : a < 2) (hq : q < 16) (hk : k < 2 ^ a) (h7 : a7 s = nI k)
    (H : ∀ c, c s = nI (if mq_gain (mq_R a1) (mq_R a2) T D (2 * s + a) = 8 * T s then k + 2 ^ a else k) → (∀ j, j ≠ s → c j = a7 j) → wX_improve_30 post J4 (nI s) (mq_L (8 * T s)) b kb sv (mq_L D) n (if 8 * T s < mq_gain (mq_R a1) (mq_R a2) T D (2 * s + a) then 1 else x1) (nI (a + 1)) (nI (if 8 * T s < mq_gain (mq_R a1) (mq_R a2) T D (2 * s + a) then mq_set q s a else q)) a1 a2 a3 a4 a5 a6 c) :
    wX_improve_30 post J4 (nI s) (mq_L (8 * T s)) b kb sv (mq_L D) (n + 1) x1 (nI a) (nI q) a1 a2 a3 a4 a5 a6 a7 := by
  have hg := mq_gain_bd ok hTb hDb (show 2 * s + a < 8 by omega)
  have hv := mq_val_bd (hTb s hs)
  refine pk_le 2 a (fun z => absurd z (by omega)) (fun _ => mq_gainOf hs ha rfl hT ?_)
  by_cases e : mq_gain (mq_R a1) (mq_R a2) T D (2 * s + a) = 8 * T s
  · refine br_t (by rw [e]) ⟨pk_in s 4 hs, pk_in s 4 hs, nm_e (mq_im66 hs ha hq hv hg (H _ ?_ ?_))⟩
    · rw [nI_clamp (show s < 2 ^ 31 by omega), pk_us, if_pos e, h7]
      exact mq_mask a ha k hk
    · intro j hj
      rw [nI_clamp (show s < 2 ^ 31 by omega), pk_un hj]
  · refine br_f (fun z => e ((mq_Leq hg hv).mp z)) (mq_im66 hs ha hq hv hg (H _ ?_ (fun _ _ => rfl)))
    rw [if_neg e]
    exact h7
/-- what improving has done to a state -/
def mq_done (R H T : Nat → Int) (D : Int) (p q s : Nat) : Prop := 8 * T s < mq_gain R H T D (mq_x q s) ∨ (mq_x q s = mq_x p s ∧ ∀ a, a < 2 → mq_gain R H T D (2 * s + a) ≤ 8 * T s)
def mq_pic (R H T : Nat → Int) (D : Int) (p i be q : Nat) (c : Nat → Int32) : Prop := q < 16 ∧ (∀ s, s < i → c s = nI (mq_gm R H T D s) ∧ mq_done R H T D p q s) ∧ (∀ s, i ≤ s → s < 4 → mq_x q s = mq_x p s) ∧ ((be = 1 ∧ ∃ s, s < i ∧ 8 * T s < mq_gain R H T D (mq_x q s)) ∨ (be = 0 ∧ ∀ s, s < i → ∀ a, a < 2 → mq_gain R H T D (2 * s + a) ≤ 8 * T s))
theorem mq_pic_step {R H T : Nat → Int} {D : Int} {p i be q q0 q1 : Nat} {c c' : Nat → Int32} (hi : i < 4) (h : mq_pic R H T D p i be q c)
    (h0 : q0 = if 8 * T i < mq_gain R H T D (2 * i + 0) then mq_set q i 0 else q) (h1 : q1 = if 8 * T i < mq_gain R H T D (2 * i + 1) then mq_set q0 i 1 else q0)
    (hc : c' i = nI (mq_gm R H T D i)) (ho : ∀ j, j ≠ i → c' j = c j) :
    mq_pic R H T D p (i + 1) (if 8 * T i < mq_gain R H T D (2 * i + 1) then 1 else (if 8 * T i < mq_gain R H T D (2 * i + 0) then 1 else be)) q1 c' := by
  obtain ⟨hq, hd, hr, hb⟩ := h
  have hq0 : q0 < 16 := by
    rw [h0]
    split
    · exact mq_set_lt i hi 0 (by omega) q hq
    · exact hq
  have hq1 : q1 < 16 := by
    rw [h1]
    split
    · exact mq_set_lt i hi 1 (by omega) q0 hq0
    · exact hq0
  have o0 : ∀ t, t < 4 → t ≠ i → mq_x q0 t = mq_x q t := by
    intro t ht hn
    rw [h0]
    split
    · exact mq_set_o i hi 0 (by omega) q hq t ht hn
    · rfl
  have o1 : ∀ t, t < 4 → t ≠ i → mq_x q1 t = mq_x q t := by
    intro t ht hn
    rw [h1]
    split
    · rw [mq_set_o i hi 1 (by omega) q0 hq0 t ht hn]
      exact o0 t ht hn
    · exact o0 t ht hn
  have here : mq_done R H T D p q1 i ∧ ((8 * T i < mq_gain R H T D (2 * i + 1) ∨ 8 * T i < mq_gain R H T D (2 * i + 0)) → 8 * T i < mq_gain R H T D (mq_x q1 i)) := by
    by_cases e1 : 8 * T i < mq_gain R H T D (2 * i + 1)
    · rw [if_pos e1] at h1
      have z : 8 * T i < mq_gain R H T D (mq_x q1 i) := by
        rw [h1, mq_set_x i hi 1 (by omega) q0 hq0]
        exact e1
      exact ⟨Or.inl z, fun _ => z⟩
    · rw [if_neg e1] at h1
      by_cases e0 : 8 * T i < mq_gain R H T D (2 * i + 0)
      · rw [if_pos e0] at h0
        have z : 8 * T i < mq_gain R H T D (mq_x q1 i) := by
          rw [h1, h0, mq_set_x i hi 0 (by omega) q hq]
          exact e0
        exact ⟨Or.inl z, fun _ => z⟩
      · rw [if_neg e0] at h0
        refine ⟨Or.inr ⟨?_, ?_⟩, fun z => ?_⟩
        · rw [h1, h0]
          exact hr i (by omega) hi
        · intro a ha
          match a, ha with
          | 0, _ => omega
          | 1, _ => omega
        · rcases z with z | z
          · exact absurd z e1
          · exact absurd z e0
  refine ⟨hq1, fun s hs => ?_, fun s hs h4 => ?_, ?_⟩
  · by_cases e : s = i
    · rw [e]
      exact ⟨hc, here.1⟩
    · have z := hd s (by omega)
      refine ⟨by rw [ho s e]; exact z.1, ?_⟩
      unfold mq_done
      rw [o1 s (by omega) e]
      exact z.2
  · rw [o1 s h4 (by omega)]
    exact hr s (by omega) h4
  · by_cases e1 : 8 * T i < mq_gain R H T D (2 * i + 1)
    · rw [if_pos e1]
      exact Or.inl ⟨rfl, i, by omega, here.2 (Or.inl e1)⟩
    · rw [if_neg e1]
      by_cases e0 : 8 * T i < mq_gain R H T D (2 * i + 0)
      · rw [if_pos e0]
        exact Or.inl ⟨rfl, i, by omega, here.2 (Or.inr e0)⟩
      · rw [if_neg e0]
        rcases hb with ⟨z, s, hs, hl⟩ | ⟨z, hl⟩
        · refine Or.inl ⟨z, s, by omega, ?_⟩
          rw [o1 s (by omega) (by omega)]
          exact hl
        · refine Or.inr ⟨z, fun s hs a ha => ?_⟩
          by_cases e : s = i
          · rw [e]
            match a, ha with
            | 0, _ => omega
            | 1, _ => omega
          · exact hl s (by omega) a ha
theorem mq_improve {post : Int32 → St1 → Prop} {T : Nat → Int} {D : Int} {p : Nat} (ok : mq_ok (mq_R a1) (mq_R a2)) (hp : p < 16) (hTb : ∀ t, t < 4 → mq_bd 15728640000 (T t)) (hDb : mq_bd 15728640000 D) (hT : ∀ t, t < 4 → a6 t = mq_L (T t)) (he : ∀ s, s < 4 → mq_gain (mq_R a1) (mq_R a2) T D (mq_x p s) = 8 * T s)
    (H1 : ∀ q c, q < 16 → (∀ s, s < 4 → 8 * T s ≤ mq_gain (mq_R a1) (mq_R a2) T D (mq_x q s)) → (∃ s, s < 4 ∧ 8 * T s < mq_gain (mq_R a1) (mq_R a2) T D (mq_x q s)) → post 1 (b, kb, sv, nI q, mq_L D, a1, a2, a3, a4, a5, a6, c))
    (H0 : ∀ q c, (∀ s, s < 4 → ∀ a, a < 2 → mq_gain (mq_R a1) (mq_R a2) T D (2 * s + a) ≤ 8 * T s) → (∀ s, s < 4 → c s = nI (mq_gm (mq_R a1) (mq_R a2) T D s)) → post 0 (b, kb, sv, nI q, mq_L D, a1, a2, a3, a4, a5, a6, c)) :
    wpX_improve post (b, kb, sv, nI p, mq_L D, a1, a2, a3, a4, a5, a6, a7) := by
  refine pk_loop (σ := Nat × Nat × (Nat → Int32)) (fun n i s => wX_improve_4 post b kb sv (mq_L D) n (nI s.1) (nI i) (nI s.2.1) a1 a2 a3 a4 a5 a6 s.2.2) (fun i s => mq_pic (mq_R a1) (mq_R a2) T D p i s.1 s.2.1 s.2.2) 4 0 (0, p, a7) (by omega) ?_ ?_ ?_
  · exact ⟨hp, fun s hs => absurd hs (by omega), fun s _ _ => rfl, Or.inr ⟨rfl, fun s hs => absurd hs (by omega)⟩⟩
  · intro n s h
    obtain ⟨be, q, c⟩ := s
    obtain ⟨hq, hd, _, hb⟩ := h
    dsimp only at hq hd hb
    show wX_improve_4 post b kb sv (mq_L D) (n + 1) (nI be) (nI 4) (nI q) a1 a2 a3 a4 a5 a6 c
    refine pk_le 4 4 (fun _ => ?_) (fun z => absurd z (by omega))
    rcases hb with ⟨z, hl⟩ | ⟨z, hl⟩
    · rw [z]
      refine ⟨rfl, H1 q c hq (fun s hs => ?_) hl⟩
      rcases (hd s hs).2 with y | y
      · omega
      · rw [y.1, he s hs]
        exact Int.le_refl _
    · rw [z]
      exact ⟨rfl, H0 q c hl (fun s hs => (hd s hs).1)⟩
  · intro n i s hi h hw
    obtain ⟨be, q, c⟩ := s
    dsimp only at h
    show wX_improve_4 post b kb sv (mq_L D) (n + 1) (nI be) (nI i) (nI q) a1 a2 a3 a4 a5 a6 c
    have hq := h.1
    refine pk_le 4 i (fun z => absurd z (by omega)) (fun _ => ⟨pk_in i 4 hi, nm_r (show _ = mq_L (8 * T i) by rw [nI_clamp (show i < 2 ^ 31 by omega), hT i hi, mq_L8, mq_Lmul]) ⟨pk_in i 4 hi, nm_e ⟨3, ?_⟩⟩⟩)
    rw [nI_clamp (show i < 2 ^ 31 by omega)]
    refine mq_im30 (a := 0) (k := 0) 2 ok hTb hDb hT hi (by omega) hq (by omega) pk_us (fun c0 e0 o0 => ?_)
    have hq0 : (if 8 * T i < mq_gain (mq_R a1) (mq_R a2) T D (2 * i + 0) then mq_set q i 0 else q) < 16 := by
      split
      · exact mq_set_lt i hi 0 (by omega) q hq
      · exact hq
    refine mq_im30 (a := 1) (k := if mq_gain (mq_R a1) (mq_R a2) T D (2 * i + 0) = 8 * T i then 0 + 2 ^ 0 else 0) 1 ok hTb hDb hT hi (by omega) hq0 (by split <;> omega) e0 (fun c1 e1 o1 => ?_)
    refine pk_le 2 2 (fun _ => nm_r (nI_1 i) ?_) (fun z => absurd z (by omega))
    have st := mq_pic_step hi h rfl rfl (c' := c1) (by
      rw [e1]
      unfold mq_gm
      congr 1
      split <;> split <;> omega) (fun j hj => by rw [o1 j hj, o0 j hj, pk_un hj])
    have eb : nI (if 8 * T i < mq_gain (mq_R a1) (mq_R a2) T D (2 * i + 1) then 1 else (if 8 * T i < mq_gain (mq_R a1) (mq_R a2) T D (2 * i + 0) then 1 else be)) = (if 8 * T i < mq_gain (mq_R a1) (mq_R a2) T D (2 * i + 1) then (1 : Int32) else (if 8 * T i < mq_gain (mq_R a1) (mq_R a2) T D (2 * i + 0) then (1 : Int32) else nI be)) := by
      split
      · rfl
      · split <;> rfl
    rw [← eb]
    exact hw (_, _, c1) st
/-- solve's copying of the values, and an improvement -/
theorem mq_so42 {post : St1 → Prop} {J22 : Int32 → Int32 → Int64 → Int64 → Int32 → Int32 → Int64 → (Nat → Int32) → (Nat → Int32) → (Nat → Int64) → (Nat → Int64) → (Nat → Int64) → (Nat → Int64) → (Nat → Int32) → Prop} {i p : Nat} (ok : mq_ok (mq_R a1) (mq_R a2)) (hp : p < 16) (h4 : ∀ s, s < 4 → a4 s = mq_L (mq_V (mq_R a1) (mq_R a2) p s))
    (H1 : ∀ q a6 c, q < 16 → mq_rank (mq_R a1) (mq_R a2) p < mq_rank (mq_R a1) (mq_R a2) q → J22 1 (nI (i + 1)) (mq_L (mq_W (mq_R a1) (mq_R a2) p)) kb sv (nI q) (mq_L (mq_W (mq_R a1) (mq_R a2) p)) a1 a2 a3 a4 a5 a6 c)
    (H0 : ∀ q a6 c, mq_best a1 a2 (mq_L (mq_W (mq_R a1) (mq_R a2) p)) a6 c → J22 0 (nI (i + 1)) (mq_L (mq_W (mq_R a1) (mq_R a2) p)) kb sv (nI q) (mq_L (mq_W (mq_R a1) (mq_R a2) p)) a1 a2 a3 a4 a5 a6 c) :
    ∃ n, wX_solve_42 post J22 (nI i) (mq_L (mq_W (mq_R a1) (mq_R a2) p)) kb sv (nI p) bd n 0 a1 a2 a3 a4 a5 a6 a7 := by
  refine pk_loop (fun n j a => wX_solve_42 post J22 (nI i) (mq_L (mq_W (mq_R a1) (mq_R a2) p)) kb sv (nI p) bd n (nI j) a1 a2 a3 a4 a5 a a7) (fun j a => ∀ s, s < j → a s = mq_L (mq_V (mq_R a1) (mq_R a2) p s)) 4 0 a6 (by omega) (fun j hj => absurd hj (by omega)) ?_ ?_
  · intro n a ha
    refine pk_le 4 4 (fun _ => mq_improve ok hp (mq_Vbd ok p) (mq_Wbd ok p) ha (mq_eqn p) (fun q c hq hl hs => ?_) (fun q c hl hc => ?_)) (fun z => absurd z (by omega))
    · exact nm_r (nI_1 i) (H1 q a c hq (mq_rank_up ok hq hl hs))
    · refine nm_r (nI_1 i) (H0 q a c ⟨mq_V (mq_R a1) (mq_R a2) p, mq_W (mq_R a1) (mq_R a2) p, ⟨mq_Wpos ok p, fun s hs => ⟨⟨p / 2 ^ s % 2, Nat.mod_lt _ (by omega), mq_eqn p s hs⟩, hl s hs⟩⟩, mq_Wbd ok p, mq_Vbd ok p, rfl, ha, hc⟩)
  · intro n j a hj ha hw
    refine pk_le 4 j (fun z => absurd z (by omega)) (fun _ => ⟨pk_in j 4 hj, pk_in j 4 hj, nm_e (nm_r (nI_1 j) (hw _ ?_))⟩)
    rw [nI_clamp (show j < 2 ^ 31 by omega)]
    exact mq_fillL ha (h4 j hj)
/-- solve -/
theorem mq_solve {post : St1 → Prop} (ok : mq_ok (mq_R a1) (mq_R a2)) (h : ¬ sv = 0 → mq_best a1 a2 bd a6 a7)
    (H : ∀ b kb sv bp bd a3 a4 a5 a6 a7, ¬ sv = 0 → mq_best a1 a2 bd a6 a7 → post (b, kb, sv, bp, bd, a1, a2, a3, a4, a5, a6, a7)) : wpX_solve post (b, kb, sv, bp, bd, a1, a2, a3, a4, a5, a6, a7) := by
  by_cases e : sv = 0
  · refine br_t e ?_
    refine pk_loop (σ := Int32 × Int64 × Int64 × Int32 × Int64 × (Nat → Int64) × (Nat → Int64) × (Nat → Int64) × (Nat → Int64) × (Nat → Int32)) (fun n i s => wX_solve_22 post n s.1 (nI i) s.2.1 s.2.2.1 1 s.2.2.2.1 s.2.2.2.2.1 a1 a2 s.2.2.2.2.2.1 s.2.2.2.2.2.2.1 s.2.2.2.2.2.2.2.1 s.2.2.2.2.2.2.2.2.1 s.2.2.2.2.2.2.2.2.2)
      (fun i s => (s.1 = 1 ∧ ∃ p, p < 16 ∧ s.2.2.2.1 = nI p ∧ i ≤ mq_rank (mq_R a1) (mq_R a2) p) ∨ (s.1 = 0 ∧ mq_best a1 a2 s.2.2.2.2.1 s.2.2.2.2.2.2.2.2.1 s.2.2.2.2.2.2.2.2.2)) 17 0 (1, b, kb, 0, bd, a3, a4, a5, a6, a7) (by omega) (Or.inl ⟨rfl, 0, by omega, rfl, by omega⟩) ?_ ?_
    · intro n s hs
      obtain ⟨x1, b, kb, bp, bd, a3, a4, a5, a6, a7⟩ := s
      rcases hs with ⟨_, p, _, _, hr⟩ | ⟨_, hb⟩
      · have := mq_rank_le (mq_R a1) (mq_R a2) p
        omega
      · exact pk_le 17 17 (fun _ => H _ _ _ _ _ _ _ _ _ _ (by decide) hb) (fun z => absurd z (by omega))
    · intro n i s hi hs hw
      obtain ⟨x1, b, kb, bp, bd, a3, a4, a5, a6, a7⟩ := s
      rcases hs with ⟨e1, p, hp, ep, hr⟩ | ⟨e0, hb⟩
      · dsimp only at e1 ep
        subst e1 ep
        refine pk_le 17 i (fun z => absurd z (by omega)) (fun _ => br_f (show ¬ (1 : Int32) = 0 by decide) (mq_evaluate ok hp (fun r t ht => mq_so42 ok hp ht (fun q a6 c hq hl => ?_) (fun q a6 c hb => ?_))))
        · exact hw (1, _, kb, nI q, _, r, t, a5, a6, c) (Or.inl ⟨rfl, q, hq, rfl, by omega⟩)
        · exact hw (0, _, kb, nI q, _, r, t, a5, a6, c) (Or.inr ⟨rfl, hb⟩)
      · exact pk_le 17 i (fun z => absurd z (by omega)) (fun _ => br_t e0 (H _ _ _ _ _ _ _ _ _ _ (by decide) hb))
  · exact br_f e (H _ _ _ _ _ _ _ _ _ _ e (h e))
end
end
section
/-- a state of the class over given rewards and shares -/
def mq_G (a1 a2 : Nat → Int32) (u : St1) : Prop := ∃ b kb sv bp bd a3 a4 a5 a6 a7, u = (b, kb, sv, bp, bd, a1, a2, a3, a4, a5, a6, a7) ∧ (¬ sv = 0 → mq_best a1 a2 bd a6 a7)
theorem mq_isState {post : Int32 → Prop} (u : St1) {s : Nat} (hs : s < 4) (H : post 1) : wpX_isState post u (nI s) := by
  obtain ⟨b, kb, sv, bp, bd, a1, a2, a3, a4, a5, a6, a7⟩ := u
  exact br_f (nI_pos (by omega)) (br_f (nI_ge (b := 4) hs (by decide)) H)
theorem mq_isPolicy {post : Int32 → Prop} (u : St1) {p : Nat} (hp : p < 16) (H : post 1) : wpX_isPolicy post u (nI p) := by
  obtain ⟨b, kb, sv, bp, bd, a1, a2, a3, a4, a5, a6, a7⟩ := u
  exact br_f (nI_pos (by omega)) (br_f (nI_nlt (a := 15) (b := p) (by omega) (by decide)) H)
theorem mq_1n0 : ¬ (1 : Int32) = 0 := by decide
def mq_top (t d : Int) : Int32 := (mq_L (mq_lt t d)).toInt32
def mq_bot (t d : Int) : Int32 := (mq_L (mq_lb t d)).toInt32
theorem mq_bestTop {post : Int32 → St1 → Prop} {a1 a2 : Nat → Int32} {u : St1} {s : Nat} (ok : mq_ok (mq_R a1) (mq_R a2)) (hu : mq_G a1 a2 u) (hs : s < 4)
    (H : ∀ v T D, mq_G a1 a2 v → mq_opt (mq_R a1) (mq_R a2) T D → post (mq_top (T s) D) v) : wpX_bestTop post u (nI s) := by
  obtain ⟨b, kb, sv, bp, bd, a3, a4, a5, a6, a7, rfl, h⟩ := hu
  unfold wpX_bestTop
  refine mq_isState _ hs ?_
  refine br_f mq_1n0 ?_
  refine mq_solve ok h (fun b kb sv bp bd a3 a4 a5 a6 a7 hsv hb => ?_)
  refine ⟨pk_in s 4 hs, ?_⟩
  obtain ⟨T, D, ho, hDb, hTb, hD, h6, h7⟩ := id hb
  rw [nI_clamp (show s < 2 ^ 31 by omega), h6 s hs, hD]
  exact mq_lowTop _ (hTb s hs) hDb ho.1 (H _ T D ⟨_, _, _, _, _, _, _, _, _, _, rfl, fun _ => by rw [← hD]; exact hb⟩ ho)
theorem mq_bestBottom {post : Int32 → St1 → Prop} {a1 a2 : Nat → Int32} {u : St1} {s : Nat} (ok : mq_ok (mq_R a1) (mq_R a2)) (hu : mq_G a1 a2 u) (hs : s < 4)
    (H : ∀ v T D, mq_G a1 a2 v → mq_opt (mq_R a1) (mq_R a2) T D → post (mq_bot (T s) D) v) : wpX_bestBottom post u (nI s) := by
  obtain ⟨b, kb, sv, bp, bd, a3, a4, a5, a6, a7, rfl, h⟩ := hu
  unfold wpX_bestBottom
  refine mq_isState _ hs ?_
  refine br_f mq_1n0 ?_
  refine mq_solve ok h (fun b kb sv bp bd a3 a4 a5 a6 a7 hsv hb => ?_)
  refine ⟨pk_in s 4 hs, ?_⟩
  obtain ⟨T, D, ho, hDb, hTb, hD, h6, h7⟩ := id hb
  rw [nI_clamp (show s < 2 ^ 31 by omega), h6 s hs, hD]
  exact mq_lowBot _ (hTb s hs) hDb ho.1 (H _ T D ⟨_, _, _, _, _, _, _, _, _, _, rfl, fun _ => by rw [← hD]; exact hb⟩ ho)
theorem mq_valueTop {post : Int32 → St1 → Prop} {a1 a2 : Nat → Int32} {u : St1} {p s : Nat} (ok : mq_ok (mq_R a1) (mq_R a2)) (hu : mq_G a1 a2 u) (hp : p < 16) (hs : s < 4)
    (H : ∀ v, mq_G a1 a2 v → post (mq_top (mq_V (mq_R a1) (mq_R a2) p s) (mq_W (mq_R a1) (mq_R a2) p)) v) : wpX_valueTop post u (nI p) (nI s) := by
  obtain ⟨b, kb, sv, bp, bd, a3, a4, a5, a6, a7, rfl, h⟩ := hu
  unfold wpX_valueTop
  refine mq_isPolicy _ hp ?_
  refine br_f mq_1n0 ?_
  refine mq_isState _ hs ?_
  refine br_f mq_1n0 ?_
  refine mq_evaluate ok hp (fun r t ht => ?_)
  refine ⟨pk_in s 4 hs, ?_⟩
  rw [nI_clamp (show s < 2 ^ 31 by omega), ht s hs]
  exact mq_lowTop _ (mq_Vbd ok p s hs) (mq_Wbd ok p) (mq_Wpos ok p) (H _ ⟨_, _, _, _, _, _, _, _, _, _, rfl, h⟩)
theorem mq_valueBottom {post : Int32 → St1 → Prop} {a1 a2 : Nat → Int32} {u : St1} {p s : Nat} (ok : mq_ok (mq_R a1) (mq_R a2)) (hu : mq_G a1 a2 u) (hp : p < 16) (hs : s < 4)
    (H : ∀ v, mq_G a1 a2 v → post (mq_bot (mq_V (mq_R a1) (mq_R a2) p s) (mq_W (mq_R a1) (mq_R a2) p)) v) : wpX_valueBottom post u (nI p) (nI s) := by
  obtain ⟨b, kb, sv, bp, bd, a3, a4, a5, a6, a7, rfl, h⟩ := hu
  unfold wpX_valueBottom
  refine mq_isPolicy _ hp ?_
  refine br_f mq_1n0 ?_
  refine mq_isState _ hs ?_
  refine br_f mq_1n0 ?_
  refine mq_evaluate ok hp (fun r t ht => ?_)
  refine ⟨pk_in s 4 hs, ?_⟩
  rw [nI_clamp (show s < 2 ^ 31 by omega), ht s hs]
  exact mq_lowBot _ (mq_Vbd ok p s hs) (mq_Wbd ok p) (mq_Wpos ok p) (H _ ⟨_, _, _, _, _, _, _, _, _, _, rfl, h⟩)
section
variable {b kb bd : Int64} {sv bp : Int32} {a1 a2 a7 : Nat → Int32} {a3 a4 a5 a6 : Nat → Int64}
theorem mq_keep {post : St1 → Prop} {T : Nat → Int64} (h4 : ∀ s, s < 4 → a4 s = T s) (H : ∀ k, (∀ s, s < 4 → k s = T s) → post (b, b, sv, bp, bd, a1, a2, a3, a4, k, a6, a7)) : wpX_keepValues post (b, kb, sv, bp, bd, a1, a2, a3, a4, a5, a6, a7) := by
  refine pk_loop (fun n i a => wX_keepValues_2 post b kb sv bp bd n (nI i) a1 a2 a3 a4 a a6 a7) (fun i a => ∀ s, s < i → a s = T s) 4 0 a5 (by omega) (fun j hj => absurd hj (by omega)) ?_ ?_
  · intro n a ha
    exact pk_le 4 4 (fun _ => H a ha) (fun z => absurd z (by omega))
  · intro n i a hi ha hw
    refine pk_le 4 i (fun z => absurd z (by omega)) (fun _ => ⟨pk_in i 4 hi, pk_in i 4 hi, nm_e (nm_r (nI_1 i) (hw _ ?_))⟩)
    rw [nI_clamp (show i < 2 ^ 31 by omega)]
    exact mq_fillL ha (h4 i hi)
end
def mq_c (l r : Int64) : Int32 := if r ≤ l then (if l ≤ r then 0 else 1) else -1
theorem mq_compare {post : Int32 → St1 → Prop} {a1 a2 : Nat → Int32} {u : St1} {p q s : Nat} (ok : mq_ok (mq_R a1) (mq_R a2)) (hu : mq_G a1 a2 u) (hp : p < 16) (hq : q < 16) (hs : s < 4)
    (H : ∀ v, mq_G a1 a2 v → post (mq_c (mq_L (mq_V (mq_R a1) (mq_R a2) p s) * mq_L (mq_W (mq_R a1) (mq_R a2) q)) (mq_L (mq_V (mq_R a1) (mq_R a2) q s) * mq_L (mq_W (mq_R a1) (mq_R a2) p))) v) : wpX_compare post u (nI p) (nI q) (nI s) := by
  obtain ⟨b, kb, sv, bp, bd, a3, a4, a5, a6, a7, rfl, h⟩ := hu
  unfold wpX_compare
  refine mq_isPolicy _ hp ?_
  refine br_f mq_1n0 ?_
  refine mq_isPolicy _ hq ?_
  refine br_f mq_1n0 ?_
  refine mq_isState _ hs ?_
  refine br_f mq_1n0 ?_
  refine mq_evaluate ok hp (fun r t ht => ?_)
  refine mq_keep ht (fun k hk => ?_)
  refine mq_evaluate ok hq (fun r' t' ht' => ?_)
  refine ⟨pk_in s 4 hs, nm_r (show _ = mq_L (mq_V (mq_R a1) (mq_R a2) p s) * mq_L (mq_W (mq_R a1) (mq_R a2) q) by rw [nI_clamp (show s < 2 ^ 31 by omega), hk s hs]) ⟨pk_in s 4 hs, nm_r (show _ = mq_L (mq_V (mq_R a1) (mq_R a2) q s) * mq_L (mq_W (mq_R a1) (mq_R a2) p) by rw [nI_clamp (show s < 2 ^ 31 by omega), ht' s hs]) ?_⟩⟩
  unfold mq_c at H
  revert H
  generalize mq_L (mq_V (mq_R a1) (mq_R a2) p s) * mq_L (mq_W (mq_R a1) (mq_R a2) q) = l
  generalize mq_L (mq_V (mq_R a1) (mq_R a2) q s) * mq_L (mq_W (mq_R a1) (mq_R a2) p) = m
  intro H
  by_cases e : m ≤ l
  · rw [if_pos e] at H
    by_cases g : l ≤ m
    · rw [if_pos g] at H
      exact br_t e (br_t g (H _ ⟨_, _, _, _, _, _, _, _, _, _, rfl, h⟩))
    · rw [if_neg g] at H
      exact br_t e (br_f g (H _ ⟨_, _, _, _, _, _, _, _, _, _, rfl, h⟩))
  · rw [if_neg e] at H
    exact br_f e (H _ ⟨_, _, _, _, _, _, _, _, _, _, rfl, h⟩)
theorem mq_gm_lt (R H T : Nat → Int) (D : Int) (s : Nat) : mq_gm R H T D s < 4 := by
  unfold mq_gm
  split <;> split <;> omega
theorem mq_bit : ∀ a, a < 2 → ∀ k, k < 4 → ((nI k >>> (nI a &&& 31)) &&& 1 = 0 ↔ k / 2 ^ a % 2 = 0) := by
  decide +kernel
theorem mq_good {post : Int32 → St1 → Prop} {a1 a2 : Nat → Int32} {u : St1} {s a : Nat} (ok : mq_ok (mq_R a1) (mq_R a2)) (hu : mq_G a1 a2 u) (hs : s < 4) (ha : a < 2)
    (H : ∀ v T D, mq_G a1 a2 v → mq_opt (mq_R a1) (mq_R a2) T D → post (if mq_gm (mq_R a1) (mq_R a2) T D s / 2 ^ a % 2 = 0 then 0 else 1) v) : wpX_good post u (nI s) (nI a) := by
  obtain ⟨b, kb, sv, bp, bd, a3, a4, a5, a6, a7, rfl, h⟩ := hu
  unfold wpX_good
  refine mq_isState _ hs ?_
  refine br_f mq_1n0 ?_
  refine br_f (nI_pos (by omega)) ?_
  refine br_t (nI_le (a := a) (b := 1) (by omega) (by decide)) ?_
  refine mq_solve ok h (fun b kb sv bp bd a3 a4 a5 a6 a7 hsv hb => ?_)
  refine ⟨pk_in s 4 hs, ?_⟩
  obtain ⟨T, D, ho, hDb, hTb, hD, h6, h7⟩ := id hb
  rw [nI_clamp (show s < 2 ^ 31 by omega), h7 s hs]
  have q := mq_bit a ha _ (mq_gm_lt (mq_R a1) (mq_R a2) T D s)
  have HH := H (b, kb, sv, bp, bd, a1, a2, a3, a4, a5, a6, a7) T D ⟨_, _, _, _, _, _, _, _, _, _, rfl, fun _ => hb⟩ ho
  by_cases e : mq_gm (mq_R a1) (mq_R a2) T D s / 2 ^ a % 2 = 0
  · rw [if_pos e] at HH
    exact br_t (q.mpr e) HH
  · rw [if_neg e] at HH
    exact br_f (fun z => e (q.mp z)) HH
/-- how many policies are best -/
def mq_npol (f : Nat → Nat) : Nat → Nat
  | 0 => 1
  | i + 1 => mq_npol f i * (if f i = 3 then 2 else 1)
theorem mq_policies {post : Int32 → St1 → Prop} {a1 a2 : Nat → Int32} {u : St1} (ok : mq_ok (mq_R a1) (mq_R a2)) (hu : mq_G a1 a2 u)
    (H : ∀ v T D, mq_G a1 a2 v → mq_opt (mq_R a1) (mq_R a2) T D → post (nI (mq_npol (mq_gm (mq_R a1) (mq_R a2) T D) 4)) v) : wpX_policies post u := by
  obtain ⟨b, kb, sv, bp, bd, a3, a4, a5, a6, a7, rfl, h⟩ := hu
  unfold wpX_policies
  refine mq_solve ok h (fun b kb sv bp bd a3 a4 a5 a6 a7 hsv hb => ?_)
  obtain ⟨T, D, ho, hDb, hTb, hD, h6, h7⟩ := id hb
  refine pk_loop (fun n i c => wX_policies_8 post b kb sv bp bd a1 a2 a3 a4 a5 a6 a7 n c (nI i)) (fun i c => c = nI (mq_npol (mq_gm (mq_R a1) (mq_R a2) T D) i)) 4 0 1 (by omega) rfl ?_ ?_
  · intro n c hc
    refine pk_le 4 4 (fun _ => ?_) (fun z => absurd z (by omega))
    rw [hc]
    exact H _ T D ⟨_, _, _, _, _, _, _, _, _, _, rfl, fun _ => hb⟩ ho
  · intro n i c hi hc hw
    have q := mq_gm_lt (mq_R a1) (mq_R a2) T D i
    refine pk_le 4 i (fun z => absurd z (by omega)) (fun _ => ⟨pk_in i 4 hi, ?_⟩)
    rw [nI_clamp (show i < 2 ^ 31 by omega), h7 i hi]
    refine pk_eq (mq_gm (mq_R a1) (mq_R a2) T D i) 3 (fun e => nm_e (nm_r (nI_1 i) (hw _ ?_))) (fun e => nm_r (nI_1 i) (hw _ ?_))
    · show c * nI 2 = nI (mq_npol (mq_gm (mq_R a1) (mq_R a2) T D) i * (if mq_gm (mq_R a1) (mq_R a2) T D i = 3 then 2 else 1))
      rw [if_pos e, hc, pk_mul]
    · show c = nI (mq_npol (mq_gm (mq_R a1) (mq_R a2) T D) i * (if mq_gm (mq_R a1) (mq_R a2) T D i = 3 then 2 else 1))
      rw [if_neg e, hc, Nat.mul_one]
/-- a policy's name, seen from the other side -/
def mq_nm (p : Nat) : Nat → Nat
  | 0 => 0
  | i + 1 => if p / 2 ^ i % 2 = 0 then mq_nm p i ||| 2 ^ (3 - i) else mq_nm p i
theorem mq_nm_lt : ∀ p, p < 16 → ∀ i, i < 5 → mq_nm p i < 16 := by
  decide +kernel
theorem mq_nm_bit : ∀ p, p < 16 → ∀ i, i < 4 → ((nI p >>> (nI i &&& 31)) &&& 1 = 0 ↔ p / 2 ^ i % 2 = 0) := by
  decide +kernel
theorem mq_nm_or : ∀ k, k < 16 → ∀ i, i < 4 → nI k ||| ((1 : Int32) <<< ((3 - nI i) &&& 31)) = nI (k ||| 2 ^ (3 - i)) := by
  decide +kernel
theorem mq_name {post : Int32 → Prop} {p : Nat} (hp : p < 16) (H : post (nI (mq_nm p 4))) : wpL_name post () (nI p) := by
  refine pk_loop (fun n i c => wL_name_4 post (nI p) n c (nI i)) (fun i c => c = nI (mq_nm p i)) 4 0 0 (by omega) rfl ?_ ?_
  · intro n c hc
    refine pk_le 4 4 (fun _ => ?_) (fun z => absurd z (by omega))
    rw [hc]
    exact H
  · intro n i c hi hc hw
    refine pk_le 4 i (fun z => absurd z (by omega)) (fun _ => ?_)
    have q := mq_nm_bit p hp i hi
    by_cases e : p / 2 ^ i % 2 = 0
    · refine br_t (q.mpr e) (nm_e (nm_r (nI_1 i) (hw _ ?_)))
      show c ||| _ = nI (if p / 2 ^ i % 2 = 0 then mq_nm p i ||| 2 ^ (3 - i) else mq_nm p i)
      rw [if_pos e, hc, mq_nm_or _ (mq_nm_lt p hp i (by omega)) i hi]
    · refine br_f (fun z => e (q.mp z)) (nm_r (nI_1 i) (hw _ ?_))
      show c = nI (if p / 2 ^ i % 2 = 0 then mq_nm p i ||| 2 ^ (3 - i) else mq_nm p i)
      rw [if_neg e, hc]
end
section
theorem mq_byte {v : Int32} (h : mq_bd 127 v.toInt) : v.toInt8.toInt32 = v := by
  apply Int32.toInt_inj.mp
  rw [Int8.toInt_toInt32, Int32.toInt_toInt8]
  unfold mq_bd at h
  exact Int.bmod_eq_of_le (by omega) (by omega)
theorem mq_nar {v : Int32} (h : mq_bd 127 v.toInt) : vp_nar .byte v = v := by
  rw [vp_nar_byte, mq_byte h]
theorem mq_upd {c : Nat → Int32} {k j : Nat} {v : Int32} : mq_R (upd c k v) j = if j = k then v.toInt else mq_R c j := by
  by_cases e : j = k
  · rw [if_pos e, e]
    show (upd c k v k).toInt = _
    rw [pk_us]
  · rw [if_neg e]
    show (upd c k v j).toInt = _
    rw [pk_un e]
    rfl
theorem mq_ix42 (s a i : Nat) : (4 : Int32) * (2 * nI s + nI a) + nI i = nI (4 * (2 * s + a) + i) := by
  rw [mq_ix2, mq_ix4]
/-- reward -/
theorem mq_reward {post : Int32 → St1 → Prop} {a1 a2 : Nat → Int32} {u : St1} {s a : Nat} {v : Int32} (hu : mq_G a1 a2 u) (hs : s < 4) (ha : a < 2)
    (H0 : ¬ mq_bd 20 v.toInt → post 0 u)
    (H1 : mq_bd 20 v.toInt → ∀ c w, mq_G c a2 w → (∀ j, mq_R c j = if j = 2 * s + a then v.toInt else mq_R a1 j) → post 1 w) : wpX_reward post u (nI s) (nI a) v := by
  obtain ⟨b, kb, sv, bp, bd, a3, a4, a5, a6, a7, rfl, h⟩ := hu
  unfold wpX_reward
  refine mq_isState _ hs ?_
  refine br_f mq_1n0 ?_
  refine br_f (nI_pos (by omega)) ?_
  refine br_f (nI_nlt (a := 1) (b := a) (by omega) (by decide)) ?_
  have e1 : v < -20 ↔ v.toInt < -20 := Int32.lt_iff_toInt_lt
  have e2 : v ≤ 20 ↔ v.toInt ≤ 20 := Int32.le_iff_toInt_le
  by_cases g1 : v.toInt < -20
  · exact br_t (e1.mpr g1) (H0 (fun z => absurd z.1 (by omega)))
  · refine br_f (fun z => g1 (e1.mp z)) ?_
    by_cases g2 : v.toInt ≤ 20
    · have bd20 : mq_bd 20 v.toInt := ⟨by omega, g2⟩
      refine br_t (e2.mpr g2) ⟨pk_in (2 * s + a) 8 (by omega) (mq_ix2 s a), nm_e ?_⟩
      rw [mq_ix2, nI_clamp (show 2 * s + a < 2 ^ 31 by omega), mq_byte (mq_bd_mono bd20 (by decide))]
      exact H1 bd20 _ _ ⟨_, _, _, _, _, _, _, _, _, _, rfl, fun z => absurd rfl z⟩ (fun j => mq_upd)
    · exact br_f (fun z => g2 (e2.mp z)) (H0 (fun z => g2 z.2))
/-- the shares of a number, digit by digit -/
def mq_dg (Q t : Nat) : Nat := Q / 5 ^ (3 - t) % 5
theorem mq_small : ∀ k, k < 5 → (nI k).toInt8.toInt32 = nI k := by
  decide +kernel
theorem mq_5n0 : ¬ (5 : Int32) = 0 := by decide
theorem mq_div5 {r : Nat} (h : r < 2 ^ 31) : nI r / 5 = nI (r / 5) := pk_div (d := 5) h (by omega) (by decide)
theorem mq_rem5 {r : Nat} (h : r < 2 ^ 31) : nI r - nI r / 5 * 5 = nI (r % 5) := pk_rem (d := 5) h (by omega) (by decide)
theorem mq_pow (Q : Nat) : ∀ i, i < 4 → Q / 5 ^ (3 - i) / 5 = Q / 5 ^ (4 - i) := by
  refine mq_4 ?_ ?_ ?_ ?_
  · show Q / 125 / 5 = Q / 625
    omega
  · show Q / 25 / 5 = Q / 125
    omega
  · show Q / 5 / 5 = Q / 25
    omega
  · show Q / 1 / 5 = Q / 5
    omega
theorem mq_powle (Q i : Nat) : Q / 5 ^ i ≤ Q := Nat.div_le_self _ _
theorem mq_shares {post : Int32 → St1 → Prop} {a1 a2 : Nat → Int32} {u : St1} {s a Q : Nat} (hu : mq_G a1 a2 u) (hs : s < 4) (ha : a < 2) (hQ : Q < 625) (h4 : Q / 125 + Q / 25 % 5 + Q / 5 % 5 + Q % 5 = 4)
    (H : ∀ c w, mq_G a1 c w → (∀ j, mq_R c j = if j / 4 = 2 * s + a then (mq_dg Q (j % 4) : Int) else mq_R a2 j) → post 1 w) : wpX_shares post u (nI s) (nI a) (nI Q) := by
  obtain ⟨b, kb, sv, bp, bd, a3, a4, a5, a6, a7, rfl, h⟩ := hu
  unfold wpX_shares
  refine mq_isState _ hs ?_
  refine br_f mq_1n0 ?_
  refine br_f (nI_pos (by omega)) ?_
  refine br_f (nI_nlt (a := 1) (b := a) (by omega) (by decide)) ?_
  refine br_f (nI_pos (by omega)) ?_
  refine br_t (nI_le (a := Q) (b := 624) (by omega) (by decide)) ?_
  refine ⟨by decide, by decide, mq_5n0, mq_5n0, mq_5n0, mq_5n0, nm_r (show _ = nI 4 from ?_) (br_t rfl ?_)⟩
  · have d125 : nI Q / 125 = nI (Q / 125) := pk_div (d := 125) (by omega) (by omega) (by decide)
    have d25 : nI Q / 25 = nI (Q / 25) := pk_div (d := 25) (by omega) (by omega) (by decide)
    rw [mq_rem5 (show Q < 2 ^ 31 by omega), d125, d25, mq_rem5 (show Q / 25 < 2 ^ 31 by omega), mq_div5 (show Q < 2 ^ 31 by omega), mq_rem5 (show Q / 5 < 2 ^ 31 by omega), nI_add, nI_add, nI_add, h4]
  · refine ⟨5, ?_⟩
    have key := pk_loopD (fun n i c => wX_shares_67 post (nI s) (nI a) b kb sv bp bd n (nI (Q / 5 ^ (4 - i))) (nI i + (-1)) a1 c a3 a4 a5 a6 a7) (fun i c => i ≤ 4 ∧ ∀ j, mq_R c j = if j / 4 = 2 * s + a ∧ i ≤ j % 4 then (mq_dg Q (j % 4) : Int) else mq_R a2 j) ?_ ?_ 4 a2 ⟨by omega, fun j => by rw [if_neg (by omega)]⟩
    · have k2 : wX_shares_67 post (nI s) (nI a) b kb sv bp bd 5 (nI (Q / 1)) (nI 3) a1 a2 a3 a4 a5 a6 a7 := key
      rw [Nat.div_one] at k2
      exact k2
    · intro n c hc
      refine br_t (show nI 0 + (-1) < 0 by decide) (H c _ ⟨_, _, _, _, _, _, _, _, _, _, rfl, fun z => absurd rfl z⟩ (fun j => ?_))
      rw [hc.2 j]
      by_cases e : j / 4 = 2 * s + a
      · rw [if_pos e, if_pos ⟨e, by omega⟩]
      · rw [if_neg e, if_neg (fun z => e z.1)]
    · intro n i c hc hw
      have hi : i < 4 := by have := hc.1; omega
      show wX_shares_67 post (nI s) (nI a) b kb sv bp bd (n + 1) (nI (Q / 5 ^ (4 - (i + 1)))) (nI (i + 1) + (-1)) a1 c a3 a4 a5 a6 a7
      rw [pk_m1, show 4 - (i + 1) = 3 - i by omega]
      have hr := mq_powle Q (3 - i)
      refine br_f (nI_pos (by omega)) ⟨mq_5n0, pk_in (4 * (2 * s + a) + i) 32 (by omega) (mq_ix42 s a i), nm_e ⟨mq_5n0, nm_r (show _ = nI (Q / 5 ^ (4 - i)) by rw [mq_div5 (by omega), mq_pow Q i hi]) (nm_e (hw _ ⟨by omega, fun j => ?_⟩))⟩⟩
      rw [mq_ix42, nI_clamp (show 4 * (2 * s + a) + i < 2 ^ 31 by omega), mq_rem5 (by omega), mq_small _ (Nat.mod_lt _ (by omega)), mq_upd]
      by_cases e : j = 4 * (2 * s + a) + i
      · rw [if_pos e, if_pos ⟨by omega, by omega⟩, show j % 4 = i by omega, nI_toInt (by have := Nat.mod_lt (Q / 5 ^ (3 - i)) (show 0 < 5 by omega); omega)]
        rfl
      · rw [if_neg e, hc.2 j]
        by_cases g : j / 4 = 2 * s + a ∧ i + 1 ≤ j % 4
        · rw [if_pos g, if_pos ⟨g.1, by omega⟩]
        · rw [if_neg g, if_neg (by omega)]
theorem mq_abc : ∀ a, a < 5 → ∀ b, b < 5 → ∀ c, c < 5 → a + b + c ≤ 4 → (125 * a + 25 * b + 5 * c + 4 - a - b - c) / 125 + (125 * a + 25 * b + 5 * c + 4 - a - b - c) / 25 % 5 + (125 * a + 25 * b + 5 * c + 4 - a - b - c) / 5 % 5 + (125 * a + 25 * b + 5 * c + 4 - a - b - c) % 5 = 4 := by
  decide +kernel
/-- the law's shares: four digits that sum up to four; and turned -/
theorem mq_Lshares {post : Int32 → Prop} {w : Int32} (H : ∀ Q, Q < 625 → Q / 125 + Q / 25 % 5 + Q / 5 % 5 + Q % 5 = 4 → post (nI Q)) : wpL_shares post () w := by
  obtain ⟨A, hA, eA⟩ := pk_andE w (m := 255) 8 (by decide)
  obtain ⟨B, hB, eB⟩ := pk_andE (w >>> ((8 : Int32) &&& 31)) (m := 255) 8 (by decide)
  obtain ⟨C, hC, eC⟩ := pk_andE (w >>> ((16 : Int32) &&& 31)) (m := 255) 8 (by decide)
  unfold wpL_shares
  rw [eA, eB, eC]
  have ha := Nat.mod_lt A (show 0 < 5 by omega)
  refine ⟨mq_5n0, nm_r (mq_rem5 (by omega)) ?_⟩
  generalize A % 5 = a at *
  have e1 : (5 : Int32) - nI a = nI (5 - a) := pk_sub (a := 5) (by omega)
  rw [e1]
  have hb := Nat.mod_lt B (show 0 < 5 - a by omega)
  refine ⟨nI_ne0 (by omega) (by omega), nm_r (pk_rem (by omega) (by omega) (by omega)) ?_⟩
  generalize B % (5 - a) = b at *
  rw [pk_sub (show b ≤ 5 - a by omega)]
  have hc := Nat.mod_lt C (show 0 < 5 - a - b by omega)
  refine ⟨nI_ne0 (by omega) (by omega), nm_r (pk_rem (by omega) (by omega) (by omega)) ?_⟩
  generalize C % (5 - a - b) = c at *
  have e2 : (125 : Int32) * nI a + 25 * nI b + 5 * nI c + 4 - nI a - nI b - nI c = nI (125 * a + 25 * b + 5 * c + 4 - a - b - c) := by
    show nI 125 * nI a + nI 25 * nI b + nI 5 * nI c + nI 4 - nI a - nI b - nI c = nI (125 * a + 25 * b + 5 * c + 4 - a - b - c)
    rw [pk_mul, pk_mul, pk_mul, nI_add, nI_add, nI_add, pk_sub (by omega), pk_sub (by omega), pk_sub (by omega)]
  rw [e2]
  exact H _ (by omega) (mq_abc a (by omega) b (by omega) c (by omega) (by omega))
def mq_tn (Q : Nat) : Nat := 125 * (Q % 5) + 25 * (Q / 5 % 5) + 5 * (Q / 25 % 5) + Q / 125
theorem mq_Lturned {post : Int32 → Prop} {Q : Nat} (hQ : Q < 625) (H : post (nI (mq_tn Q))) : wpL_turned post () (nI Q) := by
  have d125 : nI Q / 125 = nI (Q / 125) := pk_div (d := 125) (by omega) (by omega) (by decide)
  have d25 : nI Q / 25 = nI (Q / 25) := pk_div (d := 25) (by omega) (by omega) (by decide)
  unfold wpL_turned
  refine ⟨mq_5n0, mq_5n0, mq_5n0, by decide, mq_5n0, by decide, ?_⟩
  rw [mq_rem5 (show Q < 2 ^ 31 by omega), d125, d25, mq_rem5 (show Q / 25 < 2 ^ 31 by omega), mq_div5 (show Q < 2 ^ 31 by omega), mq_rem5 (show Q / 5 < 2 ^ 31 by omega)]
  have e : (125 : Int32) * nI (Q % 5) + 25 * nI (Q / 5 % 5) + 5 * nI (Q / 25 % 5) + nI (Q / 125) = nI (mq_tn Q) := by
    show nI 125 * nI (Q % 5) + nI 25 * nI (Q / 5 % 5) + nI 5 * nI (Q / 25 % 5) + nI (Q / 125) = nI (mq_tn Q)
    rw [pk_mul, pk_mul, pk_mul, nI_add, nI_add, nI_add]
    rfl
  rw [e]
  exact H
theorem mq_tn_lt {Q : Nat} (h : Q < 625) : mq_tn Q < 625 := by
  unfold mq_tn
  omega
theorem mq_tn_all : ∀ Q, Q < 625 → (∀ t, t < 4 → mq_dg (mq_tn Q) (3 - t) = mq_dg Q t) ∧ mq_tn Q / 125 + mq_tn Q / 25 % 5 + mq_tn Q / 5 % 5 + mq_tn Q % 5 = Q / 125 + Q / 25 % 5 + Q / 5 % 5 + Q % 5 := by
  decide +kernel
theorem mq_tn_dg {Q : Nat} (h : Q < 625) : ∀ t, t < 4 → mq_dg (mq_tn Q) (3 - t) = mq_dg Q t := (mq_tn_all Q h).1
theorem mq_tn_4 {Q : Nat} (h : Q < 625) (h4 : Q / 125 + Q / 25 % 5 + Q / 5 % 5 + Q % 5 = 4) : mq_tn Q / 125 + mq_tn Q / 25 % 5 + mq_tn Q / 5 % 5 + mq_tn Q % 5 = 4 := (mq_tn_all Q h).2.trans h4
end
section
/-- each action of the new process is one of the old -/
def mq_from (R H R' H' : Nat → Int) (f : Nat → Nat) : Prop := ∀ x, x < 8 → f x < 8 ∧ R' x = R (f x) ∧ ∀ t, t < 4 → H' (4 * x + t) = H (4 * f x + t)
theorem mq_from_ok {R H R' H' : Nat → Int} {f : Nat → Nat} (ok : mq_ok R H) (h : mq_from R H R' H' f) : mq_ok R' H' := by
  refine ⟨fun j hj => ?_, fun j hj => ?_, fun x hx => ?_⟩
  · obtain ⟨h1, h2, _⟩ := h j hj
    rw [h2]
    exact ok.1 _ h1
  · obtain ⟨h1, _, h3⟩ := h (j / 4) (by omega)
    have z := h3 (j % 4) (by omega)
    rw [show 4 * (j / 4) + j % 4 = j by omega] at z
    rw [z]
    exact ok.2.1 _ (by omega)
  · obtain ⟨h1, _, h3⟩ := h x hx
    rw [h3 0 (by omega), h3 1 (by omega), h3 2 (by omega), h3 3 (by omega)]
    exact ok.2.2 _ h1
/-- do two actions differ -/
noncomputable def mq_df (R H : Nat → Int) (x y : Nat) : Nat := @ite Nat (R x = R y ∧ (∀ t, t < 4 → H (4 * x + t) = H (4 * y + t))) (Classical.propDecidable _) 0 1
theorem mq_df_sym (R H : Nat → Int) (x y : Nat) : mq_df R H x y = mq_df R H y x := by
  unfold mq_df
  by_cases e : R x = R y ∧ (∀ t, t < 4 → H (4 * x + t) = H (4 * y + t))
  · rw [if_pos e, if_pos ⟨e.1.symm, fun t ht => (e.2 t ht).symm⟩]
  · rw [if_neg e, if_neg (fun z => e ⟨z.1.symm, fun t ht => (z.2 t ht).symm⟩)]
theorem mq_df_lt (R H : Nat → Int) (x y : Nat) : mq_df R H x y < 2 := by
  unfold mq_df
  split <;> omega
theorem mq_Rinj {c d : Nat → Int32} {i j : Nat} (h : mq_R c i = mq_R d j) : c i = d j := Int32.toInt_inj.mp h
section
variable {b kb bd : Int64} {sv bp : Int32} {a1 a2 a7 : Nat → Int32} {a3 a4 a5 a6 : Nat → Int64}
theorem mq_ca91 {post : Int32 → St1 → Prop} {J55 : Int32 → Int32 → (Nat → Int32) → (Nat → Int32) → (Nat → Int64) → (Nat → Int64) → (Nat → Int64) → (Nat → Int64) → (Nat → Int32) → Prop} {x6 : Int32} {x y i : Nat} (hx : x < 8) (hy : y < 8) (hi : i < 4)
    (H : J55 x6 (nI (i + 1)) a1 (upd a2 (4 * y + i) (vp_nar .byte (a2 (4 * x + i)))) a3 a4 a5 a6 a7) : wX_copyAction_91 post J55 (nI x) (nI y) x6 (nI i) b kb sv bp bd a1 a2 a3 a4 a5 a6 a7 := by
  unfold wX_copyAction_91
  rw [mq_ix4, mq_ix4, nI_clamp (show 4 * x + i < 2 ^ 31 by omega), nI_clamp (show 4 * y + i < 2 ^ 31 by omega)]
  exact ⟨vp_in_nI (by omega) (by decide), vp_in_nI (by omega) (by decide), nm_e (nm_r (nI_1 i) H)⟩
theorem mq_ca36 {post : Int32 → St1 → Prop} {x y z : Nat} (ok : mq_ok (mq_R a1) (mq_R a2)) (hx : x < 8) (hy : y < 8) (hn : x ≠ y) (hz : z = if mq_R a1 x = mq_R a1 y then 0 else 1)
    (H : ∀ c1 c2, mq_from (mq_R a1) (mq_R a2) (mq_R c1) (mq_R c2) (fun j => if j = y then x else j) → post (nI (mq_df (mq_R a1) (mq_R a2) x y)) (b, kb, sv, bp, bd, c1, c2, a3, a4, a5, a6, a7)) : wX_copyAction_36 post (nI x) (nI y) (nI z) b kb sv bp bd a1 a2 a3 a4 a5 a6 a7 := by
  unfold wX_copyAction_36
  rw [nI_clamp (show x < 2 ^ 31 by omega), nI_clamp (show y < 2 ^ 31 by omega)]
  have hb : ∀ j, j < 32 → mq_bd 127 (a2 j).toInt := fun j hj => by
    have h2 : 0 ≤ (a2 j).toInt ∧ (a2 j).toInt ≤ 4 := ok.2.1 j hj
    unfold mq_bd
    omega
  have h1 : vp_nar .byte (a1 x) = a1 x := mq_nar (mq_bd_mono (show mq_bd 20 (a1 x).toInt from ok.1 x hx) (by decide))
  refine ⟨vp_in_nI hx (by decide), vp_in_nI hy (by decide), nm_e ?_⟩
  rw [h1]
  refine pk_loop (σ := Nat × (Nat → Int32)) (fun n i s => wX_copyAction_55 post (nI x) (nI y) b kb sv bp bd n (nI s.1) (nI i) (upd a1 y (a1 x)) s.2 a3 a4 a5 a6 a7)
    (fun i s => (s.1 = if z = 0 ∧ (∀ t, t < i → mq_R a2 (4 * x + t) = mq_R a2 (4 * y + t)) then 0 else 1) ∧ ∀ j, mq_R s.2 j = if j / 4 = y ∧ j % 4 < i then mq_R a2 (4 * x + j % 4) else mq_R a2 j) 4 0 (z, a2) (by omega) ⟨?_, ?_⟩ ?_ ?_
  · by_cases e : mq_R a1 x = mq_R a1 y
    · rw [if_pos e] at hz
      rw [if_pos ⟨hz, fun t ht => absurd ht (by omega)⟩, hz]
    · rw [if_neg e] at hz
      rw [if_neg (fun q => absurd q.1 (by omega)), hz]
  · intro j
    rw [if_neg (by omega)]
  · intro n s h
    obtain ⟨fl, c⟩ := s
    obtain ⟨hf, hc⟩ := h
    dsimp only at hf hc
    show wX_copyAction_55 post (nI x) (nI y) b kb sv bp bd (n + 1) (nI fl) (nI 4) (upd a1 y (a1 x)) c a3 a4 a5 a6 a7
    have ef : fl = mq_df (mq_R a1) (mq_R a2) x y := by
      rw [hf]
      unfold mq_df
      by_cases e : mq_R a1 x = mq_R a1 y
      · rw [if_pos e] at hz
        by_cases g : ∀ t, t < 4 → mq_R a2 (4 * x + t) = mq_R a2 (4 * y + t)
        · rw [if_pos ⟨hz, g⟩, if_pos ⟨e, g⟩]
        · rw [if_neg (fun q => g q.2), if_neg (fun q => g q.2)]
      · rw [if_neg e] at hz
        rw [if_neg (fun q => absurd q.1 (by omega)), if_neg (fun q => e q.1)]
    have hl := mq_df_lt (mq_R a1) (mq_R a2) x y
    refine pk_le 4 4 (fun _ => ⟨?_, ?_⟩) (fun q => absurd q (by omega))
    · rw [ef]
      revert hl
      generalize mq_df (mq_R a1) (mq_R a2) x y = d
      intro hl
      match d, hl with
      | 0, _ => rfl
      | 1, _ => rfl
    · rw [ef]
      refine H _ _ (fun j hj => ⟨?_, ?_, fun t ht => ?_⟩)
      · show (if j = y then x else j) < 8
        split <;> omega
      · show mq_R (upd a1 y (a1 x)) j = mq_R a1 (if j = y then x else j)
        rw [mq_upd]
        split <;> rfl
      · show mq_R c (4 * j + t) = mq_R a2 (4 * (if j = y then x else j) + t)
        rw [hc (4 * j + t), show (4 * j + t) / 4 = j by omega, show (4 * j + t) % 4 = t by omega]
        by_cases e : j = y
        · rw [if_pos ⟨e, ht⟩, if_pos e]
        · rw [if_neg (fun q => e q.1), if_neg e]
  · intro n i s hi h hw
    obtain ⟨fl, c⟩ := s
    obtain ⟨hf, hc⟩ := h
    dsimp only at hf hc
    show wX_copyAction_55 post (nI x) (nI y) b kb sv bp bd (n + 1) (nI fl) (nI i) (upd a1 y (a1 x)) c a3 a4 a5 a6 a7
    have ex : c (4 * x + i) = a2 (4 * x + i) := by
      refine mq_Rinj ?_
      rw [hc (4 * x + i), if_neg (by omega)]
    have ey : c (4 * y + i) = a2 (4 * y + i) := by
      refine mq_Rinj ?_
      rw [hc (4 * y + i), if_neg (by omega)]
    have nx : ∀ j, mq_R (upd c (4 * y + i) (vp_nar .byte (c (4 * x + i)))) j = if j / 4 = y ∧ j % 4 < i + 1 then mq_R a2 (4 * x + j % 4) else mq_R a2 j := by
      intro j
      rw [mq_upd, ex, mq_nar (hb _ (by omega))]
      by_cases e : j = 4 * y + i
      · rw [if_pos e, if_pos ⟨by omega, by omega⟩, show j % 4 = i by omega]
        rfl
      · rw [if_neg e, hc j]
        by_cases g : j / 4 = y ∧ j % 4 < i
        · rw [if_pos g, if_pos ⟨g.1, by omega⟩]
        · rw [if_neg g, if_neg (by omega)]
    refine pk_le 4 i (fun q => absurd q (by omega)) (fun _ => ⟨pk_in (4 * x + i) 32 (by omega) (mq_ix4 x i), pk_in (4 * y + i) 32 (by omega) (mq_ix4 y i), ?_⟩)
    rw [mq_ix4, mq_ix4, nI_clamp (show 4 * x + i < 2 ^ 31 by omega), nI_clamp (show 4 * y + i < 2 ^ 31 by omega)]
    by_cases e : mq_R a2 (4 * x + i) = mq_R a2 (4 * y + i)
    · refine br_t (show c (4 * x + i) = c (4 * y + i) by rw [ex, ey]; exact mq_Rinj e) (mq_ca91 hx hy hi (hw (fl, _) ⟨?_, nx⟩))
      show fl = _
      rw [hf]
      by_cases g : z = 0 ∧ (∀ t, t < i → mq_R a2 (4 * x + t) = mq_R a2 (4 * y + t))
      · rw [if_pos g, if_pos ⟨g.1, lt_s g.2 e⟩]
      · rw [if_neg g, if_neg (fun q => g ⟨q.1, fun t ht => q.2 t (by omega)⟩)]
    · refine br_f (show ¬ c (4 * x + i) = c (4 * y + i) by rw [ex, ey]; exact fun q => e (congrArg Int32.toInt q)) (mq_ca91 hx hy hi (hw (1, _) ⟨?_, nx⟩))
      show 1 = _
      rw [if_neg (fun q => e (q.2 i (by omega)))]
theorem mq_copy {post : Int32 → St1 → Prop} {s f t : Nat} (ok : mq_ok (mq_R a1) (mq_R a2)) (hs : s < 4) (hf : f < 2) (ht : t < 2) (hn : f ≠ t)
    (H : ∀ c1 c2, mq_from (mq_R a1) (mq_R a2) (mq_R c1) (mq_R c2) (fun j => if j = 2 * s + t then 2 * s + f else j) → post (nI (mq_df (mq_R a1) (mq_R a2) (2 * s + f) (2 * s + t))) (b, kb, sv, bp, bd, c1, c2, a3, a4, a5, a6, a7)) : wpX_copyAction post (b, kb, sv, bp, bd, a1, a2, a3, a4, a5, a6, a7) (nI s) (nI f) (nI t) := by
  refine nm_r (mq_ix2 s f) (nm_r (mq_ix2 s t) ⟨pk_in (2 * s + f) 8 (by omega), pk_in (2 * s + t) 8 (by omega), ?_⟩)
  rw [nI_clamp (show 2 * s + f < 2 ^ 31 by omega), nI_clamp (show 2 * s + t < 2 ^ 31 by omega)]
  by_cases e : mq_R a1 (2 * s + f) = mq_R a1 (2 * s + t)
  · exact br_t (mq_Rinj e) (mq_ca36 (z := 0) ok (by omega) (by omega) (by omega) (by rw [if_pos e]) H)
  · exact br_f (fun q => e (congrArg Int32.toInt q)) (mq_ca36 (z := 1) ok (by omega) (by omega) (by omega) (by rw [if_neg e]) H)
theorem mq_pr15 {post : Int32 → St1 → Prop} {J8 : Int32 → Int32 → Int64 → Int64 → Int32 → Int32 → Int64 → (Nat → Int32) → (Nat → Int32) → (Nat → Int64) → (Nat → Int64) → (Nat → Int64) → (Nat → Int64) → (Nat → Int32) → Prop} {s a k cnt : Nat} (n : Nat) (ok : mq_ok (mq_R a1) (mq_R a2)) (hs : s < 4) (ha : a < 2) (hk : k < 4) (h7 : a7 s = nI k)
    (H1 : ¬ k / 2 ^ a % 2 = 0 → wX_prune_15 post J8 (nI s) n (nI cnt) (nI (a + 1)) b kb sv bp bd a1 a2 a3 a4 a5 a6 a7)
    (H0 : k / 2 ^ a % 2 = 0 → ∀ c1 c2, mq_from (mq_R a1) (mq_R a2) (mq_R c1) (mq_R c2) (fun j => if j = 2 * s + a then 2 * s + (1 - a) else j) → wX_prune_15 post J8 (nI s) n (nI (cnt + mq_df (mq_R a1) (mq_R a2) (2 * s + (1 - a)) (2 * s + a))) (nI (a + 1)) b kb sv bp bd c1 c2 a3 a4 a5 a6 a7) :
    wX_prune_15 post J8 (nI s) (n + 1) (nI cnt) (nI a) b kb sv bp bd a1 a2 a3 a4 a5 a6 a7 := by
  refine pk_le 2 a (fun z => absurd z (by omega)) (fun _ => ⟨pk_in s 4 hs, ?_⟩)
  rw [nI_clamp (show s < 2 ^ 31 by omega), h7]
  have q := mq_bit a ha k hk
  by_cases e : k / 2 ^ a % 2 = 0
  · refine br_t (q.mpr e) ?_
    have e1 : (1 : Int32) - nI a = nI (1 - a) := pk_sub (a := 1) (by omega)
    rw [e1]
    refine mq_copy ok hs (by omega) ha (by omega) (fun c1 c2 hc => ?_)
    have hl := mq_df_lt (mq_R a1) (mq_R a2) (2 * s + (1 - a)) (2 * s + a)
    have HH := H0 e c1 c2 hc
    refine pk_eq (mq_df (mq_R a1) (mq_R a2) (2 * s + (1 - a)) (2 * s + a)) 0 (fun g => nm_r (nI_1 a) ?_) (fun g => nm_r (show _ = nI (cnt + mq_df (mq_R a1) (mq_R a2) (2 * s + (1 - a)) (2 * s + a)) from ?_) (nm_r (nI_1 a) HH))
    · rw [g] at HH
      exact HH
    · rw [nI_1]
      congr 1
      omega
  · exact br_f (fun z => e (q.mp z)) (nm_r (nI_1 a) (H1 e))
/-- where an action comes from, in the state s with the mask k -/
def mq_pk (s k x : Nat) : Nat := if x / 2 = s then (if k = 1 then 2 * s else if k = 2 then 2 * s + 1 else x) else x
theorem mq_prs {post : Int32 → St1 → Prop} {J8 : Int32 → Int32 → Int64 → Int64 → Int32 → Int32 → Int64 → (Nat → Int32) → (Nat → Int32) → (Nat → Int64) → (Nat → Int64) → (Nat → Int64) → (Nat → Int64) → (Nat → Int32) → Prop} {s k cnt : Nat} (ok : mq_ok (mq_R a1) (mq_R a2)) (hs : s < 4) (h0 : 0 < k) (hk : k < 4) (h7 : a7 s = nI k)
    (H : ∀ c1 c2, mq_from (mq_R a1) (mq_R a2) (mq_R c1) (mq_R c2) (mq_pk s k) → J8 (nI (cnt + (if k = 3 then 0 else mq_df (mq_R a1) (mq_R a2) (2 * s) (2 * s + 1)))) (nI (s + 1)) b kb sv bp bd c1 c2 a3 a4 a5 a6 a7) :
    ∃ n, wX_prune_15 post J8 (nI s) n (nI cnt) 0 b kb sv bp bd a1 a2 a3 a4 a5 a6 a7 := by
  have idm : ∀ f : Nat → Nat, (∀ x, x < 8 → f x = x) → mq_from (mq_R a1) (mq_R a2) (mq_R a1) (mq_R a2) f := fun f hf x hx => ⟨by rw [hf x hx]; exact hx, by rw [hf x hx], fun t _ => by rw [hf x hx]⟩
  have cg : ∀ (c1 c2 : Nat → Int32) (f g : Nat → Nat), (∀ x, x < 8 → f x = g x) → mq_from (mq_R a1) (mq_R a2) (mq_R c1) (mq_R c2) f → mq_from (mq_R a1) (mq_R a2) (mq_R c1) (mq_R c2) g := fun c1 c2 f g hf h x hx => by
    have := h x hx
    rw [hf x hx] at this
    exact this
  refine ⟨3, ?_⟩
  refine mq_pr15 (a := 0) (k := k) 2 ok hs (by omega) hk h7 (fun e => ?_) (fun e c1 c2 hc => ?_)
  · refine mq_pr15 (a := 1) (k := k) 1 ok hs (by omega) hk h7 (fun g => ?_) (fun g c1 c2 hc => ?_)
    · refine pk_le 2 2 (fun _ => nm_r (nI_1 s) ?_) (fun z => absurd z (by omega))
      have k3 : k = 3 := by
        have e' : ¬ k / 1 % 2 = 0 := e
        have g' : ¬ k / 2 % 2 = 0 := g
        omega
      have HH := H a1 a2 (idm _ (fun x hx => by unfold mq_pk; rw [if_neg (show ¬ k = 1 by omega), if_neg (show ¬ k = 2 by omega)]; split <;> rfl))
      rw [if_pos k3] at HH
      exact HH
    · refine pk_le 2 2 (fun _ => nm_r (nI_1 s) ?_) (fun z => absurd z (by omega))
      have k1 : k = 1 := by
        have e' : ¬ k / 1 % 2 = 0 := e
        have g' : k / 2 % 2 = 0 := g
        omega
      have HH := H c1 c2 (cg c1 c2 _ _ (fun x hx => by
        unfold mq_pk
        rw [if_pos k1]
        show (if x = 2 * s + 1 then 2 * s + 0 else x) = _
        split <;> split <;> omega) hc)
      rw [if_neg (show ¬ k = 3 by omega)] at HH
      exact HH
  · have e' : k / 1 % 2 = 0 := e
    have k2 : k = 2 := by omega
    refine mq_pr15 (a := 1) (k := k) 1 (mq_from_ok ok hc) hs (by omega) hk h7 (fun g => ?_) (fun g => ?_)
    · refine pk_le 2 2 (fun _ => nm_r (nI_1 s) ?_) (fun z => absurd z (by omega))
      have HH := H c1 c2 (cg c1 c2 _ _ (fun x hx => by
        unfold mq_pk
        rw [if_neg (show ¬ k = 1 by omega), if_pos k2]
        show (if x = 2 * s + 0 then 2 * s + 1 else x) = _
        split <;> split <;> omega) hc)
      rw [if_neg (show ¬ k = 3 by omega), mq_df_sym] at HH
      exact HH
    · have g' : k / 2 % 2 = 0 := g
      exact absurd g' (by omega)
end
/-- where actions come from, in all states below i; how many have changed -/
def mq_src (g : Nat → Nat) (i x : Nat) : Nat := if x / 2 < i then mq_pk (x / 2) (g (x / 2)) x else x
noncomputable def mq_dc (R H : Nat → Int) (g : Nat → Nat) (s : Nat) : Nat := if g s = 3 then 0 else mq_df R H (2 * s) (2 * s + 1)
noncomputable def mq_ds (R H : Nat → Int) (g : Nat → Nat) : Nat → Nat
  | 0 => 0
  | i + 1 => mq_ds R H g i + mq_dc R H g i
theorem mq_pk_in {s k x : Nat} (h : x / 2 = s) : mq_pk s k x / 2 = s := by
  unfold mq_pk
  rw [if_pos h]
  split
  · omega
  · split <;> omega
theorem mq_gm_pos {R H T : Nat → Int} {D : Int} (h : mq_opt R H T D) {s : Nat} (hs : s < 4) : 0 < mq_gm R H T D s := by
  obtain ⟨a, ha, e⟩ := (h.2 s hs).1
  unfold mq_gm
  match a, ha with
  | 0, _ => rw [if_pos e]; omega
  | 1, _ => rw [if_pos (c := mq_gain R H T D (2 * s + 1) = 8 * T s) e]; omega
theorem mq_prune {post : Int32 → St1 → Prop} {a1 a2 : Nat → Int32} {u : St1} (ok : mq_ok (mq_R a1) (mq_R a2)) (hu : mq_G a1 a2 u)
    (H : ∀ T D c1 c2 v, mq_opt (mq_R a1) (mq_R a2) T D → mq_from (mq_R a1) (mq_R a2) (mq_R c1) (mq_R c2) (mq_src (mq_gm (mq_R a1) (mq_R a2) T D) 4) → mq_G c1 c2 v → post (nI (mq_ds (mq_R a1) (mq_R a2) (mq_gm (mq_R a1) (mq_R a2) T D) 4)) v) : wpX_prune post u := by
  obtain ⟨b, kb, sv, bp, bd, a3, a4, a5, a6, a7, rfl, h⟩ := hu
  unfold wpX_prune
  refine mq_solve ok h (fun b kb sv bp bd a3 a4 a5 a6 a7 hsv hb => ?_)
  obtain ⟨T, D, ho, hDb, hTb, hD, h6, h7⟩ := id hb
  refine pk_loop (σ := Nat × (Nat → Int32) × (Nat → Int32)) (fun n i s => wX_prune_8 post n (nI s.1) (nI i) b kb sv bp bd s.2.1 s.2.2 a3 a4 a5 a6 a7)
    (fun i s => mq_from (mq_R a1) (mq_R a2) (mq_R s.2.1) (mq_R s.2.2) (mq_src (mq_gm (mq_R a1) (mq_R a2) T D) i) ∧ s.1 = mq_ds (mq_R a1) (mq_R a2) (mq_gm (mq_R a1) (mq_R a2) T D) i) 4 0 (0, a1, a2) (by omega) ⟨?_, rfl⟩ ?_ ?_
  · intro x hx
    have e : mq_src (mq_gm (mq_R a1) (mq_R a2) T D) 0 x = x := if_neg (by omega)
    rw [e]
    exact ⟨hx, rfl, fun t _ => rfl⟩
  · intro n s hs
    obtain ⟨cnt, c1, c2⟩ := s
    obtain ⟨hf, hc⟩ := hs
    dsimp only at hf hc
    show wX_prune_8 post (n + 1) (nI cnt) (nI 4) b kb sv bp bd c1 c2 a3 a4 a5 a6 a7
    refine pk_le 4 4 (fun _ => ?_) (fun z => absurd z (by omega))
    rw [hc]
    exact H T D c1 c2 _ ho hf ⟨_, _, _, _, _, _, _, _, _, _, rfl, fun z => absurd rfl z⟩
  · intro n i s hi hs hw
    obtain ⟨cnt, c1, c2⟩ := s
    obtain ⟨hf, hc⟩ := hs
    dsimp only at hf hc
    show wX_prune_8 post (n + 1) (nI cnt) (nI i) b kb sv bp bd c1 c2 a3 a4 a5 a6 a7
    refine pk_le 4 i (fun z => absurd z (by omega)) (fun _ => mq_prs (mq_from_ok ok hf) hi (mq_gm_pos ho hi) (mq_gm_lt _ _ _ _ _) (h7 i hi) (fun d1 d2 hd => ?_))
    refine hw (_, d1, d2) ⟨?_, ?_⟩
    · intro x hx
      obtain ⟨p1, p2, p3⟩ := hd x hx
      obtain ⟨q1, q2, q3⟩ := hf _ p1
      have e : mq_src (mq_gm (mq_R a1) (mq_R a2) T D) i (mq_pk i (mq_gm (mq_R a1) (mq_R a2) T D i) x) = mq_src (mq_gm (mq_R a1) (mq_R a2) T D) (i + 1) x := by
        by_cases g : x / 2 = i
        · have w := mq_pk_in (k := mq_gm (mq_R a1) (mq_R a2) T D i) g
          unfold mq_src
          rw [if_neg (by omega), if_pos (by omega), g]
        · have w : mq_pk i (mq_gm (mq_R a1) (mq_R a2) T D i) x = x := if_neg g
          rw [w]
          unfold mq_src
          by_cases l : x / 2 < i
          · rw [if_pos l, if_pos (by omega)]
          · rw [if_neg l, if_neg (by omega)]
      rw [e] at q1 q2 q3
      exact ⟨q1, p2.trans q2, fun t ht => (p3 t ht).trans (q3 t ht)⟩
    · show cnt + _ = mq_ds (mq_R a1) (mq_R a2) (mq_gm (mq_R a1) (mq_R a2) T D) i + mq_dc (mq_R a1) (mq_R a2) (mq_gm (mq_R a1) (mq_R a2) T D) i
      rw [hc]
      unfold mq_dc
      obtain ⟨_, r0, t0⟩ := hf (2 * i) (by omega)
      obtain ⟨_, r1, t1⟩ := hf (2 * i + 1) (by omega)
      have e0 : mq_src (mq_gm (mq_R a1) (mq_R a2) T D) i (2 * i) = 2 * i := if_neg (by omega)
      have e1 : mq_src (mq_gm (mq_R a1) (mq_R a2) T D) i (2 * i + 1) = 2 * i + 1 := if_neg (by omega)
      rw [e0] at r0 t0
      rw [e1] at r1 t1
      have ed : mq_df (mq_R c1) (mq_R c2) (2 * i) (2 * i + 1) = mq_df (mq_R a1) (mq_R a2) (2 * i) (2 * i + 1) := by
        unfold mq_df
        rw [r0, r1]
        by_cases g : mq_R a1 (2 * i) = mq_R a1 (2 * i + 1) ∧ (∀ t, t < 4 → mq_R a2 (4 * (2 * i) + t) = mq_R a2 (4 * (2 * i + 1) + t))
        · rw [if_pos g, if_pos ⟨g.1, fun t ht => by rw [t0 t ht, t1 t ht]; exact g.2 t ht⟩]
        · rw [if_neg g, if_neg (fun q => g ⟨q.1, fun t ht => by rw [← t0 t ht, ← t1 t ht]; exact q.2 t ht⟩)]
      rw [ed]
end
section
theorem mq_tw_ok {R H R' H' : Nat → Int} (h : mq_tw R H R' H') (ok : mq_ok R H) : mq_ok R' H' := by
  refine ⟨fun j hj => ?_, fun j hj => ?_, fun x hx => ?_⟩
  · have z := h.1 (7 - j) (by omega)
    rw [show 7 - (7 - j) = j by omega] at z
    rw [z]
    exact ok.1 _ (by omega)
  · have z := h.2 (31 - j) (by omega)
    rw [show 31 - (31 - j) = j by omega] at z
    rw [z]
    exact ok.2.1 _ (by omega)
  · have e : ∀ t, t < 4 → H' (4 * x + t) = H (4 * (7 - x) + (3 - t)) := fun t ht => by
      rw [← h.2 (4 * (7 - x) + (3 - t)) (by omega)]
      congr 1
      omega
    rw [e 0 (by omega), e 1 (by omega), e 2 (by omega), e 3 (by omega)]
    have z := ok.2.2 (7 - x) (by omega)
    show H (4 * (7 - x) + 3) + H (4 * (7 - x) + 2) + H (4 * (7 - x) + 1) + H (4 * (7 - x) + 0) = 4
    omega
theorem mq_nm_x : ∀ p, p < 16 → ∀ i, i < 4 → mq_x (mq_nm p 4) (3 - i) = 7 - mq_x p i := by
  unfold mq_x
  decide +kernel
theorem mq_tw_m {R H R' H' : Nat → Int} (h : mq_tw R H R' H') {p : Nat} (hp : p < 16) : (∀ i c, i < 4 → c < 4 → mq_m R' H' (mq_nm p 4) (3 - i) (3 - c) = mq_m R H p i c) ∧ (∀ i, i < 4 → mq_m R' H' (mq_nm p 4) (3 - i) 4 = mq_m R H p i 4) := by
  refine ⟨fun i c hi hc => ?_, fun i hi => ?_⟩
  · have hx := mq_x_lt p hi
    unfold mq_m
    rw [if_pos (show 3 - c < 4 by omega), if_pos hc, mq_nm_x p hp i hi, ← h.2 (4 * mq_x p i + c) (by omega), show 31 - (4 * mq_x p i + c) = 4 * (7 - mq_x p i) + (3 - c) by omega]
    by_cases e : i = c
    · rw [if_pos e, if_pos (by omega)]
    · rw [if_neg e, if_neg (by omega)]
  · have hx := mq_x_lt p hi
    unfold mq_m
    rw [if_neg (by omega), if_neg (by omega), mq_nm_x p hp i hi, h.1 _ hx]
theorem mq_tw_V {R H R' H' : Nat → Int} (h : mq_tw R H R' H') {p : Nat} (hp : p < 16) : ∀ s, s < 4 → mq_V R' H' (mq_nm p 4) (3 - s) = mq_V R H p s :=
  mq_turnT (mq_tw_m h hp).1 (mq_tw_m h hp).2
theorem mq_tw_W {R H R' H' : Nat → Int} (h : mq_tw R H R' H') {p : Nat} (hp : p < 16) : mq_W R' H' (mq_nm p 4) = mq_W R H p :=
  mq_turnD (mq_tw_m h hp).1
section
variable {R H R' H' T U : Nat → Int} {D E : Int}
theorem mq_tw_good (ok : mq_ok R H) (h : mq_tw R H R' H') (ho : mq_opt R H T D) (go : mq_opt R' H' U E) {s a : Nat} (hs : s < 4) (ha : a < 2) : mq_gain R H T D (2 * s + a) = 8 * T s ↔ mq_gain R' H' U E (2 * (3 - s) + (1 - a)) = 8 * U (3 - s) := by
  rw [mq_opt_good ok ho (mq_tw_opt h go) hs (x := 2 * s + a), ← mq_tw_gain h (show 2 * s + a < 8 by omega), show 7 - (2 * s + a) = 2 * (3 - s) + (1 - a) by omega]
theorem mq_tw_low (ok : mq_ok R H) (h : mq_tw R H R' H') (ho : mq_opt R H T D) (go : mq_opt R' H' U E) {s : Nat} (hs : s < 4) : mq_lt (T s) D = mq_lt (U (3 - s)) E ∧ mq_lb (T s) D = mq_lb (U (3 - s)) E :=
  mq_low ho.1 go.1 (mq_opt_eq ok ho (mq_tw_opt h go) s hs)
theorem mq_tw_top (ok : mq_ok R H) (h : mq_tw R H R' H') (ho : mq_opt R H T D) (go : mq_opt R' H' U E) {s : Nat} (hs : s < 4) : mq_top (T s) D = mq_top (U (3 - s)) E := by
  unfold mq_top
  rw [(mq_tw_low ok h ho go hs).1]
theorem mq_tw_bot (ok : mq_ok R H) (h : mq_tw R H R' H') (ho : mq_opt R H T D) (go : mq_opt R' H' U E) {s : Nat} (hs : s < 4) : mq_bot (T s) D = mq_bot (U (3 - s)) E := by
  unfold mq_bot
  rw [(mq_tw_low ok h ho go hs).2]
def mq_sw (k : Nat) : Nat := k / 2 % 2 + k % 2 * 2
theorem mq_tw_gm (ok : mq_ok R H) (h : mq_tw R H R' H') (ho : mq_opt R H T D) (go : mq_opt R' H' U E) {s : Nat} (hs : s < 4) : mq_gm R' H' U E (3 - s) = mq_sw (mq_gm R H T D s) := by
  have e0 := mq_tw_good ok h ho go hs (show 0 < 2 by omega)
  have e1 := mq_tw_good ok h ho go hs (show 1 < 2 by omega)
  unfold mq_gm mq_sw
  by_cases g0 : mq_gain R H T D (2 * s + 0) = 8 * T s
  · by_cases g1 : mq_gain R H T D (2 * s + 1) = 8 * T s
    · rw [if_pos g0, if_pos g1, if_pos (e1.mp g1), if_pos (e0.mp g0)]
    · rw [if_pos g0, if_neg g1, if_neg (fun z => g1 (e1.mpr z)), if_pos (e0.mp g0)]
  · by_cases g1 : mq_gain R H T D (2 * s + 1) = 8 * T s
    · rw [if_neg g0, if_pos g1, if_pos (e1.mp g1), if_neg (fun z => g0 (e0.mpr z))]
    · rw [if_neg g0, if_neg g1, if_neg (fun z => g1 (e1.mpr z)), if_neg (fun z => g0 (e0.mpr z))]
theorem mq_sw_bit : ∀ k, k < 4 → ∀ a, a < 2 → mq_sw k / 2 ^ (1 - a) % 2 = k / 2 ^ a % 2 := by
  decide +kernel
theorem mq_tw_bit (ok : mq_ok R H) (h : mq_tw R H R' H') (ho : mq_opt R H T D) (go : mq_opt R' H' U E) {s a : Nat} (hs : s < 4) (ha : a < 2) : (if mq_gm R H T D s / 2 ^ a % 2 = 0 then (0 : Int32) else 1) = (if mq_gm R' H' U E (3 - s) / 2 ^ (1 - a) % 2 = 0 then 0 else 1) := by
  rw [mq_tw_gm ok h ho go hs, mq_sw_bit _ (mq_gm_lt _ _ _ _ _) a ha]
theorem mq_sw_3 : ∀ k, k < 4 → (mq_sw k = 3 ↔ k = 3) := by
  decide +kernel
theorem mq_tw_npol (ok : mq_ok R H) (h : mq_tw R H R' H') (ho : mq_opt R H T D) (go : mq_opt R' H' U E) : mq_npol (mq_gm R H T D) 4 = mq_npol (mq_gm R' H' U E) 4 := by
  have e : ∀ s, s < 4 → (if mq_gm R' H' U E (3 - s) = 3 then 2 else 1) = (if mq_gm R H T D s = 3 then 2 else 1) := fun s hs => by
    rw [mq_tw_gm ok h ho go hs]
    have q := mq_sw_3 _ (mq_gm_lt R H T D s)
    by_cases g : mq_gm R H T D s = 3
    · rw [if_pos g, if_pos (q.mpr g)]
    · rw [if_neg g, if_neg (fun z => g (q.mp z))]
  have e0 := e 0 (by omega)
  have e1 := e 1 (by omega)
  have e2 := e 2 (by omega)
  have e3 := e 3 (by omega)
  show 1 * (if mq_gm R H T D 0 = 3 then 2 else 1) * (if mq_gm R H T D 1 = 3 then 2 else 1) * (if mq_gm R H T D 2 = 3 then 2 else 1) * (if mq_gm R H T D 3 = 3 then 2 else 1) = 1 * (if mq_gm R' H' U E (3 - 3) = 3 then 2 else 1) * (if mq_gm R' H' U E (3 - 2) = 3 then 2 else 1) * (if mq_gm R' H' U E (3 - 1) = 3 then 2 else 1) * (if mq_gm R' H' U E (3 - 0) = 3 then 2 else 1)
  rw [e0, e1, e2, e3]
  generalize (if mq_gm R H T D 0 = 3 then 2 else 1) = w0
  generalize (if mq_gm R H T D 1 = 3 then 2 else 1) = w1
  generalize (if mq_gm R H T D 2 = 3 then 2 else 1) = w2
  generalize (if mq_gm R H T D 3 = 3 then 2 else 1) = w3
  grind
theorem mq_tw_df (h : mq_tw R H R' H') {x y : Nat} (hx : x < 8) (hy : y < 8) : mq_df R' H' (7 - x) (7 - y) = mq_df R H x y := by
  have e : ∀ z, z < 8 → ∀ t, t < 4 → H' (4 * (7 - z) + t) = H (4 * z + (3 - t)) := fun z hz t ht => by
    rw [← h.2 (4 * z + (3 - t)) (by omega)]
    congr 1
    omega
  unfold mq_df
  rw [h.1 x hx, h.1 y hy]
  by_cases g : R x = R y ∧ (∀ t, t < 4 → H (4 * x + t) = H (4 * y + t))
  · rw [if_pos g, if_pos ⟨g.1, fun t ht => by rw [e x hx t ht, e y hy t ht]; exact g.2 (3 - t) (by omega)⟩]
  · rw [if_neg g, if_neg (fun q => g ⟨q.1, fun t ht => by
      have w := q.2 (3 - t) (by omega)
      rw [e x hx _ (by omega), e y hy _ (by omega), show 3 - (3 - t) = t by omega] at w
      exact w⟩)]
theorem mq_tw_ds (ok : mq_ok R H) (h : mq_tw R H R' H') (ho : mq_opt R H T D) (go : mq_opt R' H' U E) : mq_ds R H (mq_gm R H T D) 4 = mq_ds R' H' (mq_gm R' H' U E) 4 := by
  have e : ∀ s, s < 4 → mq_dc R' H' (mq_gm R' H' U E) (3 - s) = mq_dc R H (mq_gm R H T D) s := fun s hs => by
    unfold mq_dc
    have d := mq_tw_df h (show 2 * s + 1 < 8 by omega) (show 2 * s < 8 by omega)
    rw [show 7 - (2 * s + 1) = 2 * (3 - s) by omega, show 7 - 2 * s = 2 * (3 - s) + 1 by omega, mq_df_sym R H (2 * s + 1)] at d
    rw [d, mq_tw_gm ok h ho go hs]
    have q := mq_sw_3 _ (mq_gm_lt R H T D s)
    by_cases g : mq_gm R H T D s = 3
    · rw [if_pos g, if_pos (q.mpr g)]
    · rw [if_neg g, if_neg (fun z => g (q.mp z))]
  have e0 := e 0 (by omega)
  have e1 := e 1 (by omega)
  have e2 := e 2 (by omega)
  have e3 := e 3 (by omega)
  show 0 + mq_dc R H (mq_gm R H T D) 0 + mq_dc R H (mq_gm R H T D) 1 + mq_dc R H (mq_gm R H T D) 2 + mq_dc R H (mq_gm R H T D) 3 = 0 + mq_dc R' H' (mq_gm R' H' U E) (3 - 3) + mq_dc R' H' (mq_gm R' H' U E) (3 - 2) + mq_dc R' H' (mq_gm R' H' U E) (3 - 1) + mq_dc R' H' (mq_gm R' H' U E) (3 - 0)
  omega
theorem mq_pk_tw : ∀ x, x < 8 → ∀ k, k < 4 → 0 < k → mq_pk (3 - x / 2) (mq_sw k) (7 - x) = 7 - mq_pk (x / 2) k x := by
  unfold mq_pk mq_sw
  decide +kernel
theorem mq_tw_from {P Q P' Q' : Nat → Int} (ok : mq_ok R H) (h : mq_tw R H R' H') (ho : mq_opt R H T D) (go : mq_opt R' H' U E) (hf : mq_from R H P Q (mq_src (mq_gm R H T D) 4)) (gf : mq_from R' H' P' Q' (mq_src (mq_gm R' H' U E) 4)) : mq_tw P Q P' Q' := by
  have e : ∀ x, x < 8 → mq_src (mq_gm R' H' U E) 4 (7 - x) = 7 - mq_src (mq_gm R H T D) 4 x := fun x hx => by
    unfold mq_src
    rw [if_pos (by omega), if_pos (by omega), show (7 - x) / 2 = 3 - x / 2 by omega, mq_tw_gm ok h ho go (by omega)]
    exact mq_pk_tw x hx _ (mq_gm_lt _ _ _ _ _) (mq_gm_pos ho (by omega))
  refine ⟨fun x hx => ?_, fun j hj => ?_⟩
  · obtain ⟨p1, p2, _⟩ := hf x hx
    obtain ⟨_, q2, _⟩ := gf (7 - x) (by omega)
    rw [q2, p2, e x hx, h.1 _ p1]
  · obtain ⟨p1, _, p3⟩ := hf (j / 4) (by omega)
    obtain ⟨_, _, q3⟩ := gf (7 - j / 4) (by omega)
    have z1 := p3 (j % 4) (by omega)
    have z2 := q3 (3 - j % 4) (by omega)
    rw [e _ (by omega)] at z2
    rw [show 4 * (j / 4) + j % 4 = j by omega] at z1
    rw [show 4 * (7 - j / 4) + (3 - j % 4) = 31 - j by omega] at z2
    rw [z2, z1, ← h.2 (4 * mq_src (mq_gm R H T D) 4 (j / 4) + j % 4) (by omega)]
    congr 1
    omega
end
theorem mq_tw_rew {R H R' H' P P' : Nat → Int} {s a : Nat} {v : Int} (h : mq_tw R H R' H') (hs : s < 4) (ha : a < 2) (hP : ∀ j, P j = if j = 2 * s + a then v else R j) (hP' : ∀ j, P' j = if j = 2 * (3 - s) + (1 - a) then v else R' j) : mq_tw P H P' H' := by
  refine ⟨fun j hj => ?_, h.2⟩
  rw [hP, hP']
  by_cases e : j = 2 * s + a
  · rw [if_pos e, if_pos (by omega)]
  · rw [if_neg e, if_neg (by omega)]
    exact h.1 j hj
theorem mq_ok_rew {R H P : Nat → Int} {x : Nat} {v : Int} (ok : mq_ok R H) (hv : mq_bd 20 v) (hP : ∀ j, P j = if j = x then v else R j) : mq_ok P H := by
  refine ⟨fun j hj => ?_, ok.2⟩
  rw [hP]
  split
  · exact hv
  · exact ok.1 j hj
theorem mq_tw_sh {R H R' H' P P' : Nat → Int} {s a Q : Nat} (h : mq_tw R H R' H') (hs : s < 4) (ha : a < 2) (hQ : Q < 625) (hP : ∀ j, P j = if j / 4 = 2 * s + a then (mq_dg Q (j % 4) : Int) else H j) (hP' : ∀ j, P' j = if j / 4 = 2 * (3 - s) + (1 - a) then (mq_dg (mq_tn Q) (j % 4) : Int) else H' j) : mq_tw R P R' P' := by
  refine ⟨h.1, fun j hj => ?_⟩
  rw [hP, hP']
  by_cases e : j / 4 = 2 * s + a
  · rw [if_pos e, if_pos (by omega), show (31 - j) % 4 = 3 - j % 4 by omega, mq_tn_dg hQ _ (by omega)]
  · rw [if_neg e, if_neg (by omega)]
    exact h.2 j hj
theorem mq_ok_sh {R H P : Nat → Int} {x Q : Nat} (ok : mq_ok R H) (hQ : Q < 625) (h4 : Q / 125 + Q / 25 % 5 + Q / 5 % 5 + Q % 5 = 4) (hP : ∀ j, P j = if j / 4 = x then (mq_dg Q (j % 4) : Int) else H j) : mq_ok R P := by
  refine ⟨ok.1, fun j hj => ?_, fun y hy => ?_⟩
  · rw [hP]
    split
    · have := Nat.mod_lt (Q / 5 ^ (3 - j % 4)) (show 0 < 5 by omega)
      unfold mq_dg
      omega
    · exact ok.2.1 j hj
  · by_cases e : y = x
    · rw [hP, hP, hP, hP, if_pos (by omega), if_pos (by omega), if_pos (by omega), if_pos (by omega), show (4 * y + 0) % 4 = 0 by omega, show (4 * y + 1) % 4 = 1 by omega, show (4 * y + 2) % 4 = 2 by omega, show (4 * y + 3) % 4 = 3 by omega]
      show ((Q / 125 % 5 : Nat) : Int) + ((Q / 25 % 5 : Nat) : Int) + ((Q / 5 % 5 : Nat) : Int) + ((Q / 1 % 5 : Nat) : Int) = 4
      rw [Nat.div_one]
      omega
    · rw [hP, hP, hP, hP, if_neg (by omega), if_neg (by omega), if_neg (by omega), if_neg (by omega)]
      exact ok.2.2 y hy
end
section
/-- two states side by side -/
abbrev mq_join (u w : St1) : St2 := (u.1, u.2.1, u.2.2.1, u.2.2.2.1, u.2.2.2.2.1, u.2.2.2.2.2.1, u.2.2.2.2.2.2.1, u.2.2.2.2.2.2.2.1, u.2.2.2.2.2.2.2.2.1, u.2.2.2.2.2.2.2.2.2.1, u.2.2.2.2.2.2.2.2.2.2.1, u.2.2.2.2.2.2.2.2.2.2.2, w.1, w.2.1, w.2.2.1, w.2.2.2.1, w.2.2.2.2.1, w.2.2.2.2.2.1, w.2.2.2.2.2.2.1, w.2.2.2.2.2.2.2.1, w.2.2.2.2.2.2.2.2.1, w.2.2.2.2.2.2.2.2.2.1, w.2.2.2.2.2.2.2.2.2.2.1, w.2.2.2.2.2.2.2.2.2.2.2)
section
variable {a1 a2 b1 b2 : Nat → Int32}
theorem mq_al28 {post : Int32 → St2 → Prop} {u w : St1} {p q : Nat} (ok : mq_ok (mq_R a1) (mq_R a2)) (tw : mq_tw (mq_R a1) (mq_R a2) (mq_R b1) (mq_R b2)) (hp : p < 16) (hq : q < 16) (hu : mq_G a1 a2 u) (hw : mq_G b1 b2 w)
    (H : ∀ u w, mq_G a1 a2 u → mq_G b1 b2 w → post 1 (mq_join u w)) : ∃ n, wL_alike_28 post (nI p) (nI q) (nI (mq_nm p 4)) (nI (mq_nm q 4)) n 0 u.1 u.2.1 u.2.2.1 u.2.2.2.1 u.2.2.2.2.1 u.2.2.2.2.2.1 u.2.2.2.2.2.2.1 u.2.2.2.2.2.2.2.1 u.2.2.2.2.2.2.2.2.1 u.2.2.2.2.2.2.2.2.2.1 u.2.2.2.2.2.2.2.2.2.2.1 u.2.2.2.2.2.2.2.2.2.2.2 w.1 w.2.1 w.2.2.1 w.2.2.2.1 w.2.2.2.2.1 w.2.2.2.2.2.1 w.2.2.2.2.2.2.1 w.2.2.2.2.2.2.2.1 w.2.2.2.2.2.2.2.2.1 w.2.2.2.2.2.2.2.2.2.1 w.2.2.2.2.2.2.2.2.2.2.1 w.2.2.2.2.2.2.2.2.2.2.2 := by
  have ok' := mq_tw_ok tw ok
  have hp' := mq_nm_lt p hp 4 (by omega)
  have hq' := mq_nm_lt q hq 4 (by omega)
  refine pk_loop (σ := St1 × St1) (fun n i s => wL_alike_28 post (nI p) (nI q) (nI (mq_nm p 4)) (nI (mq_nm q 4)) n (nI i) s.1.1 s.1.2.1 s.1.2.2.1 s.1.2.2.2.1 s.1.2.2.2.2.1 s.1.2.2.2.2.2.1 s.1.2.2.2.2.2.2.1 s.1.2.2.2.2.2.2.2.1 s.1.2.2.2.2.2.2.2.2.1 s.1.2.2.2.2.2.2.2.2.2.1 s.1.2.2.2.2.2.2.2.2.2.2.1 s.1.2.2.2.2.2.2.2.2.2.2.2 s.2.1 s.2.2.1 s.2.2.2.1 s.2.2.2.2.1 s.2.2.2.2.2.1 s.2.2.2.2.2.2.1 s.2.2.2.2.2.2.2.1 s.2.2.2.2.2.2.2.2.1 s.2.2.2.2.2.2.2.2.2.1 s.2.2.2.2.2.2.2.2.2.2.1 s.2.2.2.2.2.2.2.2.2.2.2.1 s.2.2.2.2.2.2.2.2.2.2.2.2) (fun _ s => mq_G a1 a2 s.1 ∧ mq_G b1 b2 s.2) 4 0 (u, w) (by omega) ⟨hu, hw⟩ ?_ ?_
  · intro n s hs
    exact pk_le 4 4 (fun _ => H s.1 s.2 hs.1 hs.2) (fun z => absurd z (by omega))
  · intro n i s hi hs hk
    obtain ⟨hu, hw⟩ := hs
    have hi' : 3 - i < 4 := by omega
    have e3 : (3 : Int32) - nI i = nI (3 - i) := pk_sub (a := 3) (by omega)
    refine pk_le 4 i (fun z => absurd z (by omega)) (fun _ => ?_)
    rw [e3]
    refine mq_bestTop ok hu hi (fun x1 T D hx1 ho => ?_)
    obtain ⟨b, kb, sv, bp, bd, a3, a4, a5, a6, a7, rfl, _⟩ := id hx1
    refine mq_bestTop ok' hw hi' (fun y1 U E hy1 go => ?_)
    obtain ⟨b, kb, sv, bp, bd, a3, a4, a5, a6, a7, rfl, _⟩ := id hy1
    refine br_t (mq_tw_top ok tw ho go hi) ?_
    refine mq_bestBottom ok hx1 hi (fun x2 T D hx2 ho => ?_)
    obtain ⟨b, kb, sv, bp, bd, a3, a4, a5, a6, a7, rfl, _⟩ := id hx2
    refine mq_bestBottom ok' hy1 hi' (fun y2 U E hy2 go => ?_)
    obtain ⟨b, kb, sv, bp, bd, a3, a4, a5, a6, a7, rfl, _⟩ := id hy2
    refine br_t (mq_tw_bot ok tw ho go hi) ?_
    refine mq_valueTop ok hx2 hp hi (fun x3 hx3 => ?_)
    obtain ⟨b, kb, sv, bp, bd, a3, a4, a5, a6, a7, rfl, _⟩ := id hx3
    refine mq_valueTop ok' hy2 hp' hi' (fun y3 hy3 => ?_)
    obtain ⟨b, kb, sv, bp, bd, a3, a4, a5, a6, a7, rfl, _⟩ := id hy3
    refine br_t (by rw [mq_tw_V tw hp i hi, mq_tw_W tw hp]) ?_
    refine mq_valueBottom ok hx3 hp hi (fun x4 hx4 => ?_)
    obtain ⟨b, kb, sv, bp, bd, a3, a4, a5, a6, a7, rfl, _⟩ := id hx4
    refine mq_valueBottom ok' hy3 hp' hi' (fun y4 hy4 => ?_)
    obtain ⟨b, kb, sv, bp, bd, a3, a4, a5, a6, a7, rfl, _⟩ := id hy4
    refine br_t (by rw [mq_tw_V tw hp i hi, mq_tw_W tw hp]) ?_
    refine mq_compare ok hx4 hp hq hi (fun x5 hx5 => ?_)
    obtain ⟨b, kb, sv, bp, bd, a3, a4, a5, a6, a7, rfl, _⟩ := id hx5
    refine mq_compare ok' hy4 hp' hq' hi' (fun y5 hy5 => ?_)
    obtain ⟨b, kb, sv, bp, bd, a3, a4, a5, a6, a7, rfl, _⟩ := id hy5
    refine br_t (by rw [mq_tw_V tw hp i hi, mq_tw_W tw hp, mq_tw_V tw hq i hi, mq_tw_W tw hq]) ?_
    refine mq_good (a := 0) ok hx5 hi (by omega) (fun x6 T D hx6 ho => ?_)
    obtain ⟨b, kb, sv, bp, bd, a3, a4, a5, a6, a7, rfl, _⟩ := id hx6
    refine mq_good (a := 1) ok' hy5 hi' (by omega) (fun y6 U E hy6 go => ?_)
    obtain ⟨b, kb, sv, bp, bd, a3, a4, a5, a6, a7, rfl, _⟩ := id hy6
    refine br_t (mq_tw_bit (a := 0) ok tw ho go hi (by omega)) ?_
    refine mq_good (a := 1) ok hx6 hi (by omega) (fun x7 T D hx7 ho => ?_)
    obtain ⟨b, kb, sv, bp, bd, a3, a4, a5, a6, a7, rfl, _⟩ := id hx7
    refine mq_good (a := 0) ok' hy6 hi' (by omega) (fun y7 U E hy7 go => ?_)
    obtain ⟨b, kb, sv, bp, bd, a3, a4, a5, a6, a7, rfl, _⟩ := id hy7
    refine br_t (mq_tw_bit (a := 1) ok tw ho go hi (by omega)) ?_
    exact nm_r (nI_1 i) (hk (_, _) ⟨hx7, hy7⟩)
theorem mq_alike {post : Int32 → St2 → Prop} {u w : St1} {p q : Nat} (ok : mq_ok (mq_R a1) (mq_R a2)) (tw : mq_tw (mq_R a1) (mq_R a2) (mq_R b1) (mq_R b2)) (hp : p < 16) (hq : q < 16) (hu : mq_G a1 a2 u) (hw : mq_G b1 b2 w)
    (H : ∀ u w, mq_G a1 a2 u → mq_G b1 b2 w → post 1 (mq_join u w)) : wpL_alike post (mq_join u w) (nI p) (nI q) := by
  have ok' := mq_tw_ok tw ok
  unfold wpL_alike
  refine mq_policies ok hu (fun x1 T D hx1 ho => ?_)
  obtain ⟨b, kb, sv, bp, bd, a3, a4, a5, a6, a7, rfl, _⟩ := id hx1
  refine mq_policies ok' hw (fun y1 U E hy1 go => ?_)
  obtain ⟨b, kb, sv, bp, bd, a3, a4, a5, a6, a7, rfl, _⟩ := id hy1
  refine br_t (by rw [mq_tw_npol ok tw ho go]) ?_
  refine mq_name hp ?_
  refine mq_name hq ?_
  exact mq_al28 ok tw hp hq hx1 hy1 H
end
end
section
/-- a new solver: each action stays where it is -/
theorem mq_in65 {post : St1 → Prop} {mc ms kc ks : Nat} {J58 : Int32 → (Nat → Int32) → (Nat → Int32) → (Nat → Int64) → (Nat → Int64) → (Nat → Int64) → (Nat → Int64) → (Nat → Int32) → Prop} {b kb bd : Int64} {sv bp : Int32} {a1 a2 a7 : Nat → Int32} {a3 a4 a5 a6 : Nat → Int64} {s : Nat} (hs : s < 4) (h : ∀ j, mq_R a2 j = if j / 8 < s ∧ j % 4 = j / 8 then 4 else 0)
    (H : ∀ c, (∀ j, mq_R c j = if j / 8 < s + 1 ∧ j % 4 = j / 8 then 4 else 0) → J58 (nI (s + 1)) a1 c a3 a4 a5 a6 a7) : ∃ n, wX_init_65 post mc ms J58 (nI s) kc ks b kb sv bp bd n 0 a1 a2 a3 a4 a5 a6 a7 := by
  refine pk_loop (fun n i c => wX_init_65 post mc ms J58 (nI s) kc ks b kb sv bp bd n (nI i) a1 c a3 a4 a5 a6 a7) (fun i c => ∀ j, mq_R c j = if (j / 8 < s ∨ (j / 8 = s ∧ j / 4 % 2 < i)) ∧ j % 4 = j / 8 then 4 else 0) 2 0 a2 (by omega) (fun j => ?_) ?_ ?_
  · rw [h j]
    by_cases e : j / 8 < s ∧ j % 4 = j / 8
    · rw [if_pos e, if_pos ⟨Or.inl e.1, e.2⟩]
    · rw [if_neg e, if_neg (by omega)]
  · intro n c hc
    refine pk_le 2 2 (fun _ => nm_r (nI_1 s) (H c (fun j => ?_))) (fun z => absurd z (by omega))
    rw [hc j]
    by_cases e : j / 8 < s + 1 ∧ j % 4 = j / 8
    · rw [if_pos e, if_pos (by omega)]
    · rw [if_neg e, if_neg (by omega)]
  · intro n i c hi hc hw
    refine pk_le 2 i (fun z => absurd z (by omega)) (fun _ => ⟨pk_in (4 * (2 * s + i) + s) 32 (by omega) (mq_ix42 s i s), nm_e (nm_r (nI_1 i) (hw _ (fun j => ?_)))⟩)
    rw [mq_ix42, nI_clamp (show 4 * (2 * s + i) + s < 2 ^ 31 by omega), mq_upd]
    by_cases e : j = 4 * (2 * s + i) + s
    · have f1 : j / 8 = s := by omega
      have f2 : j / 4 = 2 * s + i := by omega
      have f3 : j % 4 = s := by omega
      rw [if_pos e, if_pos ⟨Or.inr ⟨f1, by omega⟩, by omega⟩]
      rfl
    · rw [if_neg e, hc j]
      by_cases g : (j / 8 < s ∨ (j / 8 = s ∧ j / 4 % 2 < i)) ∧ j % 4 = j / 8
      · rw [if_pos g, if_pos (by omega)]
      · rw [if_neg g, if_neg (by omega)]
theorem mq_init {post : St1 → Prop} (H : ∀ c u, (∀ j, mq_R c j = if j / 8 < 4 ∧ j % 4 = j / 8 then 4 else 0) → mq_G (fun _ => 0) c u → post u) : wpX_init post 7 76 (0, 0, 0, 0, 0) := by
  refine ⟨by omega, by omega, by omega, by omega, by omega, by omega, by omega, by omega, by omega, by omega, by omega, by omega, by omega, by omega, ?_⟩
  refine pk_loop (fun n i c => wX_init_58 post 7 76 7 76 0 0 0 0 0 n (nI i) (fun _ => 0) c (fun _ => 0) (fun _ => 0) (fun _ => 0) (fun _ => 0) (fun _ => 0)) (fun i c => ∀ j, mq_R c j = if j / 8 < i ∧ j % 4 = j / 8 then 4 else 0) 4 0 (fun _ => 0) (by omega) (fun j => ?_) ?_ ?_
  · rw [if_neg (by omega)]
    rfl
  · intro n c hc
    exact pk_le 4 4 (fun _ => H c _ hc ⟨_, _, _, _, _, _, _, _, _, _, rfl, fun z => absurd rfl z⟩) (fun z => absurd z (by omega))
  · intro n i c hi hc hw
    exact pk_le 4 i (fun z => absurd z (by omega)) (fun _ => mq_in65 hi hc hw)
theorem mq_ok0 {c : Nat → Int32} (hc : ∀ j, mq_R c j = if j / 8 < 4 ∧ j % 4 = j / 8 then 4 else 0) : mq_ok (mq_R (fun _ => 0)) (mq_R c) := by
  refine ⟨fun j _ => (show (-20 : Int) ≤ 0 ∧ (0 : Int) ≤ 20 by decide), fun j hj => ?_, fun x hx => ?_⟩
  · rw [hc j]
    split <;> omega
  · rw [hc, hc, hc, hc]
    match x, hx with
    | 0, _ => rfl
    | 1, _ => rfl
    | 2, _ => rfl
    | 3, _ => rfl
    | 4, _ => rfl
    | 5, _ => rfl
    | 6, _ => rfl
    | 7, _ => rfl
theorem mq_tw0 {c d : Nat → Int32} (hc : ∀ j, mq_R c j = if j / 8 < 4 ∧ j % 4 = j / 8 then 4 else 0) (hd : ∀ j, mq_R d j = if j / 8 < 4 ∧ j % 4 = j / 8 then 4 else 0) : mq_tw (mq_R (fun _ => 0)) (mq_R c) (mq_R (fun _ => 0)) (mq_R d) := by
  refine ⟨fun j _ => rfl, fun j hj => ?_⟩
  have f1 : (31 - j) / 8 = 3 - j / 8 := by omega
  have f2 : (31 - j) % 4 = 3 - j % 4 := by omega
  rw [hc, hd, f1, f2]
  by_cases e : j / 8 < 4 ∧ j % 4 = j / 8
  · rw [if_pos e, if_pos (by omega)]
  · rw [if_neg e, if_neg (by omega)]
/-- the law's invariant -/
def mq_Inv (u w : St1) : Prop := ∃ a1 a2 b1 b2, mq_ok (mq_R a1) (mq_R a2) ∧ mq_tw (mq_R a1) (mq_R a2) (mq_R b1) (mq_R b2) ∧ mq_G a1 a2 u ∧ mq_G b1 b2 w
theorem mq_219 {post : Int32 → Prop} {L : Nat} {xs : Nat → Int32} {J18 : Int32 → Int64 → Int64 → Int32 → Int32 → Int64 → (Nat → Int32) → (Nat → Int32) → (Nat → Int64) → (Nat → Int64) → (Nat → Int64) → (Nat → Int64) → (Nat → Int32) → Int64 → Int64 → Int32 → Int32 → Int64 → (Nat → Int32) → (Nat → Int32) → (Nat → Int64) → (Nat → Int64) → (Nat → Int64) → (Nat → Int64) → (Nat → Int32) → Prop} {m : Nat} {x6 : Int32} {kc ks : Nat} {u w : St1} (hL : L ≤ 260) (hm : m + 3 ≤ L) (hI : mq_Inv u w)
    (H : ∀ u w, mq_Inv u w → J18 (nI (m + 3)) u.1 u.2.1 u.2.2.1 u.2.2.2.1 u.2.2.2.2.1 u.2.2.2.2.2.1 u.2.2.2.2.2.2.1 u.2.2.2.2.2.2.2.1 u.2.2.2.2.2.2.2.2.1 u.2.2.2.2.2.2.2.2.2.1 u.2.2.2.2.2.2.2.2.2.2.1 u.2.2.2.2.2.2.2.2.2.2.2 w.1 w.2.1 w.2.2.1 w.2.2.2.1 w.2.2.2.2.1 w.2.2.2.2.2.1 w.2.2.2.2.2.2.1 w.2.2.2.2.2.2.2.1 w.2.2.2.2.2.2.2.2.1 w.2.2.2.2.2.2.2.2.2.1 w.2.2.2.2.2.2.2.2.2.2.1 w.2.2.2.2.2.2.2.2.2.2.2) : wL_law_219 post L xs J18 (nI m) x6 1 kc ks u.1 u.2.1 u.2.2.1 u.2.2.2.1 u.2.2.2.2.1 u.2.2.2.2.2.1 u.2.2.2.2.2.2.1 u.2.2.2.2.2.2.2.1 u.2.2.2.2.2.2.2.2.1 u.2.2.2.2.2.2.2.2.2.1 u.2.2.2.2.2.2.2.2.2.2.1 u.2.2.2.2.2.2.2.2.2.2.2 w.1 w.2.1 w.2.2.1 w.2.2.2.1 w.2.2.2.2.1 w.2.2.2.2.2.1 w.2.2.2.2.2.2.1 w.2.2.2.2.2.2.2.1 w.2.2.2.2.2.2.2.2.1 w.2.2.2.2.2.2.2.2.2.1 w.2.2.2.2.2.2.2.2.2.2.1 w.2.2.2.2.2.2.2.2.2.2.2 := by
  obtain ⟨a1, a2, b1, b2, ok, tw, hu, hw⟩ := hI
  unfold wL_law_219
  obtain ⟨p, hp, ep⟩ := pk_andE x6 (m := 15) 4 (by decide)
  obtain ⟨q, hq, eq⟩ := pk_andE (xs (nI m + 1).toNatClampNeg >>> ((3 : Int32) &&& 31)) (m := 15) 4 (by decide)
  refine br_f mq_1n0 ⟨pk_in (m + 1) L (by omega) (nI_1 m), ?_⟩
  rw [ep, eq]
  refine mq_alike ok tw hp hq hu hw (fun u w hu hw => ?_)
  exact br_f mq_1n0 (nm_r (nI_add m 3) (H u w ⟨a1, a2, b1, b2, ok, tw, hu, hw⟩))
theorem mq_125 {post : Int32 → Prop} {L : Nat} {xs : Nat → Int32} {J18 : Int32 → Int64 → Int64 → Int32 → Int32 → Int64 → (Nat → Int32) → (Nat → Int32) → (Nat → Int64) → (Nat → Int64) → (Nat → Int64) → (Nat → Int64) → (Nat → Int32) → Int64 → Int64 → Int32 → Int32 → Int64 → (Nat → Int32) → (Nat → Int32) → (Nat → Int64) → (Nat → Int64) → (Nat → Int64) → (Nat → Int64) → (Nat → Int32) → Prop} {m s a : Nat} {x6 : Int32} {kc ks : Nat} {u w : St1} (hL : L ≤ 260) (hm : m + 3 ≤ L) (hs : s < 4) (ha : a < 2) (hI : mq_Inv u w)
    (H : ∀ u w, mq_Inv u w → J18 (nI (m + 3)) u.1 u.2.1 u.2.2.1 u.2.2.2.1 u.2.2.2.2.1 u.2.2.2.2.2.1 u.2.2.2.2.2.2.1 u.2.2.2.2.2.2.2.1 u.2.2.2.2.2.2.2.2.1 u.2.2.2.2.2.2.2.2.2.1 u.2.2.2.2.2.2.2.2.2.2.1 u.2.2.2.2.2.2.2.2.2.2.2 w.1 w.2.1 w.2.2.1 w.2.2.2.1 w.2.2.2.2.1 w.2.2.2.2.2.1 w.2.2.2.2.2.2.1 w.2.2.2.2.2.2.2.1 w.2.2.2.2.2.2.2.2.1 w.2.2.2.2.2.2.2.2.2.1 w.2.2.2.2.2.2.2.2.2.2.1 w.2.2.2.2.2.2.2.2.2.2.2) : wL_law_125 post L xs J18 (nI m) (nI s) (nI a) x6 kc ks u.1 u.2.1 u.2.2.1 u.2.2.2.1 u.2.2.2.2.1 u.2.2.2.2.2.1 u.2.2.2.2.2.2.1 u.2.2.2.2.2.2.2.1 u.2.2.2.2.2.2.2.2.1 u.2.2.2.2.2.2.2.2.2.1 u.2.2.2.2.2.2.2.2.2.2.1 u.2.2.2.2.2.2.2.2.2.2.2 w.1 w.2.1 w.2.2.1 w.2.2.2.1 w.2.2.2.2.1 w.2.2.2.2.2.1 w.2.2.2.2.2.2.1 w.2.2.2.2.2.2.2.1 w.2.2.2.2.2.2.2.2.1 w.2.2.2.2.2.2.2.2.2.1 w.2.2.2.2.2.2.2.2.2.2.1 w.2.2.2.2.2.2.2.2.2.2.2 := by
  obtain ⟨a1, a2, b1, b2, ok, tw, hu, hw⟩ := hI
  obtain ⟨b, kb, sv, bp, bd, a3, a4, a5, a6, a7, rfl, _⟩ := id hu
  obtain ⟨b, kb, sv, bp, bd, a3, a4, a5, a6, a7, rfl, _⟩ := id hw
  have e3 : (3 : Int32) - nI s = nI (3 - s) := pk_sub (a := 3) (by omega)
  have e1 : (1 : Int32) - nI a = nI (1 - a) := pk_sub (a := 1) (by omega)
  unfold wL_law_125
  rw [e3, e1]
  refine ⟨by decide, ?_⟩
  generalize (x6 &&& 255) - (x6 &&& 255) / 43 * 43 - 21 = v
  refine mq_reward hu hs ha (fun hb => ?_) (fun hb c u' hu' hc => ?_)
  · refine ⟨by decide, ?_⟩
    refine mq_reward hw (by omega) (by omega) (fun _ => ?_) (fun z => absurd z hb)
    refine br_t rfl ?_
    unfold wL_law_177
    exact mq_219 hL hm ⟨a1, a2, b1, b2, ok, tw, hu, hw⟩ H
  · obtain ⟨b, kb, sv, bp, bd, a3, a4, a5, a6, a7, rfl, _⟩ := id hu'
    refine ⟨by decide, ?_⟩
    refine mq_reward hw (by omega) (by omega) (fun z => absurd hb z) (fun _ d w' hw' hd => ?_)
    obtain ⟨b, kb, sv, bp, bd, a3, a4, a5, a6, a7, rfl, _⟩ := id hw'
    refine br_t rfl ?_
    unfold wL_law_177
    exact mq_219 hL hm ⟨c, a2, d, b2, mq_ok_rew ok hb hc, mq_tw_rew tw hs ha hc hd, hu', hw'⟩ H
theorem mq_end {L m : Nat} (hL : L ≤ 260) (hm : m ≤ 260) : Int32.ofNat L - 3 < nI m ↔ L < m + 3 := by
  rw [Int32.lt_iff_toInt_lt, nI_toInt (show m < 2 ^ 31 by omega)]
  have e : (Int32.ofNat L - 3).toInt = (L : Int) - 3 := pk_sub_toInt (a := L) (b := 3) (by omega) (by omega)
  rw [e]
  omega
theorem mq_law18 {post : Int32 → Prop} {L : Nat} {xs : Nat → Int32} {kc ks : Nat} {u w : St1} (hL : L ≤ 260) (H1 : post 1) (hI : mq_Inv u w) : ∃ n, wL_law_18 post L xs kc ks n 0 u.1 u.2.1 u.2.2.1 u.2.2.2.1 u.2.2.2.2.1 u.2.2.2.2.2.1 u.2.2.2.2.2.2.1 u.2.2.2.2.2.2.2.1 u.2.2.2.2.2.2.2.2.1 u.2.2.2.2.2.2.2.2.2.1 u.2.2.2.2.2.2.2.2.2.2.1 u.2.2.2.2.2.2.2.2.2.2.2 w.1 w.2.1 w.2.2.1 w.2.2.2.1 w.2.2.2.2.1 w.2.2.2.2.2.1 w.2.2.2.2.2.2.1 w.2.2.2.2.2.2.2.1 w.2.2.2.2.2.2.2.2.1 w.2.2.2.2.2.2.2.2.2.1 w.2.2.2.2.2.2.2.2.2.2.1 w.2.2.2.2.2.2.2.2.2.2.2 := by
  refine pk_loop (σ := St1 × St1) (fun n k s => wL_law_18 post L xs kc ks n (nI (3 * k)) s.1.1 s.1.2.1 s.1.2.2.1 s.1.2.2.2.1 s.1.2.2.2.2.1 s.1.2.2.2.2.2.1 s.1.2.2.2.2.2.2.1 s.1.2.2.2.2.2.2.2.1 s.1.2.2.2.2.2.2.2.2.1 s.1.2.2.2.2.2.2.2.2.2.1 s.1.2.2.2.2.2.2.2.2.2.2.1 s.1.2.2.2.2.2.2.2.2.2.2.2 s.2.1 s.2.2.1 s.2.2.2.1 s.2.2.2.2.1 s.2.2.2.2.2.1 s.2.2.2.2.2.2.1 s.2.2.2.2.2.2.2.1 s.2.2.2.2.2.2.2.2.1 s.2.2.2.2.2.2.2.2.2.1 s.2.2.2.2.2.2.2.2.2.2.1 s.2.2.2.2.2.2.2.2.2.2.2.1 s.2.2.2.2.2.2.2.2.2.2.2.2) (fun _ s => mq_Inv s.1 s.2) (L / 3) 0 (u, w) (by omega) hI ?_ ?_
  · intro n s hs
    obtain ⟨a1, a2, b1, b2, ok, tw, hu, hw⟩ := hs
    exact br_t ((mq_end hL (by omega)).mpr (by omega)) (mq_alike (p := 0) (q := 15) ok tw (by omega) (by omega) hu hw (fun u w _ _ => H1))
  · intro n k s hk hs hn
    have hm : 3 * k + 3 ≤ L := by omega
    have HJ : ∀ u w, mq_Inv u w → wL_law_18 post L xs kc ks n (nI (3 * k + 3)) u.1 u.2.1 u.2.2.1 u.2.2.2.1 u.2.2.2.2.1 u.2.2.2.2.2.1 u.2.2.2.2.2.2.1 u.2.2.2.2.2.2.2.1 u.2.2.2.2.2.2.2.2.1 u.2.2.2.2.2.2.2.2.2.1 u.2.2.2.2.2.2.2.2.2.2.1 u.2.2.2.2.2.2.2.2.2.2.2 w.1 w.2.1 w.2.2.1 w.2.2.2.1 w.2.2.2.2.1 w.2.2.2.2.2.1 w.2.2.2.2.2.2.1 w.2.2.2.2.2.2.2.1 w.2.2.2.2.2.2.2.2.1 w.2.2.2.2.2.2.2.2.2.1 w.2.2.2.2.2.2.2.2.2.2.1 w.2.2.2.2.2.2.2.2.2.2.2 := fun u w h => hn (u, w) h
    obtain ⟨a1, a2, b1, b2, ok, tw, hu, hw⟩ := id hs
    have ok' := mq_tw_ok tw ok
    obtain ⟨t, ht, et⟩ := pk_andE (xs (nI (3 * k) + 1).toNatClampNeg) (m := 3) 2 (by decide)
    obtain ⟨a, ha, ea⟩ := pk_andE (xs (nI (3 * k) + 1).toNatClampNeg >>> ((2 : Int32) &&& 31)) (m := 1) 1 (by decide)
    obtain ⟨c, hc, ec⟩ := pk_andE (xs (nI (3 * k)).toNatClampNeg) (m := 7) 3 (by decide)
    have e3 : (3 : Int32) - nI t = nI (3 - t) := pk_sub (a := 3) (by omega)
    have e1 : (1 : Int32) - nI a = nI (1 - a) := pk_sub (a := 1) (by omega)
    have hu0 := hu
    have hw0 := hw
    refine br_f (fun z => absurd ((mq_end hL (by omega)).mp z) (by omega)) ⟨pk_in (3 * k + 1) L (by omega) (nI_1 _), nm_r et ⟨pk_in (3 * k + 1) L (by omega) (nI_1 _), nm_r ea ⟨pk_in (3 * k + 2) L (by omega) (nI_add (3 * k) 2), nm_e ?_⟩⟩⟩
    rw [e3, e1]
    refine mq_Lshares (fun Q hQ h4 => ?_)
    refine mq_Lturned hQ ?_
    refine ⟨pk_in (3 * k) L (by omega), nm_r ec ?_⟩
    refine br_f (nI_pos (by omega)) ?_
    refine pk_lt 3 c (fun h3 => ?_) (fun h3 => ?_)
    · refine mq_shares hu ht ha hQ h4 (fun d2 u' hu' hd => ?_)
      obtain ⟨b, kb, sv, bp, bd, a3, a4, a5, a6, a7, rfl, _⟩ := id hu'
      refine br_f mq_1n0 ?_
      refine mq_shares hw (show 3 - t < 4 by omega) (show 1 - a < 2 by omega) (mq_tn_lt hQ) (mq_tn_4 hQ h4) (fun f2 w' hw' hf => ?_)
      obtain ⟨b, kb, sv, bp, bd, a3, a4, a5, a6, a7, rfl, _⟩ := id hw'
      refine br_f mq_1n0 ?_
      unfold wL_law_217
      exact mq_219 hL hm ⟨a1, d2, b1, f2, mq_ok_sh ok hQ h4 hd, mq_tw_sh tw ht ha hQ hd hf, hu', hw'⟩ HJ
    · refine pk_eq c 0 (fun h0 => ?_) (fun h0 => ?_)
      · refine mq_prune ok hu (fun T D c1 c2 u' ho hf hu' => ?_)
        obtain ⟨b, kb, sv, bp, bd, a3, a4, a5, a6, a7, rfl, _⟩ := id hu'
        refine mq_prune ok' hw (fun U E d1 d2 w' go gf hw' => ?_)
        obtain ⟨b, kb, sv, bp, bd, a3, a4, a5, a6, a7, rfl, _⟩ := id hw'
        refine br_t (by rw [mq_tw_ds ok tw ho go]) ?_
        unfold wL_law_120
        exact mq_219 hL hm ⟨c1, c2, d1, d2, mq_from_ok ok hf, mq_tw_from ok tw ho go hf gf, hu', hw'⟩ HJ
      · refine pk_eq c 1 (fun _ => mq_125 hL hm ht ha hs HJ) (fun h1 => ?_)
        refine pk_eq c 2 (fun _ => mq_125 hL hm ht ha hs HJ) (fun h2 => ?_)
        exact pk_eq c 3 (fun _ => mq_125 hL hm ht ha hs HJ) (fun h3' => trivial)
end
section
theorem i_vc (xs : Nat → Int32) (L : Nat) (hL : L ≤ 260) : wpL_law (fun r => r = 1) L xs := by
  refine ⟨7, 76, by omega, by omega, ?_⟩
  refine mq_init (fun c u hc hu => ?_)
  obtain ⟨b, kb, sv, bp, bd, a3, a4, a5, a6, a7, rfl, _⟩ := id hu
  refine ⟨by omega, by omega, 7, 76, by omega, by omega, ?_⟩
  refine mq_init (fun d w hd hw => ?_)
  obtain ⟨b, kb, sv, bp, bd, a3, a4, a5, a6, a7, rfl, _⟩ := id hw
  exact mq_law18 (post := fun r => r = 1) hL rfl ⟨_, c, _, d, mq_ok0 hc, mq_tw0 hc hd, hu, hw⟩
end
