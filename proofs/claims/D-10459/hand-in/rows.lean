section
/-- sums of four products -/
def qm_dot (f g : Nat → Int) : Int := f 0 * g 0 + f 1 * g 1 + f 2 * g 2 + f 3 * g 3
/-- a row of shares -/
def qm_row (f : Nat → Int) : Prop := 0 ≤ f 0 ∧ 0 ≤ f 1 ∧ 0 ≤ f 2 ∧ 0 ≤ f 3 ∧ f 0 + f 1 + f 2 + f 3 = 4
theorem qm_min (x : Nat → Int) (n : Nat) : ∃ k, k ≤ n ∧ ∀ t, t ≤ n → x k ≤ x t := by
  induction n with
  | zero => exact ⟨0, Nat.le_refl 0, fun t ht => by rw [Nat.le_zero.mp ht]; exact Int.le_refl _⟩
  | succ n ih =>
    obtain ⟨k, hk, h⟩ := ih
    by_cases c : x k ≤ x (n + 1)
    · refine ⟨k, by omega, fun t ht => ?_⟩
      by_cases e : t = n + 1
      · rw [e]; exact c
      · exact h t (by omega)
    · refine ⟨n + 1, by omega, fun t ht => ?_⟩
      by_cases e : t = n + 1
      · rw [e]; exact Int.le_refl _
      · have := h t (by omega)
        omega
theorem qm_dot_ge {f x : Nat → Int} {m : Int} (hf : qm_row f) (hx : ∀ t, t < 4 → m ≤ x t) : 4 * m ≤ qm_dot f x := by
  obtain ⟨f0, f1, f2, f3, hs⟩ := hf
  have h0 := Int.mul_le_mul_of_nonneg_left (hx 0 (by decide)) f0
  have h1 := Int.mul_le_mul_of_nonneg_left (hx 1 (by decide)) f1
  have h2 := Int.mul_le_mul_of_nonneg_left (hx 2 (by decide)) f2
  have h3 := Int.mul_le_mul_of_nonneg_left (hx 3 (by decide)) f3
  have hm : f 0 * m + f 1 * m + f 2 * m + f 3 * m = 4 * m := by rw [← Int.add_mul, ← Int.add_mul, ← Int.add_mul, hs]
  unfold qm_dot
  omega
theorem qm_minp {S : Nat → Nat → Int} {x : Nat → Int} (hS : ∀ s, s < 4 → qm_row (S s)) (h : ∀ s, s < 4 → qm_dot (S s) x ≤ 8 * x s) : ∀ s, s < 4 → 0 ≤ x s := by
  obtain ⟨k, hk, hm⟩ := qm_min x 3
  have h1 := qm_dot_ge (hS k (by omega)) (fun t ht => hm t (by omega))
  have h2 := h k (by omega)
  intro s hs
  have h3 := hm s (by omega)
  omega
/-- eight times what action j gives, times the denominator -/
def qm_gain (R : Nat → Int) (S : Nat → Nat → Int) (T : Nat → Int) (D : Int) (j : Nat) : Int := 8 * R j * D + qm_dot (S j) T
theorem qm_gain_lin (R : Nat → Int) (S : Nat → Nat → Int) (T : Nat → Int) (D : Int) (T' : Nat → Int) (D' : Int) (j : Nat) : qm_dot (S j) (fun t => T' t * D - T t * D') = qm_gain R S T' D' j * D - qm_gain R S T D j * D' := by
  unfold qm_gain qm_dot
  grind
theorem qm_super {R : Nat → Int} {S : Nat → Nat → Int} {T T' : Nat → Int} {D D' : Int} {c : Nat → Nat} (hS : ∀ s, s < 4 → qm_row (S (c s))) (hD : 0 ≤ D) (hD' : 0 ≤ D')
    (hT : ∀ s, s < 4 → 8 * T s ≤ qm_gain R S T D (c s)) (hT' : ∀ s, s < 4 → qm_gain R S T' D' (c s) ≤ 8 * T' s) : ∀ s, s < 4 → T s * D' ≤ T' s * D := by
  have key := qm_minp (S := fun s => S (c s)) (x := fun t => T' t * D - T t * D') hS (fun s hs => by
    show qm_dot (S (c s)) (fun t => T' t * D - T t * D') ≤ 8 * (T' s * D - T s * D')
    rw [qm_gain_lin R S T D T' D']
    have a := Int.mul_le_mul_of_nonneg_right (hT' s hs) hD
    have b := Int.mul_le_mul_of_nonneg_right (hT s hs) hD'
    have e1 : 8 * T' s * D = 8 * (T' s * D) := Int.mul_assoc _ _ _
    have e2 : 8 * T s * D' = 8 * (T s * D') := Int.mul_assoc _ _ _
    omega)
  intro s hs
  have k := key s hs
  omega
theorem qm_superS {R : Nat → Int} {S : Nat → Nat → Int} {T T' : Nat → Int} {D D' : Int} {c : Nat → Nat} (hS : ∀ s, s < 4 → qm_row (S (c s))) (hD : 0 ≤ D) (hD' : 0 < D')
    (hT : ∀ s, s < 4 → 8 * T s ≤ qm_gain R S T D (c s)) (hT' : ∀ s, s < 4 → qm_gain R S T' D' (c s) ≤ 8 * T' s) (s : Nat) (hs : s < 4) (hl : 8 * T s < qm_gain R S T D (c s)) : T s * D' < T' s * D := by
  have key := qm_super hS hD (Int.le_of_lt hD') hT hT'
  have h0 := qm_dot_ge (x := fun t => T' t * D - T t * D') (m := 0) (hS s hs) (fun t ht => by
    have := key t ht
    omega)
  rw [qm_gain_lin R S T D T' D'] at h0
  have a := Int.mul_le_mul_of_nonneg_right (hT' s hs) hD
  have b := Int.mul_lt_mul_of_pos_right hl hD'
  have e1 : 8 * T' s * D = 8 * (T' s * D) := Int.mul_assoc _ _ _
  have e2 : 8 * T s * D' = 8 * (T s * D') := Int.mul_assoc _ _ _
  omega
/-! minors of a matrix of four rows and five columns -/
def qm_m (A : Nat → Nat → Int) (r c : Nat) : Int := A r c * A 0 0 - A r 0 * A 0 c
def qm_u (A : Nat → Nat → Int) (c : Nat) : Int := A 0 c * A 1 1 - A 0 1 * A 1 c
def qm_d (A : Nat → Nat → Int) (r i j k : Nat) : Int := A r k * (A 0 i * A 1 j - A 0 j * A 1 i) - A r j * (A 0 i * A 1 k - A 0 k * A 1 i) + A r i * (A 0 j * A 1 k - A 0 k * A 1 j)
def qm_e (A : Nat → Nat → Int) (i j k l : Nat) : Int := A 3 j * qm_d A 2 i k l - A 3 i * qm_d A 2 j k l - A 3 k * qm_d A 2 i j l + A 3 l * qm_d A 2 i j k
theorem qm_i1 (A : Nat → Nat → Int) (c : Nat) : A 0 c * qm_m A 1 1 - A 0 1 * qm_m A 1 c = A 0 0 * qm_u A c := by
  unfold qm_m qm_u
  grind
theorem qm_i2 (A : Nat → Nat → Int) (r c : Nat) : qm_m A r c * qm_m A 1 1 - qm_m A r 1 * qm_m A 1 c = A 0 0 * qm_d A r 0 1 c := by
  unfold qm_m qm_d
  grind
theorem qm_i3a (A : Nat → Nat → Int) (c : Nat) : qm_u A c * qm_d A 2 0 1 2 - qm_u A 2 * qm_d A 2 0 1 c = qm_m A 1 1 * qm_d A 2 c 1 2 := by
  unfold qm_m qm_u qm_d
  grind
theorem qm_i3b (A : Nat → Nat → Int) (c : Nat) : qm_m A 1 c * qm_d A 2 0 1 2 - qm_m A 1 2 * qm_d A 2 0 1 c = qm_m A 1 1 * qm_d A 2 0 c 2 := by
  unfold qm_m qm_d
  grind
theorem qm_i3c (A : Nat → Nat → Int) (c : Nat) : qm_d A 3 0 1 c * qm_d A 2 0 1 2 - qm_d A 3 0 1 2 * qm_d A 2 0 1 c = qm_m A 1 1 * qm_e A 0 1 2 c := by
  unfold qm_e qm_m qm_d
  grind
theorem qm_d_cyc (A : Nat → Nat → Int) (r i j k : Nat) : qm_d A r i j k = qm_d A r k i j := by
  unfold qm_d
  grind
theorem qm_d_sw (A : Nat → Nat → Int) (r i j k : Nat) : qm_d A r i j k = - qm_d A r i k j := by
  unfold qm_d
  grind
/-- products of minors of three rows: exchange of a column -/
theorem qm_pl (A : Nat → Nat → Int) (a b i j k : Nat) : qm_d A 2 a j k * qm_d A 2 i b k - qm_d A 2 b j k * qm_d A 2 i a k = qm_d A 2 i j k * qm_d A 2 a b k := by
  unfold qm_d
  grind
theorem qm_lin4 {x1 x2 x3 x4 b1 b2 b3 b4 c1 c2 c3 c4 p q t y1 y2 y3 y4 : Int} (h1 : p * b1 - q * c1 = t * y1) (h2 : p * b2 - q * c2 = t * y2) (h3 : p * b3 - q * c3 = t * y3) (h4 : p * b4 - q * c4 = t * y4) :
    p * (x1 * b1 - x2 * b2 - x3 * b3 + b4) - q * (x1 * c1 - x2 * c2 - x3 * c3 + c4) = t * (x1 * y1 - x2 * y2 - x3 * y3 + y4) := by
  have e1 : x1 * (p * b1 - q * c1) = x1 * (t * y1) := by rw [h1]
  have e2 : x2 * (p * b2 - q * c2) = x2 * (t * y2) := by rw [h2]
  have e3 : x3 * (p * b3 - q * c3) = x3 * (t * y3) := by rw [h3]
  clear h1 h2 h3
  grind
theorem qm_i4a (A : Nat → Nat → Int) : qm_d A 2 4 1 2 * qm_e A 0 1 2 3 - qm_d A 2 3 1 2 * qm_e A 0 1 2 4 = qm_d A 2 0 1 2 * qm_e A 4 1 2 3 := by
  unfold qm_e qm_d
  grind
theorem qm_i4b (A : Nat → Nat → Int) : qm_d A 2 0 4 2 * qm_e A 0 1 2 3 - qm_d A 2 0 3 2 * qm_e A 0 1 2 4 = qm_d A 2 0 1 2 * qm_e A 0 4 2 3 := by
  unfold qm_e qm_d
  grind
theorem qm_i4c (A : Nat → Nat → Int) : qm_d A 2 0 1 4 * qm_e A 0 1 2 3 - qm_d A 2 0 1 3 * qm_e A 0 1 2 4 = qm_d A 2 0 1 2 * qm_e A 0 1 4 3 := by
  unfold qm_e qm_d
  grind
theorem qm_cr (A : Nat → Nat → Int) (s : Nat) (hs : s < 4) : A s 0 * qm_e A 4 1 2 3 + A s 1 * qm_e A 0 4 2 3 + A s 2 * qm_e A 0 1 4 3 + A s 3 * qm_e A 0 1 2 4 = A s 4 * qm_e A 0 1 2 3 := by
  refine co_4 (P := fun s => A s 0 * qm_e A 4 1 2 3 + A s 1 * qm_e A 0 4 2 3 + A s 2 * qm_e A 0 1 4 3 + A s 3 * qm_e A 0 1 2 4 = A s 4 * qm_e A 0 1 2 3) ?_ ?_ ?_ ?_ hs <;> unfold qm_e qm_d <;> grind
/-! signs -/
theorem qm_pos {a x : Int} (ha : 0 < a) (h : 0 < a * x) : 0 < x := by
  by_cases c : 0 < x
  · exact c
  · have := Int.mul_nonneg (Int.le_of_lt ha) (show 0 ≤ -x by omega)
    rw [Int.mul_neg] at this
    omega
theorem qm_npos {a x : Int} (ha : 0 < a) (h : a * x ≤ 0) : x ≤ 0 := by
  by_cases c : 0 < x
  · have := Int.mul_pos ha c
    omega
  · omega
theorem qm_off {p f e g : Int} (hp : 0 < p) (hf : f ≤ 0) (he : e ≤ 0) (hg : g ≤ 0) : g * p - f * e ≤ 0 := by
  have h1 := Int.mul_nonneg (show 0 ≤ -f by omega) (show 0 ≤ -e by omega)
  have h2 := Int.mul_nonneg (show 0 ≤ -g by omega) (Int.le_of_lt hp)
  rw [Int.neg_mul_neg] at h1
  rw [Int.neg_mul] at h2
  omega
theorem qm_sumP {p f E G : Int} (hp : 0 < p) (hf : f ≤ 0) (hE : 0 < p + E) (hG : 0 < f + G) : 0 < G * p - f * E := by
  have h1 := Int.mul_pos hG hp
  have h2 := Int.mul_nonneg (show 0 ≤ -f by omega) (Int.le_of_lt hE)
  rw [Int.add_mul] at h1
  rw [Int.neg_mul, Int.mul_add] at h2
  omega
theorem qm_det_pos {A : Nat → Nat → Int} (ho : ∀ r c, r < 4 → c < 4 → r ≠ c → A r c ≤ 0) (hs : ∀ r, r < 4 → 0 < A r 0 + A r 1 + A r 2 + A r 3) :
    0 < A 0 0 ∧ 0 < qm_m A 1 1 ∧ 0 < qm_d A 2 0 1 2 ∧ 0 < qm_e A 0 1 2 3 := by
  have s0 := hs 0 (by decide)
  have s1 := hs 1 (by decide)
  have s2 := hs 2 (by decide)
  have s3 := hs 3 (by decide)
  have o01 := ho 0 1 (by decide) (by decide) (by decide)
  have o02 := ho 0 2 (by decide) (by decide) (by decide)
  have o03 := ho 0 3 (by decide) (by decide) (by decide)
  have o10 := ho 1 0 (by decide) (by decide) (by decide)
  have o12 := ho 1 2 (by decide) (by decide) (by decide)
  have o13 := ho 1 3 (by decide) (by decide) (by decide)
  have o20 := ho 2 0 (by decide) (by decide) (by decide)
  have o21 := ho 2 1 (by decide) (by decide) (by decide)
  have o23 := ho 2 3 (by decide) (by decide) (by decide)
  have o30 := ho 3 0 (by decide) (by decide) (by decide)
  have o31 := ho 3 1 (by decide) (by decide) (by decide)
  have o32 := ho 3 2 (by decide) (by decide) (by decide)
  have p0 : 0 < A 0 0 := by omega
  have m12 : qm_m A 1 2 ≤ 0 := qm_off p0 o10 o02 o12
  have m13 : qm_m A 1 3 ≤ 0 := qm_off p0 o10 o03 o13
  have m21 : qm_m A 2 1 ≤ 0 := qm_off p0 o20 o01 o21
  have m23 : qm_m A 2 3 ≤ 0 := qm_off p0 o20 o03 o23
  have m31 : qm_m A 3 1 ≤ 0 := qm_off p0 o30 o01 o31
  have m32 : qm_m A 3 2 ≤ 0 := qm_off p0 o30 o02 o32
  have mS : ∀ r, A r 0 ≤ 0 → 0 < A r 0 + A r 1 + A r 2 + A r 3 → 0 < qm_m A r 1 + qm_m A r 2 + qm_m A r 3 := by
    intro r h0 h1
    have h := qm_sumP (E := A 0 1 + A 0 2 + A 0 3) (G := A r 1 + A r 2 + A r 3) p0 h0 (by omega) (by omega)
    unfold qm_m
    rw [Int.add_mul, Int.add_mul, Int.mul_add, Int.mul_add] at h
    omega
  have t1 := mS 1 o10 s1
  have t2 := mS 2 o20 s2
  have t3 := mS 3 o30 s3
  have p1 : 0 < qm_m A 1 1 := by omega
  have d23 : qm_d A 2 0 1 3 ≤ 0 := qm_npos p0 (by rw [← qm_i2]; exact qm_off p1 m21 m13 m23)
  have d32 : qm_d A 3 0 1 2 ≤ 0 := qm_npos p0 (by rw [← qm_i2]; exact qm_off p1 m31 m12 m32)
  have dS : ∀ r, qm_m A r 1 ≤ 0 → 0 < qm_m A r 1 + qm_m A r 2 + qm_m A r 3 → 0 < qm_d A r 0 1 2 + qm_d A r 0 1 3 := by
    intro r h0 h1
    refine qm_pos p0 ?_
    rw [Int.mul_add, ← qm_i2, ← qm_i2]
    have h := qm_sumP (E := qm_m A 1 2 + qm_m A 1 3) (G := qm_m A r 2 + qm_m A r 3) p1 h0 (by omega) (by omega)
    rw [Int.add_mul, Int.mul_add] at h
    omega
  have v2 := dS 2 m21 t2
  have v3 := dS 3 m31 t3
  have p2 : 0 < qm_d A 2 0 1 2 := by omega
  refine ⟨p0, p1, p2, qm_pos p1 ?_⟩
  rw [← qm_i3c]
  exact qm_sumP p2 d32 v2 v3
/-! sizes -/
theorem qm_mulB {x y : Int} {a b : Nat} (hx : x.natAbs ≤ a) (hy : y.natAbs ≤ b) : (x * y).natAbs ≤ a * b := by
  rw [Int.natAbs_mul]
  exact Nat.mul_le_mul hx hy
theorem qm_2B {x y z w : Int} {B : Nat} (hx : x.natAbs ≤ B) (hy : y.natAbs ≤ B) (hz : z.natAbs ≤ B) (hw : w.natAbs ≤ B) : (x * y - z * w).natAbs ≤ 2 * (B * B) := by
  have h1 := qm_mulB hx hy
  have h2 := qm_mulB hz hw
  omega
theorem qm_dB {A : Nat → Nat → Int} {B r i j k : Nat} (hr : r < 4) (hi : ∀ r, r < 4 → (A r i).natAbs ≤ B) (hj : ∀ r, r < 4 → (A r j).natAbs ≤ B) (hk : ∀ r, r < 4 → (A r k).natAbs ≤ B) :
    (qm_d A r i j k).natAbs ≤ 3 * (B * (2 * (B * B))) := by
  have h1 := qm_mulB (hk r hr) (qm_2B (hi 0 (by decide)) (hj 1 (by decide)) (hj 0 (by decide)) (hi 1 (by decide)))
  have h2 := qm_mulB (hj r hr) (qm_2B (hi 0 (by decide)) (hk 1 (by decide)) (hk 0 (by decide)) (hi 1 (by decide)))
  have h3 := qm_mulB (hi r hr) (qm_2B (hj 0 (by decide)) (hk 1 (by decide)) (hk 0 (by decide)) (hj 1 (by decide)))
  unfold qm_d
  omega
theorem qm_eB {A : Nat → Nat → Int} {B i j k l : Nat} (hi : ∀ r, r < 4 → (A r i).natAbs ≤ B) (hj : ∀ r, r < 4 → (A r j).natAbs ≤ B) (hk : ∀ r, r < 4 → (A r k).natAbs ≤ B) (hl : ∀ r, r < 4 → (A r l).natAbs ≤ B) :
    (qm_e A i j k l).natAbs ≤ 4 * (B * (3 * (B * (2 * (B * B))))) := by
  have h1 := qm_mulB (hj 3 (by decide)) (qm_dB (r := 2) (by decide) hi hk hl)
  have h2 := qm_mulB (hi 3 (by decide)) (qm_dB (r := 2) (by decide) hj hk hl)
  have h3 := qm_mulB (hk 3 (by decide)) (qm_dB (r := 2) (by decide) hi hj hl)
  have h4 := qm_mulB (hl 3 (by decide)) (qm_dB (r := 2) (by decide) hi hj hk)
  unfold qm_e
  omega
end
section
/-! the values of a policy -/
def qm_act (p s : Nat) : Nat := 2 * s + p / 2 ^ s % 2
theorem qm_act_lt {p s : Nat} (hs : s < 4) : qm_act p s < 8 := by
  unfold qm_act
  omega
def qm_OK (R : Nat → Int) (S : Nat → Nat → Int) : Prop := (∀ j, j < 8 → -20 ≤ R j ∧ R j ≤ 20) ∧ ∀ j, j < 8 → qm_row (S j)
def qm_A (R : Nat → Int) (S : Nat → Nat → Int) (p s c : Nat) : Int := if c = 4 then 8 * R (qm_act p s) else (if s = c then 8 else 0) - S (qm_act p s) c
def qm_z (A : Nat → Nat → Int) (s : Nat) : Int := if s = 0 then qm_e A 4 1 2 3 else if s = 1 then qm_e A 0 4 2 3 else if s = 2 then qm_e A 0 1 4 3 else qm_e A 0 1 2 4
def qm_VT (R : Nat → Int) (S : Nat → Nat → Int) (p s : Nat) : Int := qm_z (qm_A R S p) s
def qm_VD (R : Nat → Int) (S : Nat → Nat → Int) (p : Nat) : Int := qm_e (qm_A R S p) 0 1 2 3
theorem qm_A_off {R : Nat → Int} {S : Nat → Nat → Int} (h : qm_OK R S) (p : Nat) : ∀ r c, r < 4 → c < 4 → r ≠ c → qm_A R S p r c ≤ 0 := by
  intro r c hr hc n
  obtain ⟨h0, h1, h2, h3, hs⟩ := h.2 (qm_act p r) (qm_act_lt hr)
  unfold qm_A
  rw [if_neg (by omega), if_neg n]
  have : 0 ≤ S (qm_act p r) c := co_4 (P := fun c => 0 ≤ S (qm_act p r) c) h0 h1 h2 h3 hc
  omega
theorem qm_A_sum {R : Nat → Int} {S : Nat → Nat → Int} (h : qm_OK R S) (p : Nat) : ∀ r, r < 4 → 0 < qm_A R S p r 0 + qm_A R S p r 1 + qm_A R S p r 2 + qm_A R S p r 3 := by
  intro r hr
  obtain ⟨h0, h1, h2, h3, hs⟩ := h.2 (qm_act p r) (qm_act_lt hr)
  revert h0 h1 h2 h3 hs
  unfold qm_A
  refine co_4 (P := fun r => 0 ≤ S (qm_act p r) 0 → 0 ≤ S (qm_act p r) 1 → 0 ≤ S (qm_act p r) 2 → 0 ≤ S (qm_act p r) 3 → S (qm_act p r) 0 + S (qm_act p r) 1 + S (qm_act p r) 2 + S (qm_act p r) 3 = 4 → 0 < (if (0 : Nat) = 4 then 8 * R (qm_act p r) else (if r = 0 then 8 else 0) - S (qm_act p r) 0) + (if (1 : Nat) = 4 then 8 * R (qm_act p r) else (if r = 1 then 8 else 0) - S (qm_act p r) 1) + (if (2 : Nat) = 4 then 8 * R (qm_act p r) else (if r = 2 then 8 else 0) - S (qm_act p r) 2) + (if (3 : Nat) = 4 then 8 * R (qm_act p r) else (if r = 3 then 8 else 0) - S (qm_act p r) 3)) ?_ ?_ ?_ ?_ hr <;> intro a b c d e <;> simp <;> omega
theorem qm_A_8 {R : Nat → Int} {S : Nat → Nat → Int} (h : qm_OK R S) (p c : Nat) (hc : c < 4) : ∀ r, r < 4 → (qm_A R S p r c).natAbs ≤ 8 := by
  intro r hr
  obtain ⟨h0, h1, h2, h3, hs⟩ := h.2 (qm_act p r) (qm_act_lt hr)
  have : 0 ≤ S (qm_act p r) c ∧ S (qm_act p r) c ≤ 4 := co_4 (P := fun c => 0 ≤ S (qm_act p r) c ∧ S (qm_act p r) c ≤ 4) (by omega) (by omega) (by omega) (by omega) hc
  unfold qm_A
  rw [if_neg (by omega)]
  split <;> omega
theorem qm_A_160 {R : Nat → Int} {S : Nat → Nat → Int} (h : qm_OK R S) (p c : Nat) (hc : c < 5) : ∀ r, r < 4 → (qm_A R S p r c).natAbs ≤ 160 := by
  intro r hr
  by_cases e : c = 4
  · have := h.1 (qm_act p r) (qm_act_lt hr)
    unfold qm_A
    rw [if_pos e]
    omega
  · exact Nat.le_trans (qm_A_8 h p c (by omega) r hr) (by decide)
theorem qm_A_pos {R : Nat → Int} {S : Nat → Nat → Int} (h : qm_OK R S) (p : Nat) : 0 < qm_A R S p 0 0 ∧ 0 < qm_m (qm_A R S p) 1 1 ∧ 0 < qm_d (qm_A R S p) 2 0 1 2 ∧ 0 < qm_VD R S p :=
  qm_det_pos (qm_A_off h p) (qm_A_sum h p)
theorem qm_VD_le {R : Nat → Int} {S : Nat → Nat → Int} (h : qm_OK R S) (p : Nat) : qm_VD R S p ≤ 98304 := by
  have b := qm_eB (qm_A_8 h p 0 (by decide)) (qm_A_8 h p 1 (by decide)) (qm_A_8 h p 2 (by decide)) (qm_A_8 h p 3 (by decide))
  unfold qm_VD
  omega
theorem qm_eA_le {R : Nat → Int} {S : Nat → Nat → Int} (h : qm_OK R S) (p : Nat) {i j k l : Nat} (hi : i < 5) (hj : j < 5) (hk : k < 5) (hl : l < 5) : (qm_e (qm_A R S p) i j k l).natAbs ≤ 15728640000 := by
  have b := qm_eB (qm_A_160 h p i hi) (qm_A_160 h p j hj) (qm_A_160 h p k hk) (qm_A_160 h p l hl)
  omega
theorem qm_dA_le {R : Nat → Int} {S : Nat → Nat → Int} (h : qm_OK R S) (p : Nat) {r i j k : Nat} (hr : r < 4) (hi : i < 5) (hj : j < 5) (hk : k < 5) : (qm_d (qm_A R S p) r i j k).natAbs ≤ 24576000 := by
  have b := qm_dB hr (qm_A_160 h p i hi) (qm_A_160 h p j hj) (qm_A_160 h p k hk)
  omega
theorem qm_mA_le {R : Nat → Int} {S : Nat → Nat → Int} (h : qm_OK R S) (p : Nat) {r c : Nat} (hr : r < 4) (hc : c < 5) : (qm_m (qm_A R S p) r c).natAbs ≤ 51200 :=
  qm_2B (B := 160) (qm_A_160 h p c hc r hr) (qm_A_160 h p 0 (by decide) 0 (by decide)) (qm_A_160 h p 0 (by decide) r hr) (qm_A_160 h p c hc 0 (by decide))
theorem qm_uA_le {R : Nat → Int} {S : Nat → Nat → Int} (h : qm_OK R S) (p : Nat) {c : Nat} (hc : c < 5) : (qm_u (qm_A R S p) c).natAbs ≤ 51200 :=
  qm_2B (B := 160) (qm_A_160 h p c hc 0 (by decide)) (qm_A_160 h p 1 (by decide) 1 (by decide)) (qm_A_160 h p 1 (by decide) 0 (by decide)) (qm_A_160 h p c hc 1 (by decide))
theorem qm_VT_le {R : Nat → Int} {S : Nat → Nat → Int} (h : qm_OK R S) (p s : Nat) : (qm_VT R S p s).natAbs ≤ 15728640000 := by
  unfold qm_VT qm_z
  split
  · exact qm_eA_le h p (by decide) (by decide) (by decide) (by decide)
  · split
    · exact qm_eA_le h p (by decide) (by decide) (by decide) (by decide)
    · split
      · exact qm_eA_le h p (by decide) (by decide) (by decide) (by decide)
      · exact qm_eA_le h p (by decide) (by decide) (by decide) (by decide)
theorem qm_val_eq {R : Nat → Int} {S : Nat → Nat → Int} (p s : Nat) (hs : s < 4) : qm_gain R S (qm_VT R S p) (qm_VD R S p) (qm_act p s) = 8 * qm_VT R S p s := by
  have c := qm_cr (qm_A R S p) s hs
  have z0 : qm_VT R S p 0 = qm_e (qm_A R S p) 4 1 2 3 := rfl
  have z1 : qm_VT R S p 1 = qm_e (qm_A R S p) 0 4 2 3 := rfl
  have z2 : qm_VT R S p 2 = qm_e (qm_A R S p) 0 1 4 3 := rfl
  have z3 : qm_VT R S p 3 = qm_e (qm_A R S p) 0 1 2 4 := rfl
  have zd : qm_VD R S p = qm_e (qm_A R S p) 0 1 2 3 := rfl
  rw [← z0, ← z1, ← z2, ← z3, ← zd] at c
  have a4 : qm_A R S p s 4 = 8 * R (qm_act p s) := rfl
  have aT : ∀ t, t < 4 → qm_A R S p s t = (if s = t then 8 else 0) - S (qm_act p s) t := fun t ht => by
    unfold qm_A
    rw [if_neg (by omega)]
  rw [a4, aT 0 (by decide), aT 1 (by decide), aT 2 (by decide), aT 3 (by decide)] at c
  unfold qm_gain qm_dot
  revert c
  generalize S (qm_act p s) = f
  generalize R (qm_act p s) = g
  generalize qm_VD R S p = D
  generalize qm_VT R S p = T
  refine co_4 (P := fun s => ((if s = 0 then 8 else 0) - f 0) * T 0 + ((if s = 1 then 8 else 0) - f 1) * T 1 + ((if s = 2 then 8 else 0) - f 2) * T 2 + ((if s = 3 then 8 else 0) - f 3) * T 3 = 8 * g * D → 8 * g * D + (f 0 * T 0 + f 1 * T 1 + f 2 * T 2 + f 3 * T 3) = 8 * T s) ?_ ?_ ?_ ?_ hs <;> intro c <;> grind
/-! the rank of a policy -/
def qm_sum (T : Nat → Int) : Int := T 0 + T 1 + T 2 + T 3
theorem qm_sum_lt {T T' : Nat → Int} {D D' : Int} (h : ∀ s, s < 4 → T s * D' ≤ T' s * D) {s : Nat} (hs : s < 4) (hl : T s * D' < T' s * D) : qm_sum T * D' < qm_sum T' * D := by
  have h0 := h 0 (by decide)
  have h1 := h 1 (by decide)
  have h2 := h 2 (by decide)
  have h3 := h 3 (by decide)
  unfold qm_sum
  rw [Int.add_mul, Int.add_mul, Int.add_mul, Int.add_mul, Int.add_mul, Int.add_mul]
  revert hl
  refine co_4 (P := fun s => T s * D' < T' s * D → T 0 * D' + T 1 * D' + T 2 * D' + T 3 * D' < T' 0 * D + T' 1 * D + T' 2 * D + T' 3 * D) ?_ ?_ ?_ ?_ hs <;> intro hl <;> omega
def qm_cnt (P : Nat → Bool) : Nat → Nat
  | 0 => 0
  | n + 1 => qm_cnt P n + (if P n = true then 1 else 0)
theorem qm_cnt_le {P Q : Nat → Bool} (h : ∀ q, P q = true → Q q = true) (n : Nat) : qm_cnt P n ≤ qm_cnt Q n := by
  induction n with
  | zero => exact Nat.le_refl 0
  | succ n ih =>
    unfold qm_cnt
    by_cases c : P n = true
    · rw [if_pos c, if_pos (h n c)]
      omega
    · rw [if_neg c]
      omega
theorem qm_cnt_lt {P Q : Nat → Bool} (h : ∀ q, P q = true → Q q = true) {k : Nat} (hP : ¬ P k = true) (hQ : Q k = true) (n : Nat) (hk : k < n) : qm_cnt P n + 1 ≤ qm_cnt Q n := by
  induction n with
  | zero => exact absurd hk (by omega)
  | succ n ih =>
    unfold qm_cnt
    by_cases e : k = n
    · subst e
      rw [if_neg hP, if_pos hQ]
      have := qm_cnt_le h k
      omega
    · have i := ih (by omega)
      by_cases c : P n = true
      · rw [if_pos c, if_pos (h n c)]
        omega
      · rw [if_neg c]
        omega
theorem qm_cnt_n (P : Nat → Bool) (n : Nat) : qm_cnt P n ≤ n := by
  induction n with
  | zero => exact Nat.le_refl 0
  | succ n ih =>
    unfold qm_cnt
    split <;> omega
def qm_less (R : Nat → Int) (S : Nat → Nat → Int) (q p : Nat) : Bool := decide (qm_sum (qm_VT R S q) * qm_VD R S p < qm_sum (qm_VT R S p) * qm_VD R S q)
def qm_rank (R : Nat → Int) (S : Nat → Nat → Int) (p : Nat) : Nat := qm_cnt (fun q => qm_less R S q p) 16
theorem qm_frac {a b c d e f : Int} (hb : 0 < b) (hd : 0 < d) (hf : 0 < f) (h1 : a * d < c * b) (h2 : c * f < e * d) : a * f < e * b := by
  have k1 := Int.mul_lt_mul_of_pos_right h1 hf
  have k2 := Int.mul_lt_mul_of_pos_right h2 hb
  have k3 : 0 < d * (e * b - a * f) := by
    have e1 : a * d * f = d * (a * f) := by grind
    have e2 : c * b * f = c * f * b := by grind
    have e3 : e * d * b = d * (e * b) := by grind
    rw [Int.mul_sub]
    omega
  have k4 := qm_pos hd k3
  omega
theorem qm_rank_up {R : Nat → Int} {S : Nat → Nat → Int} (h : qm_OK R S) {p p' : Nat} (hp : p < 16) (hl : qm_sum (qm_VT R S p) * qm_VD R S p' < qm_sum (qm_VT R S p') * qm_VD R S p) : qm_rank R S p + 1 ≤ qm_rank R S p' := by
  unfold qm_rank
  refine qm_cnt_lt (P := fun q => qm_less R S q p) (Q := fun q => qm_less R S q p') (fun q hq => ?_) (k := p) ?_ ?_ 16 hp
  · have hq' : qm_sum (qm_VT R S q) * qm_VD R S p < qm_sum (qm_VT R S p) * qm_VD R S q := of_decide_eq_true hq
    exact decide_eq_true (qm_frac (qm_A_pos h q).2.2.2 (qm_A_pos h p).2.2.2 (qm_A_pos h p').2.2.2 hq' hl)
  · intro hq
    have hq' : qm_sum (qm_VT R S p) * qm_VD R S p < qm_sum (qm_VT R S p) * qm_VD R S p := of_decide_eq_true hq
    omega
  · exact decide_eq_true hl
theorem qm_rank_le {R : Nat → Int} {S : Nat → Nat → Int} {p : Nat} (hp : p < 16) : qm_rank R S p ≤ 15 := by
  have h := qm_cnt_lt (P := fun q => qm_less R S q p) (Q := fun _ => true) (fun _ _ => rfl) (k := p) (by
    intro hq
    have hq' : qm_sum (qm_VT R S p) * qm_VD R S p < qm_sum (qm_VT R S p) * qm_VD R S p := of_decide_eq_true hq
    omega) rfl 16 hp
  have h2 := qm_cnt_n (fun _ => true) 16
  unfold qm_rank
  omega
/-- an improved policy has a higher rank -/
theorem qm_better {R : Nat → Int} {S : Nat → Nat → Int} (h : qm_OK R S) {p p' : Nat} (hp : p < 16)
    (hT : ∀ s, s < 4 → 8 * qm_VT R S p s ≤ qm_gain R S (qm_VT R S p) (qm_VD R S p) (qm_act p' s)) {s : Nat} (hs : s < 4) (hl : 8 * qm_VT R S p s < qm_gain R S (qm_VT R S p) (qm_VD R S p) (qm_act p' s)) :
    qm_rank R S p + 1 ≤ qm_rank R S p' := by
  have hS : ∀ s, s < 4 → qm_row (S (qm_act p' s)) := fun s hs => h.2 _ (qm_act_lt hs)
  have hT' : ∀ s, s < 4 → qm_gain R S (qm_VT R S p') (qm_VD R S p') (qm_act p' s) ≤ 8 * qm_VT R S p' s := fun s hs => Int.le_of_eq (qm_val_eq p' s hs)
  have D0 := (qm_A_pos h p).2.2.2
  have D1 := (qm_A_pos h p').2.2.2
  exact qm_rank_up h hp (qm_sum_lt (qm_super hS (Int.le_of_lt D0) (Int.le_of_lt D1) hT hT') hs (qm_superS hS (Int.le_of_lt D0) D1 hT hT' s hs hl))
end
section
/-! the optimum -/
def qm_opt (R : Nat → Int) (S : Nat → Nat → Int) (T : Nat → Int) (D : Int) : Prop := ∀ s, s < 4 → ∀ a, a < 2 → qm_gain R S T D (2 * s + a) ≤ 8 * T s
def qm_eqn (R : Nat → Int) (S : Nat → Nat → Int) (p : Nat) (T : Nat → Int) (D : Int) : Prop := ∀ s, s < 4 → qm_gain R S T D (qm_act p s) = 8 * T s
def qm_sol (R : Nat → Int) (S : Nat → Nat → Int) (T : Nat → Int) (D : Int) : Prop := 0 < D ∧ qm_opt R S T D ∧ ∃ p, qm_eqn R S p T D
theorem qm_opt_act {R : Nat → Int} {S : Nat → Nat → Int} {T : Nat → Int} {D : Int} (h : qm_opt R S T D) (p : Nat) : ∀ s, s < 4 → qm_gain R S T D (qm_act p s) ≤ 8 * T s :=
  fun s hs => h s hs (p / 2 ^ s % 2) (by omega)
theorem qm_sol_le {R : Nat → Int} {S : Nat → Nat → Int} {T T' : Nat → Int} {D D' : Int} {p : Nat} (ok : qm_OK R S) (hD : 0 < D) (h : qm_eqn R S p T D) (hD' : 0 < D') (h' : qm_opt R S T' D') : ∀ s, s < 4 → T s * D' ≤ T' s * D :=
  qm_super (c := qm_act p) (fun s hs => ok.2 _ (qm_act_lt hs)) (Int.le_of_lt hD) (Int.le_of_lt hD') (fun s hs => Int.le_of_eq (h s hs).symm) (qm_opt_act h' p)
theorem qm_sol_uniq {R : Nat → Int} {S : Nat → Nat → Int} {T T' : Nat → Int} {D D' : Int} (ok : qm_OK R S) (h : qm_sol R S T D) (h' : qm_sol R S T' D') : ∀ s, s < 4 → T s * D' = T' s * D := by
  obtain ⟨d, o, p, e⟩ := h
  obtain ⟨d', o', p', e'⟩ := h'
  intro s hs
  exact Int.le_antisymm (qm_sol_le ok d e d' o' s hs) (qm_sol_le ok d' e' d o s hs)
theorem qm_eqn_uniq {R : Nat → Int} {S : Nat → Nat → Int} {T T' : Nat → Int} {D D' : Int} {p : Nat} (ok : qm_OK R S) (hD : 0 < D) (hD' : 0 < D') (h : qm_eqn R S p T D) (h' : qm_eqn R S p T' D') : ∀ s, s < 4 → T s * D' = T' s * D := by
  intro s hs
  exact Int.le_antisymm
    (qm_super (c := qm_act p) (fun s hs => ok.2 _ (qm_act_lt hs)) (Int.le_of_lt hD) (Int.le_of_lt hD') (fun s hs => Int.le_of_eq (h s hs).symm) (fun s hs => Int.le_of_eq (h' s hs)) s hs)
    (qm_super (c := qm_act p) (fun s hs => ok.2 _ (qm_act_lt hs)) (Int.le_of_lt hD') (Int.le_of_lt hD) (fun s hs => Int.le_of_eq (h' s hs).symm) (fun s hs => Int.le_of_eq (h s hs)) s hs)
theorem qm_gain_sc {R : Nat → Int} {S : Nat → Nat → Int} {T T' : Nat → Int} {D D' : Int} (e : ∀ s, s < 4 → T s * D' = T' s * D) (j : Nat) : qm_gain R S T' D' j * D = qm_gain R S T D j * D' := by
  have l := qm_gain_lin R S T D T' D' j
  have z : qm_dot (S j) (fun t => T' t * D - T t * D') = 0 := by
    unfold qm_dot
    dsimp only
    rw [← e 0 (by decide), ← e 1 (by decide), ← e 2 (by decide), ← e 3 (by decide)]
    simp
  omega
theorem qm_good_sc {R : Nat → Int} {S : Nat → Nat → Int} {T T' : Nat → Int} {D D' : Int} (hD : 0 < D) (hD' : 0 < D') (e : ∀ s, s < 4 → T s * D' = T' s * D) (j s : Nat) (hs : s < 4) : qm_gain R S T D j = 8 * T s ↔ qm_gain R S T' D' j = 8 * T' s := by
  have g := qm_gain_sc (R := R) (S := S) e j
  have es := e s hs
  constructor
  · intro h
    rw [h, Int.mul_assoc, es, ← Int.mul_assoc] at g
    exact Int.eq_of_mul_eq_mul_right (by omega) g
  · intro h
    rw [h, Int.mul_assoc, ← es, ← Int.mul_assoc] at g
    exact (Int.eq_of_mul_eq_mul_right (by omega) g).symm
/-! words -/
theorem qv_ix (k j t : Nat) : nI k * nI j + nI t = nI (k * j + t) := by rw [pk_mul, nI_add]
theorem qv_mn : Int64.minValue.toInt = -9223372036854775808 := rfl
theorem qv_mx : Int64.maxValue.toInt = 9223372036854775807 := rfl
theorem qv_ti {a : Int} (h : a.natAbs < 2 ^ 62) : (Int64.ofInt a).toInt = a := Int64.toInt_ofInt_of_le (by omega) (by omega)
theorem qv_eq {a b : Int} (ha : a.natAbs < 2 ^ 62) (hb : b.natAbs < 2 ^ 62) : Int64.ofInt a = Int64.ofInt b ↔ a = b := by
  constructor
  · intro h
    rw [← qv_ti ha, ← qv_ti hb, h]
  · intro h
    rw [h]
theorem qv_le {a b : Int} (ha : a.natAbs < 2 ^ 62) (hb : b.natAbs < 2 ^ 62) : Int64.ofInt a ≤ Int64.ofInt b ↔ a ≤ b := by
  rw [Int64.le_iff_toInt_le, qv_ti ha, qv_ti hb]
theorem qv_lt {a b : Int} (ha : a.natAbs < 2 ^ 62) (hb : b.natAbs < 2 ^ 62) : Int64.ofInt a < Int64.ofInt b ↔ a < b := by
  rw [Int64.lt_iff_toInt_lt, qv_ti ha, qv_ti hb]
theorem qv_n0 {a : Int} (h : 0 < a) (ha : a.natAbs < 2 ^ 62) : ¬ Int64.ofInt a = 0 := by
  intro e
  have : a = 0 := (qv_eq ha (b := 0) (by decide)).mp (e.trans rfl)
  omega
theorem qv_div {a b : Int} (ha : a.natAbs < 2 ^ 62) (hb : b.natAbs < 2 ^ 62) : Int64.ofInt a / Int64.ofInt b = Int64.ofInt (a.tdiv b) :=
  (Int64.ofInt_tdiv (by rw [qv_mn]; omega) (by rw [qv_mx]; omega) (by rw [qv_mn]; omega) (by rw [qv_mx]; omega)).symm
/-- a step of the elimination: the division comes out even -/
theorem qv_red {x y z w b r : Int} (hb : 0 < b) (hB : b.natAbs < 2 ^ 62) (e : x * y - z * w = b * r) (hx : (x * y - z * w).natAbs < 2 ^ 62) :
    (Int64.ofInt x * Int64.ofInt y - Int64.ofInt z * Int64.ofInt w) / Int64.ofInt b = Int64.ofInt r := by
  rw [← Int64.ofInt_mul, ← Int64.ofInt_mul, ← Int64.ofInt_sub, qv_div hx hB, e, Int.mul_tdiv_cancel_left _ (by omega)]
/-! lowest terms -/
def qv_g (t d : Int) : Nat := Nat.gcd t.natAbs d.natAbs
def qv_top (t d : Int) : Int32 := (Int64.ofInt t / lN (qv_g t d)).toInt32
def qv_bot (t d : Int) : Int32 := (Int64.ofInt d / lN (qv_g t d)).toInt32
theorem qv_lN (n : Nat) : lN n = Int64.ofInt (n : Int) := Int64.ofInt_eq_ofNat.symm
theorem qv_g_pos {t d : Int} (hd : 0 < d) : 0 < qv_g t d := Nat.gcd_pos_of_pos_right _ (by omega)
theorem qv_g_le {t d : Int} (hd : 0 < d) : qv_g t d ≤ d.natAbs := Nat.le_of_dvd (by omega) (Nat.gcd_dvd_right _ _)
theorem qv_low0 {t d t' d' : Int} {g g' : Nat} (g0 : 0 < g) (g0' : 0 < g') (hx : (g : Int) ∣ t) (hy : (g : Int) ∣ d) (hx' : (g' : Int) ∣ t') (hy' : (g' : Int) ∣ d') (hd : 0 < d) (e : t * d' = t' * d) (ge : (g : Int) * d' = (g' : Int) * d) :
    t.tdiv g = t'.tdiv g' ∧ d.tdiv g = d'.tdiv g' := by
  obtain ⟨x, rfl⟩ := hx
  obtain ⟨y, rfl⟩ := hy
  obtain ⟨x', rfl⟩ := hx'
  obtain ⟨y', rfl⟩ := hy'
  have n : (g : Int) ≠ 0 := by omega
  have n' : (g' : Int) ≠ 0 := by omega
  have nn : (g : Int) * (g' : Int) ≠ 0 := Int.mul_ne_zero n n'
  have ey : y' = y := by
    apply Int.eq_of_mul_eq_mul_left nn
    grind
  have y0 : y ≠ 0 := by
    intro z
    rw [z, Int.mul_zero] at hd
    omega
  have ex : x = x' := by
    apply Int.eq_of_mul_eq_mul_right y0
    apply Int.eq_of_mul_eq_mul_left nn
    rw [ey] at e
    grind
  rw [Int.mul_tdiv_cancel_left _ n, Int.mul_tdiv_cancel_left _ n, Int.mul_tdiv_cancel_left _ n', Int.mul_tdiv_cancel_left _ n']
  exact ⟨ex, ey.symm⟩
theorem qv_low {t d t' d' : Int} (hd : 0 < d) (hd' : 0 < d') (bt : t.natAbs < 2 ^ 62) (bd : d.natAbs < 2 ^ 62) (bt' : t'.natAbs < 2 ^ 62) (bd' : d'.natAbs < 2 ^ 62) (e : t * d' = t' * d) :
    qv_top t d = qv_top t' d' ∧ qv_bot t d = qv_bot t' d' := by
  have g0 := qv_g_pos (t := t) hd
  have g0' := qv_g_pos (t := t') hd'
  have l := qv_g_le (t := t) hd
  have l' := qv_g_le (t := t') hd'
  have ge : qv_g t d * d'.natAbs = qv_g t' d' * d.natAbs := by
    unfold qv_g
    rw [← Nat.gcd_mul_right, ← Nat.gcd_mul_right, ← Int.natAbs_mul, ← Int.natAbs_mul, ← Int.natAbs_mul, ← Int.natAbs_mul, e, Int.mul_comm d d']
  have geI : (qv_g t d : Int) * d' = (qv_g t' d' : Int) * d := by
    have h := congrArg (fun n : Nat => (n : Int)) ge
    rw [Int.natCast_mul, Int.natCast_mul, show (d'.natAbs : Int) = d' by omega, show (d.natAbs : Int) = d by omega] at h
    exact h
  have k := qv_low0 g0 g0' (Int.ofNat_dvd_left.mpr (Nat.gcd_dvd_left _ _)) (Int.ofNat_dvd_left.mpr (Nat.gcd_dvd_right _ _)) (Int.ofNat_dvd_left.mpr (Nat.gcd_dvd_left _ _)) (Int.ofNat_dvd_left.mpr (Nat.gcd_dvd_right _ _)) hd e geI
  unfold qv_top qv_bot
  rw [qv_lN, qv_lN, qv_div bt (by omega), qv_div bd (by omega), qv_div bt' (by omega), qv_div bd' (by omega), k.1, k.2]
  exact ⟨rfl, rfl⟩
/-! bits: the policy word -/
theorem qv_bit : ∀ p, p < 16 → ∀ s, s < 4 → (nI p >>> (nI s &&& 31)) &&& 1 = nI (p / 2 ^ s % 2) := by decide +kernel
theorem qv_act {p s : Nat} (hp : p < 16) (hs : s < 4) : 2 * nI s + ((nI p >>> (nI s &&& 31)) &&& 1) = nI (qm_act p s) := by
  rw [qv_bit p hp s hs]
  exact qv_ix 2 s _
/-- the policy p with action a in state s -/
def qv_set (p s a : Nat) : Nat := p - p / 2 ^ s % 2 * 2 ^ s + a * 2 ^ s
theorem qv_setw : ∀ p, p < 16 → ∀ s, s < 4 → ∀ a, a < 2 → (nI p &&& (((1 : Int32) <<< (nI s &&& 31)) ^^^ (-1))) ||| (nI a <<< (nI s &&& 31)) = nI (qv_set p s a) := by decide +kernel
theorem qv_set_lt : ∀ p, p < 16 → ∀ s, s < 4 → ∀ a, a < 2 → qv_set p s a < 16 := by decide +kernel
theorem qv_set_at : ∀ p, p < 16 → ∀ s, s < 4 → ∀ a, a < 2 → qm_act (qv_set p s a) s = 2 * s + a := by decide +kernel
theorem qv_set_ne : ∀ p, p < 16 → ∀ s, s < 4 → ∀ a, a < 2 → ∀ r, r < 4 → r ≠ s → qm_act (qv_set p s a) r = qm_act p r := by decide +kernel
/-- the process of a state -/
def qv_R (a1 : Nat → Int32) (j : Nat) : Int := (a1 j).toInt
def qv_S (a2 : Nat → Int32) (j t : Nat) : Int := (a2 (4 * j + t)).toInt
def qv_OK (a1 a2 : Nat → Int32) : Prop := qm_OK (qv_R a1) (qv_S a2)
end
section
section
variable {post : St1 → Prop} {fb fk : Int64} {fs fp : Int32} {fd : Int64} {a1 a2 : Nat → Int32} {a3 a4 a5 a6 : Nat → Int64} {a7 : Nat → Int32}
theorem qw_A4 (a1 a2 : Nat → Int32) (p s : Nat) : 8 * (a1 (qm_act p s)).toInt64 = Int64.ofInt (qm_A (qv_R a1) (qv_S a2) p s 4) := by
  unfold qm_A qv_R
  rw [if_pos rfl, Int64.ofInt_mul, Int64.ofInt_int32ToInt]
  rfl
theorem qw_A8 (a1 a2 : Nat → Int32) (p s : Nat) (hs : s < 4) : 8 - (a2 (4 * qm_act p s + s)).toInt64 = Int64.ofInt (qm_A (qv_R a1) (qv_S a2) p s s) := by
  unfold qm_A qv_S
  rw [if_neg (by omega), if_pos rfl, Int64.ofInt_sub, Int64.ofInt_int32ToInt]
  rfl
theorem qw_A0 (a1 a2 : Nat → Int32) (p s c : Nat) (hc : c < 4) (n : s ≠ c) : 0 - (a2 (4 * qm_act p s + c)).toInt64 = Int64.ofInt (qm_A (qv_R a1) (qv_S a2) p s c) := by
  unfold qm_A qv_S
  rw [if_neg (by omega), if_neg n, Int64.ofInt_sub, Int64.ofInt_int32ToInt]
  rfl
theorem qw_fill20 {J2 : Int32 → (Nat → Int32) → (Nat → Int32) → (Nat → Int64) → (Nat → Int64) → (Nat → Int64) → (Nat → Int64) → (Nat → Int32) → Prop} {x1 : Int32} {p s : Nat} (hs : s < 4)
    (H : ∀ b3, (∀ c, c < 5 → b3 (5 * s + c) = Int64.ofInt (qm_A (qv_R a1) (qv_S a2) p s c)) → (∀ i, i < 5 * s → b3 i = a3 i) → J2 (nI (s + 1)) a1 a2 b3 a4 a5 a6 a7) :
    ∃ n, wX_fillRows_20 post J2 x1 (nI s) (nI (qm_act p s)) fb fk fs fp fd n 0 a1 a2 a3 a4 a5 a6 a7 := by
  have hj := qm_act_lt (p := p) hs
  have key : ∀ (b3 : Nat → Int64) (t : Nat) (v : Int64), (∀ c, c < t → b3 (5 * s + c) = Int64.ofInt (qm_A (qv_R a1) (qv_S a2) p s c)) → v = Int64.ofInt (qm_A (qv_R a1) (qv_S a2) p s t) →
      ∀ c, c < t + 1 → vp_updL b3 (5 * s + t) v (5 * s + c) = Int64.ofInt (qm_A (qv_R a1) (qv_S a2) p s c) := by
    intro b3 t v h hv c hc
    by_cases e : c = t
    · rw [e, pk_uLs, hv]
    · rw [pk_uLn (by omega)]
      exact h c (by omega)
  have keep : ∀ (b3 : Nat → Int64) (t : Nat) (v : Int64), (∀ i, i < 5 * s → b3 i = a3 i) → ∀ i, i < 5 * s → vp_updL b3 (5 * s + t) v i = a3 i := by
    intro b3 t v h i hi
    rw [pk_uLn (by omega)]
    exact h i hi
  refine pk_loop (fun n t b3 => wX_fillRows_20 post J2 x1 (nI s) (nI (qm_act p s)) fb fk fs fp fd n (nI t) a1 a2 b3 a4 a5 a6 a7)
    (fun t b3 => (∀ c, c < t → b3 (5 * s + c) = Int64.ofInt (qm_A (qv_R a1) (qv_S a2) p s c)) ∧ ∀ i, i < 5 * s → b3 i = a3 i) 4 0 a3 (by omega) ⟨fun c hc => absurd hc (by omega), fun _ _ => rfl⟩ ?_ ?_
  · intro n b3 h
    refine pk_le 4 4 (fun _ => ⟨pk_in (qm_act p s) 8 hj, pk_in (5 * s + 4) 20 (by omega) (qv_ix 5 s 4), fun b e => nm_r (nI_1 s) ?_⟩) (fun z => absurd z (by omega))
    rw [nI_clamp (show qm_act p s < 2 ^ 31 by omega), show (5 * nI s + 4 : Int32) = nI (5 * s + 4) from qv_ix 5 s 4, nI_clamp (show 5 * s + 4 < 2 ^ 31 by omega)] at e
    rw [e]
    exact H _ (key b3 4 _ h.1 (qw_A4 a1 a2 p s)) (keep b3 4 _ h.2)
  · intro n t b3 ht h hw
    refine pk_le 4 t (fun z => absurd z (by omega)) (fun _ => ?_)
    refine pk_eq s t (fun z => ?_) (fun z => ?_)
    · subst z
      refine ⟨pk_in (4 * qm_act p s + s) 32 (by omega) (qv_ix 4 _ s), pk_in (5 * s + s) 20 (by omega) (qv_ix 5 s s), fun b e => nm_r (nI_1 s) ?_⟩
      rw [show (4 * nI (qm_act p s) + nI s : Int32) = nI (4 * qm_act p s + s) from qv_ix 4 _ s, nI_clamp (show 4 * qm_act p s + s < 2 ^ 31 by omega), show (5 * nI s + nI s : Int32) = nI (5 * s + s) from qv_ix 5 s s, nI_clamp (show 5 * s + s < 2 ^ 31 by omega)] at e
      rw [e]
      exact hw _ ⟨key b3 s _ h.1 (qw_A8 a1 a2 p s hs), keep b3 s _ h.2⟩
    · refine ⟨pk_in (4 * qm_act p s + t) 32 (by omega) (qv_ix 4 _ t), pk_in (5 * s + t) 20 (by omega) (qv_ix 5 s t), fun b e => nm_r (nI_1 t) ?_⟩
      rw [show (4 * nI (qm_act p s) + nI t : Int32) = nI (4 * qm_act p s + t) from qv_ix 4 _ t, nI_clamp (show 4 * qm_act p s + t < 2 ^ 31 by omega), show (5 * nI s + nI t : Int32) = nI (5 * s + t) from qv_ix 5 s t, nI_clamp (show 5 * s + t < 2 ^ 31 by omega)] at e
      rw [e]
      exact hw _ ⟨key b3 t _ h.1 (qw_A0 a1 a2 p s t ht z), keep b3 t _ h.2⟩
theorem qw_fillRows {p : Nat} (hp : p < 16)
    (H : ∀ b3, (∀ s, s < 4 → ∀ c, c < 5 → b3 (5 * s + c) = Int64.ofInt (qm_A (qv_R a1) (qv_S a2) p s c)) → post (fb, fk, fs, fp, fd, a1, a2, b3, a4, a5, a6, a7)) :
    wpX_fillRows post (fb, fk, fs, fp, fd, a1, a2, a3, a4, a5, a6, a7) (nI p) := by
  unfold wpX_fillRows
  dsimp only
  refine pk_loop (fun n s b3 => wX_fillRows_2 post (nI p) fb fk fs fp fd n (nI s) a1 a2 b3 a4 a5 a6 a7)
    (fun s b3 => ∀ r, r < s → ∀ c, c < 5 → b3 (5 * r + c) = Int64.ofInt (qm_A (qv_R a1) (qv_S a2) p r c)) 4 0 a3 (by omega) (fun c hc => absurd hc (by omega)) ?_ ?_
  · intro n b3 h
    exact pk_le 4 4 (fun _ => H b3 h) (fun z => absurd z (by omega))
  · intro n s b3 hs h hw
    refine pk_le 4 s (fun z => absurd z (by omega)) (fun _ => nm_r (qv_act hp hs) ?_)
    refine qw_fill20 hs (fun c3 h1 h2 => hw c3 (fun r hr c hc => ?_))
    by_cases e : r = s
    · rw [e]
      exact h1 c hc
    · rw [h2 _ (by omega)]
      exact h r (by omega) c hc
/-- reduce: one row -/
theorem qw_reduce {r k : Nat} {x : Int64} (hr : r < 4) (hk : k < 4) (n : r ≠ k) (hx : ¬ x = 0)
    (H : ∀ b3, (∀ c, c < 5 → b3 (5 * r + c) = (a3 (5 * r + c) * a3 (5 * k + k) - a3 (5 * r + k) * a3 (5 * k + c)) / x) → (∀ q, q < 4 → q ≠ r → ∀ c, c < 5 → b3 (5 * q + c) = a3 (5 * q + c)) → post (fb, fk, fs, fp, fd, a1, a2, b3, a4, a5, a6, a7)) :
    wpX_reduce post (fb, fk, fs, fp, fd, a1, a2, a3, a4, a5, a6, a7) (nI r) (nI k) x := by
  unfold wpX_reduce
  dsimp only
  refine ⟨pk_in (5 * k + k) 20 (by omega) (qv_ix 5 k k), nm_r (e' := a3 (5 * k + k)) (by rw [show (5 * nI k + nI k : Int32) = nI (5 * k + k) from qv_ix 5 k k, nI_clamp (by omega)]) ?_⟩
  refine ⟨pk_in (5 * r + k) 20 (by omega) (qv_ix 5 r k), nm_r (e' := a3 (5 * r + k)) (by rw [show (5 * nI r + nI k : Int32) = nI (5 * r + k) from qv_ix 5 r k, nI_clamp (by omega)]) ?_⟩
  refine pk_loop (fun n c b3 => wX_reduce_27 post (nI r) (nI k) x (a3 (5 * k + k)) (a3 (5 * r + k)) fb fk fs fp fd n (nI c) a1 a2 b3 a4 a5 a6 a7)
    (fun c b3 => (∀ i, i < c → b3 (5 * r + i) = (a3 (5 * r + i) * a3 (5 * k + k) - a3 (5 * r + k) * a3 (5 * k + i)) / x) ∧ (∀ i, c ≤ i → i < 5 → b3 (5 * r + i) = a3 (5 * r + i)) ∧ (∀ q, q < 4 → q ≠ r → ∀ c, c < 5 → b3 (5 * q + c) = a3 (5 * q + c)))
    5 0 a3 (by omega) ⟨fun i hi => absurd hi (by omega), fun _ _ _ => rfl, fun _ _ _ _ _ => rfl⟩ ?_ ?_
  · intro m b3 h
    exact pk_le 5 5 (fun _ => H b3 h.1 h.2.2) (fun z => absurd z (by omega))
  · intro m c b3 hc h hw
    refine pk_le 5 c (fun z => absurd z (by omega)) (fun _ => ⟨pk_in (5 * r + c) 20 (by omega) (qv_ix 5 r c), pk_in (5 * k + c) 20 (by omega) (qv_ix 5 k c), hx, pk_in (5 * r + c) 20 (by omega) (qv_ix 5 r c), fun b e => nm_r (nI_1 c) ?_⟩)
    rw [show (5 * nI r + nI c : Int32) = nI (5 * r + c) from qv_ix 5 r c, nI_clamp (show 5 * r + c < 2 ^ 31 by omega), show (5 * nI k + nI c : Int32) = nI (5 * k + c) from qv_ix 5 k c, nI_clamp (show 5 * k + c < 2 ^ 31 by omega), h.2.1 c (by omega) hc, h.2.2 k hk (by omega) c hc] at e
    rw [e]
    refine hw _ ⟨fun i hi => ?_, fun i hi h5 => ?_, fun q hq hn i hi => ?_⟩
    · by_cases z : i = c
      · rw [z, pk_uLs]
      · rw [pk_uLn (by omega)]
        exact h.1 i (by omega)
    · rw [pk_uLn (by omega)]
      exact h.2.1 i (by omega) h5
    · rw [pk_uLn (by omega)]
      exact h.2.2 q hq hn i hi
/-- all rows but row k -/
def qw_step (a3 b3 : Nat → Int64) (x : Int64) (k : Nat) : Prop := (∀ r, r < 4 → r ≠ k → ∀ c, c < 5 → b3 (5 * r + c) = (a3 (5 * r + c) * a3 (5 * k + k) - a3 (5 * r + k) * a3 (5 * k + c)) / x) ∧ ∀ c, c < 5 → b3 (5 * k + c) = a3 (5 * k + c)
theorem qw_ev19 {J10 : Int64 → Int32 → Int64 → Int64 → Int32 → Int32 → Int64 → (Nat → Int32) → (Nat → Int32) → (Nat → Int64) → (Nat → Int64) → (Nat → Int64) → (Nat → Int64) → (Nat → Int32) → Prop} {k : Nat} {x : Int64} (hk : k < 4) (hx : ¬ x = 0)
    (H : ∀ b3, qw_step a3 b3 x k → J10 (b3 (5 * k + k)) (nI (k + 1)) fb fk fs fp fd a1 a2 b3 a4 a5 a6 a7) :
    ∃ n, wX_evaluate_19 post J10 x (nI k) n 0 fb fk fs fp fd a1 a2 a3 a4 a5 a6 a7 := by
  refine pk_loop (fun n r b3 => wX_evaluate_19 post J10 x (nI k) n (nI r) fb fk fs fp fd a1 a2 b3 a4 a5 a6 a7)
    (fun r b3 => (∀ q, q < 4 → q < r → q ≠ k → ∀ c, c < 5 → b3 (5 * q + c) = (a3 (5 * q + c) * a3 (5 * k + k) - a3 (5 * q + k) * a3 (5 * k + c)) / x) ∧ (∀ q, q < 4 → (q = k ∨ r ≤ q) → ∀ c, c < 5 → b3 (5 * q + c) = a3 (5 * q + c)))
    4 0 a3 (by omega) ⟨fun q _ hq => absurd hq (by omega), fun _ _ _ _ _ => rfl⟩ ?_ ?_
  · intro n b3 h
    refine pk_le 4 4 (fun _ => ⟨pk_in (5 * k + k) 20 (by omega) (qv_ix 5 k k), nm_r (e' := b3 (5 * k + k)) (by rw [show (5 * nI k + nI k : Int32) = nI (5 * k + k) from qv_ix 5 k k, nI_clamp (by omega)]) (nm_r (nI_1 k) (H b3 ⟨fun r hr n c hc => h.1 r hr (by omega) n c hc, fun c hc => h.2 k hk (Or.inl rfl) c hc⟩))⟩) (fun z => absurd z (by omega))
  · intro n r b3 hr h hw
    refine pk_le 4 r (fun z => absurd z (by omega)) (fun _ => ?_)
    refine pk_eq r k (fun z => nm_r (nI_1 r) (hw b3 ⟨fun q h4 hq n c hc => h.1 q h4 (by omega) n c hc, fun q h4 hq c hc => h.2 q h4 (by omega) c hc⟩)) (fun z => ?_)
    refine qw_reduce hr hk z hx (fun c3 g1 g2 => nm_r (nI_1 r) (hw c3 ⟨fun q h4 hq n c hc => ?_, fun q h4 hq c hc => ?_⟩))
    · by_cases e : q = r
      · rw [e, g1 c hc, h.2 r hr (Or.inr (by omega)) c hc, h.2 r hr (Or.inr (by omega)) k (by omega), h.2 k hk (Or.inl rfl) k (by omega), h.2 k hk (Or.inl rfl) c hc]
      · rw [g2 q h4 e c hc]
        exact h.1 q h4 (by omega) n c hc
    · rw [g2 q h4 (by omega) c hc]
      exact h.2 q h4 (by omega) c hc
theorem qw_ev74 {F : Nat → Int} (hF : ∀ s, s < 4 → a3 (5 * s + 4) = Int64.ofInt (F s))
    (H : ∀ b4, (∀ s, s < 4 → b4 s = Int64.ofInt (F s)) → post (fb, fk, fs, fp, fd, a1, a2, a3, b4, a5, a6, a7)) :
    ∃ n, wX_evaluate_74 post fb fk fs fp fd n 0 a1 a2 a3 a4 a5 a6 a7 := by
  refine pk_loop (fun n s b4 => wX_evaluate_74 post fb fk fs fp fd n (nI s) a1 a2 a3 b4 a5 a6 a7)
    (fun s b4 => ∀ r, r < s → b4 r = Int64.ofInt (F r)) 4 0 a4 (by omega) (fun q hq => absurd hq (by omega)) ?_ ?_
  · intro n b4 h
    exact pk_le 4 4 (fun _ => H b4 h) (fun z => absurd z (by omega))
  · intro n s b4 hs h hw
    refine pk_le 4 s (fun z => absurd z (by omega)) (fun _ => ⟨pk_in (5 * s + 4) 20 (by omega) (qv_ix 5 s 4), pk_in s 4 hs, fun b e => nm_r (nI_1 s) ?_⟩)
    rw [show (5 * nI s + 4 : Int32) = nI (5 * s + 4) from qv_ix 5 s 4, nI_clamp (show 5 * s + 4 < 2 ^ 31 by omega), nI_clamp (show s < 2 ^ 31 by omega), hF s hs] at e
    rw [e]
    refine hw _ (fun r hr => ?_)
    by_cases z : r = s
    · rw [z, pk_uLs]
    · rw [pk_uLn z]
      exact h r (by omega)
end
end
section
theorem qv_redB {x y z w b r : Int} (hb : 0 < b) (hB : b.natAbs ≤ 15728640000) (e : x * y - z * w = b * r) (hx : x.natAbs ≤ 24576000) (hy : y.natAbs ≤ 15728640000) (hz : z.natAbs ≤ 24576000) (hw : w.natAbs ≤ 15728640000) :
    (Int64.ofInt x * Int64.ofInt y - Int64.ofInt z * Int64.ofInt w) / Int64.ofInt b = Int64.ofInt r := by
  refine qv_red hb (by omega) e ?_
  have h1 := qm_mulB hx hy
  have h2 := qm_mulB hz hw
  omega
section
variable {a1 a2 : Nat → Int32} {p : Nat}
def qw_M0 (A : Nat → Nat → Int) (b : Nat → Int64) : Prop := ∀ s, s < 4 → ∀ c, c < 5 → b (5 * s + c) = Int64.ofInt (A s c)
def qw_M1 (A : Nat → Nat → Int) (b : Nat → Int64) : Prop := (∀ c, 1 ≤ c → c < 5 → b (5 * 0 + c) = Int64.ofInt (A 0 c)) ∧ ∀ r, 1 ≤ r → r < 4 → ∀ c, 1 ≤ c → c < 5 → b (5 * r + c) = Int64.ofInt (qm_m A r c)
def qw_M2 (A : Nat → Nat → Int) (b : Nat → Int64) : Prop := ∀ c, 2 ≤ c → c < 5 → b (5 * 0 + c) = Int64.ofInt (qm_u A c) ∧ b (5 * 1 + c) = Int64.ofInt (qm_m A 1 c) ∧ b (5 * 2 + c) = Int64.ofInt (qm_d A 2 0 1 c) ∧ b (5 * 3 + c) = Int64.ofInt (qm_d A 3 0 1 c)
def qw_M3 (A : Nat → Nat → Int) (b : Nat → Int64) : Prop := ∀ c, 3 ≤ c → c < 5 → b (5 * 0 + c) = Int64.ofInt (qm_d A 2 c 1 2) ∧ b (5 * 1 + c) = Int64.ofInt (qm_d A 2 0 c 2) ∧ b (5 * 2 + c) = Int64.ofInt (qm_d A 2 0 1 c) ∧ b (5 * 3 + c) = Int64.ofInt (qm_e A 0 1 2 c)
theorem qw_s0 {R : Nat → Int} {S : Nat → Nat → Int} (ok : qm_OK R S) {a b : Nat → Int64} (h : qw_M0 (qm_A R S p) a) (st : qw_step a b 1 0) : qw_M1 (qm_A R S p) b := by
  refine ⟨fun c h1 h5 => ?_, fun r h1 h4 c c1 c5 => ?_⟩
  · rw [st.2 c h5, h 0 (by decide) c h5]
  · rw [st.1 r h4 (by omega) c c5, h r h4 c c5, h 0 (by decide) 0 (by decide), h r h4 0 (by decide), h 0 (by decide) c c5, show (1 : Int64) = Int64.ofInt 1 from rfl]
    have i1 := qm_A_160 ok p c c5 r h4
    have i2 := qm_A_160 ok p 0 (by decide) 0 (by decide)
    have i3 := qm_A_160 ok p 0 (by decide) r h4
    have i4 := qm_A_160 ok p c c5 0 (by decide)
    exact qv_redB (by decide) (by decide) (by unfold qm_m; omega) (by omega) (by omega) (by omega) (by omega)
theorem qw_s1 {R : Nat → Int} {S : Nat → Nat → Int} (ok : qm_OK R S) {a b : Nat → Int64} (h : qw_M1 (qm_A R S p) a) (st : qw_step a b (Int64.ofInt (qm_A R S p 0 0)) 1) : qw_M2 (qm_A R S p) b := by
  intro c h2 h5
  have p0 := (qm_A_pos ok p).1
  have bb := qm_A_160 ok p 0 (by decide) 0 (by decide)
  have m11 := qm_mA_le ok p (r := 1) (c := 1) (by decide) (by decide)
  have m1c := qm_mA_le ok p (r := 1) (c := c) (by decide) h5
  refine ⟨?_, ?_, ?_, ?_⟩
  · rw [st.1 0 (by decide) (by decide) c h5, h.1 c (by omega) h5, h.2 1 (by decide) (by decide) 1 (by decide) (by decide), h.1 1 (by decide) (by decide), h.2 1 (by decide) (by decide) c (by omega) h5]
    have i1 := qm_A_160 ok p c h5 0 (by decide)
    have i2 := qm_A_160 ok p 1 (by decide) 0 (by decide)
    exact qv_redB p0 (by omega) (qm_i1 _ c) (by omega) (by omega) (by omega) (by omega)
  · rw [st.2 c h5, h.2 1 (by decide) (by decide) c (by omega) h5]
  · rw [st.1 2 (by decide) (by decide) c h5, h.2 2 (by decide) (by decide) c (by omega) h5, h.2 1 (by decide) (by decide) 1 (by decide) (by decide), h.2 2 (by decide) (by decide) 1 (by decide) (by decide), h.2 1 (by decide) (by decide) c (by omega) h5]
    have i1 := qm_mA_le ok p (r := 2) (c := c) (by decide) h5
    have i2 := qm_mA_le ok p (r := 2) (c := 1) (by decide) (by decide)
    exact qv_redB p0 (by omega) (qm_i2 _ 2 c) (by omega) (by omega) (by omega) (by omega)
  · rw [st.1 3 (by decide) (by decide) c h5, h.2 3 (by decide) (by decide) c (by omega) h5, h.2 1 (by decide) (by decide) 1 (by decide) (by decide), h.2 3 (by decide) (by decide) 1 (by decide) (by decide), h.2 1 (by decide) (by decide) c (by omega) h5]
    have i1 := qm_mA_le ok p (r := 3) (c := c) (by decide) h5
    have i2 := qm_mA_le ok p (r := 3) (c := 1) (by decide) (by decide)
    exact qv_redB p0 (by omega) (qm_i2 _ 3 c) (by omega) (by omega) (by omega) (by omega)
theorem qw_s2 {R : Nat → Int} {S : Nat → Nat → Int} (ok : qm_OK R S) {a b : Nat → Int64} (h : qw_M2 (qm_A R S p) a) (st : qw_step a b (Int64.ofInt (qm_m (qm_A R S p) 1 1)) 2) : qw_M3 (qm_A R S p) b := by
  intro c h3 h5
  have p1 := (qm_A_pos ok p).2.1
  have bb := qm_mA_le ok p (r := 1) (c := 1) (by decide) (by decide)
  have t22 := qm_dA_le ok p (r := 2) (i := 0) (j := 1) (k := 2) (by decide) (by decide) (by decide) (by decide)
  have t2c := qm_dA_le ok p (r := 2) (i := 0) (j := 1) (k := c) (by decide) (by decide) (by decide) h5
  have hc := h c (by omega) h5
  have h2 := h 2 (by decide) (by decide)
  refine ⟨?_, ?_, ?_, ?_⟩
  · rw [st.1 0 (by decide) (by decide) c h5, hc.1, h2.2.2.1, h2.1, hc.2.2.1]
    have i1 := qm_uA_le ok p (c := c) h5
    have i2 := qm_uA_le ok p (c := 2) (by decide)
    exact qv_redB p1 (by omega) (qm_i3a _ c) (by omega) (by omega) (by omega) (by omega)
  · rw [st.1 1 (by decide) (by decide) c h5, hc.2.1, h2.2.2.1, h2.2.1, hc.2.2.1]
    have i1 := qm_mA_le ok p (r := 1) (c := c) (by decide) h5
    have i2 := qm_mA_le ok p (r := 1) (c := 2) (by decide) (by decide)
    exact qv_redB p1 (by omega) (qm_i3b _ c) (by omega) (by omega) (by omega) (by omega)
  · rw [st.2 c h5, hc.2.2.1]
  · rw [st.1 3 (by decide) (by decide) c h5, hc.2.2.2, h2.2.2.1, h2.2.2.2, hc.2.2.1]
    have i1 := qm_dA_le ok p (r := 3) (i := 0) (j := 1) (k := c) (by decide) (by decide) (by decide) h5
    have i2 := qm_dA_le ok p (r := 3) (i := 0) (j := 1) (k := 2) (by decide) (by decide) (by decide) (by decide)
    exact qv_redB p1 (by omega) (qm_i3c _ c) (by omega) (by omega) (by omega) (by omega)
theorem qw_s3 {R : Nat → Int} {S : Nat → Nat → Int} (ok : qm_OK R S) {a b : Nat → Int64} (h : qw_M3 (qm_A R S p) a) (st : qw_step a b (Int64.ofInt (qm_d (qm_A R S p) 2 0 1 2)) 3) : ∀ s, s < 4 → b (5 * s + 4) = Int64.ofInt (qm_VT R S p s) := by
  have p2 := (qm_A_pos ok p).2.2.1
  have bb := qm_dA_le ok p (r := 2) (i := 0) (j := 1) (k := 2) (by decide) (by decide) (by decide) (by decide)
  have e3 := qm_eA_le ok p (i := 0) (j := 1) (k := 2) (l := 3) (by decide) (by decide) (by decide) (by decide)
  have e4 := qm_eA_le ok p (i := 0) (j := 1) (k := 2) (l := 4) (by decide) (by decide) (by decide) (by decide)
  have h3 := h 3 (by decide) (by decide)
  have h4 := h 4 (by decide) (by decide)
  intro s hs
  refine co_4 (P := fun s => b (5 * s + 4) = Int64.ofInt (qm_VT R S p s)) ?_ ?_ ?_ ?_ hs
  · rw [st.1 0 (by decide) (by decide) 4 (by decide), h4.1, h3.2.2.2, h3.1, h4.2.2.2]
    exact qv_redB p2 (by omega) (qm_i4a _) (qm_dA_le ok p (by decide) (by decide) (by decide) (by decide)) e3 (qm_dA_le ok p (by decide) (by decide) (by decide) (by decide)) e4
  · rw [st.1 1 (by decide) (by decide) 4 (by decide), h4.2.1, h3.2.2.2, h3.2.1, h4.2.2.2]
    exact qv_redB p2 (by omega) (qm_i4b _) (qm_dA_le ok p (by decide) (by decide) (by decide) (by decide)) e3 (qm_dA_le ok p (by decide) (by decide) (by decide) (by decide)) e4
  · rw [st.1 2 (by decide) (by decide) 4 (by decide), h4.2.2.1, h3.2.2.2, h3.2.2.1, h4.2.2.2]
    exact qv_redB p2 (by omega) (qm_i4c _) (qm_dA_le ok p (by decide) (by decide) (by decide) (by decide)) e3 (qm_dA_le ok p (by decide) (by decide) (by decide) (by decide)) e4
  · rw [st.2 4 (by decide), h4.2.2.2]
    rfl
end
/-- evaluate: the values of policy p -/
theorem qw_evaluate {post : St1 → Prop} {fb fk : Int64} {fs fp : Int32} {fd : Int64} {a1 a2 : Nat → Int32} {a3 a4 a5 a6 : Nat → Int64} {a7 : Nat → Int32} {p : Nat} (hp : p < 16) (ok : qv_OK a1 a2)
    (H : ∀ b3 b4, (∀ s, s < 4 → b4 s = Int64.ofInt (qm_VT (qv_R a1) (qv_S a2) p s)) → post (Int64.ofInt (qm_VD (qv_R a1) (qv_S a2) p), fk, fs, fp, fd, a1, a2, b3, b4, a5, a6, a7)) :
    wpX_evaluate post (fb, fk, fs, fp, fd, a1, a2, a3, a4, a5, a6, a7) (nI p) := by
  have ok' : qm_OK (qv_R a1) (qv_S a2) := ok
  have P := qm_A_pos ok' p
  have b0 := qm_A_160 ok' p 0 (by decide) 0 (by decide)
  have b1 := qm_mA_le ok' p (r := 1) (c := 1) (by decide) (by decide)
  have b2 := qm_dA_le ok' p (r := 2) (i := 0) (j := 1) (k := 2) (by decide) (by decide) (by decide) (by decide)
  unfold wpX_evaluate
  dsimp only
  refine qw_fillRows hp (fun c0 h0 => ⟨5, ?_⟩)
  refine pk_le 4 0 (fun z => absurd z (by omega)) (fun _ => ?_)
  refine qw_ev19 (k := 0) (by decide) (by decide) (fun c1 t0 => ?_)
  have g0 : c1 (5 * 0 + 0) = Int64.ofInt (qm_A (qv_R a1) (qv_S a2) p 0 0) := by rw [t0.2 0 (by decide)]; exact h0 0 (by decide) 0 (by decide)
  have m1 := qw_s0 ok' h0 t0
  rw [g0]
  refine pk_le 4 1 (fun z => absurd z (by omega)) (fun _ => ?_)
  refine qw_ev19 (k := 1) (by decide) (qv_n0 P.1 (by omega)) (fun c2 t1 => ?_)
  have g1 : c2 (5 * 1 + 1) = Int64.ofInt (qm_m (qm_A (qv_R a1) (qv_S a2) p) 1 1) := by rw [t1.2 1 (by decide)]; exact m1.2 1 (by decide) (by decide) 1 (by decide) (by decide)
  have m2 := qw_s1 ok' m1 t1
  rw [g1]
  refine pk_le 4 2 (fun z => absurd z (by omega)) (fun _ => ?_)
  refine qw_ev19 (k := 2) (by decide) (qv_n0 P.2.1 (by omega)) (fun c3 t2 => ?_)
  have g2 : c3 (5 * 2 + 2) = Int64.ofInt (qm_d (qm_A (qv_R a1) (qv_S a2) p) 2 0 1 2) := by rw [t2.2 2 (by decide)]; exact (m2 2 (by decide) (by decide)).2.2.1
  have m3 := qw_s2 ok' m2 t2
  rw [g2]
  refine pk_le 4 3 (fun z => absurd z (by omega)) (fun _ => ?_)
  refine qw_ev19 (k := 3) (by decide) (qv_n0 P.2.2.1 (by omega)) (fun c4 t3 => ?_)
  have g3 : c4 (5 * 3 + 3) = Int64.ofInt (qm_VD (qv_R a1) (qv_S a2) p) := by rw [t3.2 3 (by decide)]; exact (m3 3 (by decide) (by decide)).2.2.2
  have m4 := qw_s3 ok' m3 t3
  rw [g3]
  refine pk_le 4 4 (fun _ => ?_) (fun z => absurd z (by omega))
  exact qw_ev74 m4 (fun b4 h4 => H c4 b4 h4)
end
section
/-! gains -/
def qm_ps (f g : Nat → Int) : Nat → Int
  | 0 => 0
  | n + 1 => qm_ps f g n + f n * g n
theorem qm_ps4 (f g : Nat → Int) : qm_ps f g 4 = qm_dot f g := by
  unfold qm_dot
  simp [qm_ps]
theorem qm_gain_B {R : Nat → Int} {S : Nat → Nat → Int} {T : Nat → Int} {D : Int} (ok : qm_OK R S) (hT : ∀ s, (T s).natAbs ≤ 15728640000) (hD : D.natAbs ≤ 98304) {j : Nat} (hj : j < 8) : (qm_gain R S T D j).natAbs < 2 ^ 62 := by
  obtain ⟨h0, h1, h2, h3, hs⟩ := ok.2 j hj
  have r := ok.1 j hj
  have k := qm_mulB (x := 8 * R j) (a := 160) (by omega) hD
  have k0 := qm_mulB (x := S j 0) (a := 4) (by omega) (hT 0)
  have k1 := qm_mulB (x := S j 1) (a := 4) (by omega) (hT 1)
  have k2 := qm_mulB (x := S j 2) (a := 4) (by omega) (hT 2)
  have k3 := qm_mulB (x := S j 3) (a := 4) (by omega) (hT 3)
  unfold qm_gain qm_dot
  omega
/-- which actions do as well as the value: 1 for the first, 2 for the second -/
def qm_code (R : Nat → Int) (S : Nat → Nat → Int) (T : Nat → Int) (D : Int) (s : Nat) : Nat := (if qm_gain R S T D (2 * s + 0) = 8 * T s then 1 else 0) + (if qm_gain R S T D (2 * s + 1) = 8 * T s then 2 else 0)
theorem qv_or0 : ((nI 0 ||| ((1 : Int32) <<< (nI 0 &&& 31))).toInt8.toInt32) = nI 1 := by decide +kernel
theorem qv_or1 : ∀ g, g < 2 → ((nI g ||| ((1 : Int32) <<< (nI 1 &&& 31))).toInt8.toInt32) = nI (g + 2) := by decide +kernel
section
variable {fb fk : Int64} {fs fp : Int32} {fd : Int64} {a1 a2 : Nat → Int32} {a3 a4 a5 a6 : Nat → Int64} {a7 : Nat → Int32} {T : Nat → Int} {D : Int}
theorem qw_gainOf {post : Int64 → Prop} {s a : Nat} (hs : s < 4) (ha : a < 2) (hT : ∀ t, t < 4 → a6 t = Int64.ofInt (T t)) (H : post (Int64.ofInt (qm_gain (qv_R a1) (qv_S a2) T D (2 * s + a)))) :
    wpX_gainOf post (fb, fk, fs, fp, Int64.ofInt D, a1, a2, a3, a4, a5, a6, a7) (nI s) (nI a) := by
  unfold wpX_gainOf
  dsimp only
  refine nm_r (e' := nI (2 * s + a)) (qv_ix 2 s a) ⟨pk_in (2 * s + a) 8 (by omega), ?_⟩
  refine nm_r (e' := Int64.ofInt (8 * qv_R a1 (2 * s + a) * D + qm_ps (qv_S a2 (2 * s + a)) T 0)) ?_ ?_
  · rw [nI_clamp (by omega)]
    unfold qm_ps qv_R
    rw [Int.add_zero, Int64.ofInt_mul, Int64.ofInt_mul, Int64.ofInt_int32ToInt]
    rfl
  refine pk_loop (σ := Unit) (fun n t _ => wX_gainOf_27 post (nI (2 * s + a)) fb fk fs fp (Int64.ofInt D) a1 a2 a3 a4 a5 a6 a7 n (Int64.ofInt (8 * qv_R a1 (2 * s + a) * D + qm_ps (qv_S a2 (2 * s + a)) T t)) (nI t)) (fun _ _ => True) 4 0 () (by omega) trivial ?_ ?_
  · intro n _ _
    refine pk_le 4 4 (fun _ => ?_) (fun z => absurd z (by omega))
    rw [qm_ps4]
    exact H
  · intro n t _ ht _ hw
    refine pk_le 4 t (fun z => absurd z (by omega)) (fun _ => ⟨pk_in (4 * (2 * s + a) + t) 32 (by omega) (qv_ix 4 _ t), pk_in t 4 ht, ?_⟩)
    refine nm_r ?_ (nm_r (nI_1 t) (hw () trivial))
    rw [show (4 * nI (2 * s + a) + nI t : Int32) = nI (4 * (2 * s + a) + t) from qv_ix 4 _ t, nI_clamp (show 4 * (2 * s + a) + t < 2 ^ 31 by omega), nI_clamp (show t < 2 ^ 31 by omega), hT t ht, ← Int64.ofInt_int32ToInt, ← Int64.ofInt_mul, ← Int64.ofInt_add, Int.add_assoc]
    rfl
/-- one action of improve -/
theorem qw_im30 {post : Int32 → St1 → Prop} {J4 : Int32 → Int32 → Int32 → (Nat → Int32) → (Nat → Int32) → (Nat → Int64) → (Nat → Int64) → (Nat → Int64) → (Nat → Int64) → (Nat → Int32) → Prop} {x1 : Int32} {s a p g n : Nat} {b7 : Nat → Int32}
    (ok : qv_OK a1 a2) (hs : s < 4) (ha : a < 2) (hp : p < 16) (hg : b7 s = nI g) (hT : ∀ t, t < 4 → a6 t = Int64.ofInt (T t)) (bT : ∀ s, (T s).natAbs ≤ 15728640000) (bD : D.natAbs ≤ 98304)
    (H : ∀ (y1 : Int32) (p' : Nat) (c7 : Nat → Int32), p' < 16 → (∀ r, r < 4 → r ≠ s → qm_act p' r = qm_act p r) →
      ((8 * T s < qm_gain (qv_R a1) (qv_S a2) T D (2 * s + a) ∧ y1 = 1 ∧ qm_act p' s = 2 * s + a) ∨ (qm_gain (qv_R a1) (qv_S a2) T D (2 * s + a) ≤ 8 * T s ∧ y1 = x1 ∧ p' = p)) →
      ((qm_gain (qv_R a1) (qv_S a2) T D (2 * s + a) = 8 * T s ∧ c7 s = ((nI g ||| ((1 : Int32) <<< (nI a &&& 31))).toInt8.toInt32)) ∨ (qm_gain (qv_R a1) (qv_S a2) T D (2 * s + a) ≠ 8 * T s ∧ c7 s = nI g)) →
      (∀ r, r ≠ s → c7 r = b7 r) →
      wX_improve_30 post J4 (nI s) (Int64.ofInt (8 * T s)) fb fk fs (Int64.ofInt D) n y1 (nI (a + 1)) (nI p') a1 a2 a3 a4 a5 a6 c7) :
    wX_improve_30 post J4 (nI s) (Int64.ofInt (8 * T s)) fb fk fs (Int64.ofInt D) (n + 1) x1 (nI a) (nI p) a1 a2 a3 a4 a5 a6 b7 := by
  have bs := bT s
  have bg := qm_gain_B ok bT bD (show 2 * s + a < 8 by omega)
  have e := qv_eq (a := qm_gain (qv_R a1) (qv_S a2) T D (2 * s + a)) (b := 8 * T s) bg (by omega)
  have l := qv_lt (a := 8 * T s) (b := qm_gain (qv_R a1) (qv_S a2) T D (2 * s + a)) (by omega) bg
  have key : ∀ c7 : Nat → Int32, ((qm_gain (qv_R a1) (qv_S a2) T D (2 * s + a) = 8 * T s ∧ c7 s = ((nI g ||| ((1 : Int32) <<< (nI a &&& 31))).toInt8.toInt32)) ∨ (qm_gain (qv_R a1) (qv_S a2) T D (2 * s + a) ≠ 8 * T s ∧ c7 s = nI g)) → (∀ r, r ≠ s → c7 r = b7 r) →
      wX_improve_66 post J4 (wX_improve_30 post J4 (nI s) (Int64.ofInt (8 * T s)) fb fk fs (Int64.ofInt D) n) x1 (nI s) (Int64.ofInt (8 * T s)) (nI a) (Int64.ofInt (qm_gain (qv_R a1) (qv_S a2) T D (2 * s + a))) fb fk fs (nI p) (Int64.ofInt D) a1 a2 a3 a4 a5 a6 c7 := by
    intro c7 h1 h2
    unfold wX_improve_66
    refine br_c (fun z => ?_) (fun z => ?_)
    · refine nm_r (qv_setw p hp s hs a ha) (nm_r (nI_1 a) ?_)
      exact H 1 (qv_set p s a) c7 (qv_set_lt p hp s hs a ha) (fun r hr n => qv_set_ne p hp s hs a ha r hr n) (Or.inl ⟨l.mp z, rfl, qv_set_at p hp s hs a ha⟩) h1 h2
    · refine nm_r (nI_1 a) ?_
      have z' : ¬ 8 * T s < qm_gain (qv_R a1) (qv_S a2) T D (2 * s + a) := fun q => z (l.mpr q)
      exact H x1 p c7 hp (fun _ _ _ => rfl) (Or.inr ⟨by omega, rfl, rfl⟩) h1 h2
  refine pk_le 2 a (fun z => absurd z (by omega)) (fun _ => ?_)
  refine qw_gainOf hs ha hT ?_
  refine br_c (fun z => ⟨pk_in s 4 hs, pk_in s 4 hs, fun c7 ec => ?_⟩) (fun z => ?_)
  · rw [nI_clamp (show s < 2 ^ 31 by omega), hg] at ec
    rw [ec]
    exact key _ (Or.inl ⟨e.mp z, pk_us⟩) (fun r hr => pk_un hr)
  · exact key b7 (Or.inr ⟨fun q => z (e.mpr q), hg⟩) (fun _ _ => rfl)
/-- one state of improve -/
theorem qw_imS {post : Int32 → St1 → Prop} {J4 : Int32 → Int32 → Int32 → (Nat → Int32) → (Nat → Int32) → (Nat → Int64) → (Nat → Int64) → (Nat → Int64) → (Nat → Int64) → (Nat → Int32) → Prop} {x1 : Int32} {s p : Nat} {b7 : Nat → Int32}
    (ok : qv_OK a1 a2) (hs : s < 4) (hp : p < 16) (hg : b7 s = 0) (hT : ∀ t, t < 4 → a6 t = Int64.ofInt (T t)) (bT : ∀ s, (T s).natAbs ≤ 15728640000) (bD : D.natAbs ≤ 98304)
    (H : ∀ (y1 : Int32) (p' : Nat) (c7 : Nat → Int32), p' < 16 → (∀ r, r < 4 → r ≠ s → qm_act p' r = qm_act p r) →
      ((8 * T s < qm_gain (qv_R a1) (qv_S a2) T D (qm_act p' s) ∧ y1 = 1) ∨ ((∀ a, a < 2 → qm_gain (qv_R a1) (qv_S a2) T D (2 * s + a) ≤ 8 * T s) ∧ y1 = x1 ∧ p' = p)) →
      c7 s = nI (qm_code (qv_R a1) (qv_S a2) T D s) → (∀ r, r ≠ s → c7 r = b7 r) → J4 y1 (nI (s + 1)) (nI p') a1 a2 a3 a4 a5 a6 c7) :
    ∃ n, wX_improve_30 post J4 (nI s) (Int64.ofInt (8 * T s)) fb fk fs (Int64.ofInt D) n x1 0 (nI p) a1 a2 a3 a4 a5 a6 b7 := by
  refine ⟨3, qw_im30 (a := 0) (g := 0) ok hs (by decide) hp hg hT bT bD (fun y p1 c h1 h2 h3 h4 h5 => ?_)⟩
  have hc : c s = nI (if qm_gain (qv_R a1) (qv_S a2) T D (2 * s + 0) = 8 * T s then 1 else 0) := by
    rcases h4 with ⟨q, w⟩ | ⟨q, w⟩
    · rw [w, if_pos q]
      exact qv_or0
    · rw [w, if_neg q]
  refine qw_im30 (a := 1) ok hs (by decide) h1 hc hT bT bD (fun y' p2 c' g1 g2 g3 g4 g5 => ?_)
  refine pk_le 2 2 (fun _ => nm_r (nI_1 s) ?_) (fun z => absurd z (by omega))
  refine H y' p2 c' g1 (fun r hr n => (g2 r hr n).trans (h2 r hr n)) ?_ ?_ (fun r n => (g5 r n).trans (h5 r n))
  · rcases g3 with ⟨q, w, v⟩ | ⟨q, w, v⟩
    · refine Or.inl ⟨?_, w⟩
      rw [v]
      exact q
    · rcases h3 with ⟨q', w', v'⟩ | ⟨q', w', v'⟩
      · refine Or.inl ⟨?_, w.trans w'⟩
        rw [v, v']
        exact q'
      · exact Or.inr ⟨fun a ha => co_2 (P := fun a => qm_gain (qv_R a1) (qv_S a2) T D (2 * s + a) ≤ 8 * T s) q' q ha, w.trans w', v.trans v'⟩
  · unfold qm_code
    rcases g4 with ⟨q, w⟩ | ⟨q, w⟩
    · rw [w, if_pos q]
      exact qv_or1 _ (by split <;> omega)
    · rw [w, if_neg q]
      rfl
theorem qw_improve {post : Int32 → St1 → Prop} {p : Nat} (ok : qv_OK a1 a2) (hp : p < 16) (hq : qm_eqn (qv_R a1) (qv_S a2) p T D) (hT : ∀ t, t < 4 → a6 t = Int64.ofInt (T t)) (bT : ∀ s, (T s).natAbs ≤ 15728640000) (bD : D.natAbs ≤ 98304)
    (H0 : qm_opt (qv_R a1) (qv_S a2) T D → ∀ b7, (∀ s, s < 4 → b7 s = nI (qm_code (qv_R a1) (qv_S a2) T D s)) → post 0 (fb, fk, fs, nI p, Int64.ofInt D, a1, a2, a3, a4, a5, a6, b7))
    (H1 : ∀ p', p' < 16 → (∀ s, s < 4 → 8 * T s ≤ qm_gain (qv_R a1) (qv_S a2) T D (qm_act p' s)) → (∃ s, s < 4 ∧ 8 * T s < qm_gain (qv_R a1) (qv_S a2) T D (qm_act p' s)) → ∀ b7, post 1 (fb, fk, fs, nI p', Int64.ofInt D, a1, a2, a3, a4, a5, a6, b7)) :
    wpX_improve post (fb, fk, fs, nI p, Int64.ofInt D, a1, a2, a3, a4, a5, a6, a7) := by
  unfold wpX_improve
  dsimp only
  refine pk_loop (σ := Int32 × Nat × (Nat → Int32)) (fun n s u => wX_improve_4 post fb fk fs (Int64.ofInt D) n u.1 (nI s) (nI u.2.1) a1 a2 a3 a4 a5 a6 u.2.2)
    (fun s u => u.2.1 < 16 ∧ (∀ r, r < 4 → s ≤ r → qm_act u.2.1 r = qm_act p r) ∧
      ((u.1 = 0 ∧ u.2.1 = p ∧ ∀ r, r < s → ∀ a, a < 2 → qm_gain (qv_R a1) (qv_S a2) T D (2 * r + a) ≤ 8 * T r) ∨ (u.1 = 1 ∧ ∃ r, r < s ∧ 8 * T r < qm_gain (qv_R a1) (qv_S a2) T D (qm_act u.2.1 r))) ∧
      (∀ r, r < 4 → r < s → 8 * T r ≤ qm_gain (qv_R a1) (qv_S a2) T D (qm_act u.2.1 r)) ∧ (∀ r, r < s → u.2.2 r = nI (qm_code (qv_R a1) (qv_S a2) T D r)))
    4 0 (0, p, a7) (by omega) ⟨hp, fun _ _ _ => rfl, Or.inl ⟨rfl, rfl, fun r hr => absurd hr (by omega)⟩, fun r _ hr => absurd hr (by omega), fun r hr => absurd hr (by omega)⟩ ?_ ?_
  · intro n ⟨x1, p', b7⟩ ⟨h1, h2, h3, h4, h5⟩
    dsimp only at h1 h2 h3 h4 h5
    refine pk_le 4 4 (fun _ => ?_) (fun z => absurd z (by omega))
    dsimp only
    rcases h3 with ⟨e, e', o⟩ | ⟨e, r, hr, o⟩
    · subst e e'
      exact ⟨rfl, H0 o b7 h5⟩
    · subst e
      exact ⟨rfl, H1 p' h1 (fun s hs => h4 s hs hs) ⟨r, hr, o⟩ b7⟩
  · intro n s ⟨x1, p', b7⟩ hs ⟨h1, h2, h3, h4, h5⟩ hw
    dsimp only at h1 h2 h3 h4 h5
    refine pk_le 4 s (fun z => absurd z (by omega)) (fun _ => ?_)
    dsimp only
    refine ⟨pk_in s 4 hs, nm_r (e' := Int64.ofInt (8 * T s)) ?_ ⟨pk_in s 4 hs, fun c7 ec => ?_⟩⟩
    · rw [nI_clamp (by omega), hT s hs, Int64.ofInt_mul]
      rfl
    · rw [nI_clamp (show s < 2 ^ 31 by omega)] at ec
      refine qw_imS ok hs h1 (by rw [ec, pk_us]) hT bT bD (fun y1 p2 d7 g1 g2 g3 g4 g5 => hw (y1, p2, d7) ?_)
      refine ⟨g1, fun r hr hsr => ?_, ?_, fun r hr hrs => ?_, fun r hr => ?_⟩
      · dsimp only
        rw [g2 r hr (by omega)]
        exact h2 r hr (by omega)
      · dsimp only
        rcases g3 with ⟨q, w⟩ | ⟨q, w, v⟩
        · exact Or.inr ⟨w, s, by omega, q⟩
        · rcases h3 with ⟨e, e', o⟩ | ⟨e, r, hr, o⟩
          · exact Or.inl ⟨w.trans e, v.trans e', fun r hr a ha => by
              by_cases z : r = s
              · rw [z]
                exact q a ha
              · exact o r (by omega) a ha⟩
          · refine Or.inr ⟨w.trans e, r, by omega, ?_⟩
            rw [v]
            exact o
      · dsimp only
        by_cases z : r = s
        · subst z
          rcases g3 with ⟨q, w⟩ | ⟨q, w, v⟩
          · omega
          · rw [v, h2 r hr (by omega), hq r hr]
            exact Int.le_refl _
        · rw [g2 r hr z]
          exact h4 r hr (by omega)
      · dsimp only
        by_cases z : r = s
        · rw [z]
          exact g4
        · rw [g5 r z, ec, pk_un z]
          exact h5 r (by omega)
end
end
section
/-- the state is solved: its values, the actions that do as well -/
def qv_Sol (a1 a2 : Nat → Int32) (T : Nat → Int) (D : Int) (gd : Int64) (b6 : Nat → Int64) (b7 : Nat → Int32) : Prop :=
  qm_sol (qv_R a1) (qv_S a2) T D ∧ D.natAbs ≤ 98304 ∧ (∀ s, (T s).natAbs ≤ 15728640000) ∧ gd = Int64.ofInt D ∧ (∀ s, s < 4 → b6 s = Int64.ofInt (T s)) ∧ (∀ s, s < 4 → b7 s = nI (qm_code (qv_R a1) (qv_S a2) T D s))
section
variable {fb fk : Int64} {fs fp : Int32} {fd : Int64} {a1 a2 : Nat → Int32} {a3 a4 a5 a6 : Nat → Int64} {a7 : Nat → Int32} {T : Nat → Int} {D : Int}
theorem qw_sv42 {post : St1 → Prop} {J22 : Int32 → Int32 → Int64 → Int64 → Int32 → Int32 → Int64 → (Nat → Int32) → (Nat → Int32) → (Nat → Int64) → (Nat → Int64) → (Nat → Int64) → (Nat → Int64) → (Nat → Int32) → Prop} {k p : Nat}
    (ok : qv_OK a1 a2) (hp : p < 16) (hq : qm_eqn (qv_R a1) (qv_S a2) p T D) (hT : ∀ t, t < 4 → a4 t = Int64.ofInt (T t)) (bT : ∀ s, (T s).natAbs ≤ 15728640000) (bD : D.natAbs ≤ 98304)
    (H0 : qm_opt (qv_R a1) (qv_S a2) T D → ∀ b6 b7, (∀ s, s < 4 → b6 s = Int64.ofInt (T s)) → (∀ s, s < 4 → b7 s = nI (qm_code (qv_R a1) (qv_S a2) T D s)) → J22 0 (nI (k + 1)) (Int64.ofInt D) fk fs (nI p) (Int64.ofInt D) a1 a2 a3 a4 a5 b6 b7)
    (H1 : ∀ p', p' < 16 → (∀ s, s < 4 → 8 * T s ≤ qm_gain (qv_R a1) (qv_S a2) T D (qm_act p' s)) → (∃ s, s < 4 ∧ 8 * T s < qm_gain (qv_R a1) (qv_S a2) T D (qm_act p' s)) → ∀ b6 b7, J22 1 (nI (k + 1)) (Int64.ofInt D) fk fs (nI p') (Int64.ofInt D) a1 a2 a3 a4 a5 b6 b7) :
    ∃ n, wX_solve_42 post J22 (nI k) (Int64.ofInt D) fk fs (nI p) fd n 0 a1 a2 a3 a4 a5 a6 a7 := by
  refine pk_loop (fun n s b6 => wX_solve_42 post J22 (nI k) (Int64.ofInt D) fk fs (nI p) fd n (nI s) a1 a2 a3 a4 a5 b6 a7)
    (fun s b6 => ∀ r, r < s → b6 r = Int64.ofInt (T r)) 4 0 a6 (by omega) (fun r hr => absurd hr (by omega)) ?_ ?_
  · intro n b6 h
    refine pk_le 4 4 (fun _ => ?_) (fun z => absurd z (by omega))
    exact qw_improve ok hp hq h bT bD (fun o b7 c => nm_r (nI_1 k) (H0 o b6 b7 h c)) (fun p' h1 h2 h3 b7 => nm_r (nI_1 k) (H1 p' h1 h2 h3 b6 b7))
  · intro n s b6 hs h hw
    refine pk_le 4 s (fun z => absurd z (by omega)) (fun _ => ⟨pk_in s 4 hs, pk_in s 4 hs, fun b e => nm_r (nI_1 s) ?_⟩)
    rw [nI_clamp (show s < 2 ^ 31 by omega), hT s hs] at e
    rw [e]
    refine hw _ (fun r hr => ?_)
    by_cases z : r = s
    · rw [z, pk_uLs]
    · rw [pk_uLn z]
      exact h r (by omega)
theorem qw_sv22 {post : St1 → Prop} (ok : qv_OK a1 a2)
    (H : ∀ gb gp gd b3 b4 b6 b7 T D, qv_Sol a1 a2 T D gd b6 b7 → post (gb, fk, 1, gp, gd, a1, a2, b3, b4, a5, b6, b7)) (m : Nat) :
    ∀ (k p : Nat), k + m = 17 → p < 16 → k ≤ qm_rank (qv_R a1) (qv_S a2) p → ∀ gb gd b3 b4 b6 b7, wX_solve_22 post (m + 2) 1 (nI k) gb fk 1 (nI p) gd a1 a2 b3 b4 a5 b6 b7 := by
  have ok' : qm_OK (qv_R a1) (qv_S a2) := ok
  induction m with
  | zero =>
    intro k p hk hp hr
    have := qm_rank_le (R := qv_R a1) (S := qv_S a2) hp
    omega
  | succ m ih =>
    intro k p hk hp hr gb gd b3 b4 b6 b7
    have hk' := qm_rank_le (R := qv_R a1) (S := qv_S a2) hp
    refine pk_le 17 k (fun z => absurd z (by omega)) (fun _ => br_f (by decide) ?_)
    have P := (qm_A_pos ok' p).2.2.2
    have L := qm_VD_le ok' p
    refine qw_evaluate hp ok (fun c3 c4 h4 => ?_)
    refine qw_sv42 ok hp (fun s hs => qm_val_eq p s hs) h4 (qm_VT_le ok' p) (by omega) (fun o d6 d7 g6 g7 => ?_) (fun p' h1 h2 h3 d6 d7 => ?_)
    · have hs : qv_Sol a1 a2 (qm_VT (qv_R a1) (qv_S a2) p) (qm_VD (qv_R a1) (qv_S a2) p) (Int64.ofInt (qm_VD (qv_R a1) (qv_S a2) p)) d6 d7 :=
        ⟨⟨P, o, p, fun s hs => qm_val_eq p s hs⟩, by omega, qm_VT_le ok' p, rfl, g6, g7⟩
      exact br_c (fun _ => H _ _ _ _ _ _ _ _ _ hs) (fun _ => br_t rfl (H _ _ _ _ _ _ _ _ _ hs))
    · obtain ⟨s, hs, hl⟩ := h3
      have up := qm_better ok' hp h2 hs hl
      exact ih (k + 1) p' (by omega) h1 (by omega) _ _ _ _ _ _
/-- solve, from any state -/
theorem qw_solve {post : St1 → Prop} (ok : qv_OK a1 a2) (hI : fs = 0 ∨ ∃ T D, qv_Sol a1 a2 T D fd a6 a7)
    (H : ∀ gb gs gp gd b3 b4 b6 b7 T D, ¬ gs = 0 → qv_Sol a1 a2 T D gd b6 b7 → post (gb, fk, gs, gp, gd, a1, a2, b3, b4, a5, b6, b7)) :
    wpX_solve post (fb, fk, fs, fp, fd, a1, a2, a3, a4, a5, a6, a7) := by
  refine br_c (fun z => ?_) (fun z => ?_)
  · exact ⟨19, qw_sv22 ok (fun gb gp gd b3 b4 b6 b7 T D h => H gb 1 gp gd b3 b4 b6 b7 T D (by decide) h) 17 0 0 rfl (by decide) (Nat.zero_le _) _ _ _ _ _ _⟩
  · rcases hI with e | ⟨T, D, h⟩
    · exact absurd e z
    · exact H _ _ _ _ _ _ _ _ T D z h
theorem qw_solved {post : St1 → Prop} (hs : ¬ fs = 0) (H : post (fb, fk, fs, fp, fd, a1, a2, a3, a4, a5, a6, a7)) : wpX_solve post (fb, fk, fs, fp, fd, a1, a2, a3, a4, a5, a6, a7) := br_f hs H
/-! small methods -/
theorem qw_isState {post : Int32 → Prop} {u : St1} {s : Nat} (hs : s < 4) (H : post 1) : wpX_isState post u (nI s) := by
  obtain ⟨fb, fk, fs, fp, fd, a1, a2, a3, a4, a5, a6, a7⟩ := u
  exact br_f (nI_pos (by omega)) (pk_le 4 s (fun z => absurd z (by omega)) (fun _ => H))
theorem qw_isPolicy {post : Int32 → Prop} {u : St1} {p : Nat} (hp : p < 16) (H : post 1) : wpX_isPolicy post u (nI p) := by
  obtain ⟨fb, fk, fs, fp, fd, a1, a2, a3, a4, a5, a6, a7⟩ := u
  exact br_f (nI_pos (by omega)) (pk_lt 15 p (fun z => absurd z (by omega)) (fun _ => H))
theorem qw_cd17 {post : Int64 → Prop} (x : Nat) : ∀ y : Nat, x < 2 ^ 62 → y < 2 ^ 62 → post (lN (Nat.gcd x y)) → ∃ n, wX_commonDivisor_17 post fb fk fs fp fd a1 a2 a3 a4 a5 a6 a7 n (lN x) (lN y) := by
  induction x using Nat.strongRecOn with
  | ind x ih =>
    intro y hx hy H
    by_cases z : x = 0
    · subst z
      rw [Nat.gcd_zero_left] at H
      exact ⟨1, br_t rfl H⟩
    · have nz : ¬ lN x = 0 := fun q => z ((pk_lEQ (b := 0) (by omega) (by decide)).mp q)
      rw [Nat.gcd_rec] at H
      have lt := Nat.mod_lt y (show x > 0 by omega)
      obtain ⟨n, hn⟩ := ih (y % x) lt x (by omega) hx H
      exact ⟨n + 1, br_f nz ⟨nz, nm_r (pk_lRem (by omega) (by omega) (by omega)) hn⟩⟩
theorem qw_cd {post : Int64 → Prop} {t d : Int} (hd : 0 < d) (bt : t.natAbs < 2 ^ 62) (bd : d.natAbs < 2 ^ 62) (H : post (lN (qv_g t d))) :
    wpX_commonDivisor post (fb, fk, fs, fp, fd, a1, a2, a3, a4, a5, a6, a7) (Int64.ofInt t) (Int64.ofInt d) := by
  have ed : Int64.ofInt d = lN d.natAbs := by
    rw [qv_lN]
    congr 1
    omega
  have l0 := qv_le (a := 0) (b := t) (by decide) bt
  refine br_c (fun z => ?_) (fun z => nm_r (e' := lN t.natAbs) ?_ ?_)
  · have z' : 0 ≤ t := l0.mp z
    rw [ed, show Int64.ofInt t = lN t.natAbs by rw [qv_lN]; congr 1; omega]
    exact qw_cd17 _ _ bt bd H
  · have z' : ¬ 0 ≤ t := fun q => z (l0.mpr q)
    rw [qv_lN, ← Int64.ofInt_neg]
    congr 1
    omega
  · rw [ed]
    exact qw_cd17 _ _ bt bd H
theorem qw_gn0 {t d : Int} (hd : 0 < d) (bd : d.natAbs < 2 ^ 62) : ¬ lN (qv_g t d) = 0 := by
  have g0 := qv_g_pos (t := t) hd
  have l := qv_g_le (t := t) hd
  intro q
  have := (pk_lEQ (a := qv_g t d) (b := 0) (by omega) (by decide)).mp q
  omega
theorem qw_lowTop {post : Int32 → Prop} {t d : Int} (hd : 0 < d) (bt : t.natAbs < 2 ^ 62) (bd : d.natAbs < 2 ^ 62) (H : post (qv_top t d)) :
    wpX_lowestTop post (fb, fk, fs, fp, fd, a1, a2, a3, a4, a5, a6, a7) (Int64.ofInt t) (Int64.ofInt d) := by
  unfold wpX_lowestTop
  dsimp only
  exact qw_cd hd bt bd ⟨qw_gn0 hd bd, H⟩
theorem qw_lowBot {post : Int32 → Prop} {t d : Int} (hd : 0 < d) (bt : t.natAbs < 2 ^ 62) (bd : d.natAbs < 2 ^ 62) (H : post (qv_bot t d)) :
    wpX_lowestBottom post (fb, fk, fs, fp, fd, a1, a2, a3, a4, a5, a6, a7) (Int64.ofInt t) (Int64.ofInt d) := by
  unfold wpX_lowestBottom
  dsimp only
  exact qw_cd hd bt bd ⟨qw_gn0 hd bd, H⟩
end
end
section
theorem qm_code_lt (R : Nat → Int) (S : Nat → Nat → Int) (T : Nat → Int) (D : Int) (s : Nat) : qm_code R S T D s < 4 := by
  unfold qm_code
  split <;> split <;> omega
theorem qm_code_0 {R : Nat → Int} {S : Nat → Nat → Int} {T : Nat → Int} {D : Int} {p s : Nat} (h : qm_eqn R S p T D) (hs : s < 4) : 0 < qm_code R S T D s := by
  have e := h s hs
  unfold qm_code
  unfold qm_act at e
  rcases (show p / 2 ^ s % 2 = 0 ∨ p / 2 ^ s % 2 = 1 by omega) with z | z
  · rw [z] at e
    rw [if_pos e]
    omega
  · rw [z] at e
    rw [if_pos e]
    omega
theorem qm_code_t0 {R : Nat → Int} {S : Nat → Nat → Int} {T : Nat → Int} {D : Int} {s : Nat} (h : ¬ qm_code R S T D s % 2 = 0) : qm_gain R S T D (2 * s + 0) = 8 * T s := by
  by_cases z : qm_gain R S T D (2 * s + 0) = 8 * T s
  · exact z
  · unfold qm_code at h
    rw [if_neg z] at h
    split at h <;> omega
theorem qm_code_t1 {R : Nat → Int} {S : Nat → Nat → Int} {T : Nat → Int} {D : Int} {s : Nat} (h : ¬ qm_code R S T D s / 2 % 2 = 0) : qm_gain R S T D (2 * s + 1) = 8 * T s := by
  by_cases z : qm_gain R S T D (2 * s + 1) = 8 * T s
  · exact z
  · unfold qm_code at h
    rw [if_neg z] at h
    split at h <;> omega
theorem qm_code_ta {R : Nat → Int} {S : Nat → Nat → Int} {T : Nat → Int} {D : Int} {s a : Nat} (ha : a < 2) (h : ¬ qm_code R S T D s / 2 ^ a % 2 = 0) : qm_gain R S T D (2 * s + a) = 8 * T s := by
  rcases (show a = 0 ∨ a = 1 by omega) with z | z
  · subst z
    exact qm_code_t0 (by omega)
  · subst z
    exact qm_code_t1 (by omega)
/-- the smallest policy of good actions -/
def qm_bp (f : Nat → Nat) : Nat → Nat
  | 0 => 0
  | n + 1 => qm_bp f n + (if f n % 2 = 0 then 2 ^ n else 0)
theorem qm_bp_lt (f : Nat → Nat) (n : Nat) : qm_bp f n < 2 ^ n := by
  induction n with
  | zero => exact Nat.one_pos
  | succ n ih =>
    unfold qm_bp
    rw [Nat.pow_succ]
    split <;> omega
theorem qm_bp_act (f : Nat → Nat) {s : Nat} (hs : s < 4) : qm_bp f 4 / 2 ^ s % 2 = if f s % 2 = 0 then 1 else 0 := by
  simp only [qm_bp]
  refine co_4 (P := fun s => (0 + (if f 0 % 2 = 0 then 2 ^ 0 else 0) + (if f 1 % 2 = 0 then 2 ^ 1 else 0) + (if f 2 % 2 = 0 then 2 ^ 2 else 0) + (if f 3 % 2 = 0 then 2 ^ 3 else 0)) / 2 ^ s % 2 = if f s % 2 = 0 then 1 else 0) ?_ ?_ ?_ ?_ hs <;> split <;> split <;> split <;> split <;> first | omega | (simp; done) | skip
/-- how many policies of good actions -/
def qm_pc (f : Nat → Nat) : Nat → Nat
  | 0 => 1
  | n + 1 => if f n = 3 then qm_pc f n * 2 else qm_pc f n
theorem qm_best_eqn {R : Nat → Int} {S : Nat → Nat → Int} {T : Nat → Int} {D : Int} (h : qm_sol R S T D) : qm_eqn R S (qm_bp (qm_code R S T D) 4) T D := by
  obtain ⟨d, o, p, e⟩ := h
  intro s hs
  unfold qm_act
  rw [qm_bp_act _ hs]
  have c0 := qm_code_0 e hs
  have c4 := qm_code_lt R S T D s
  by_cases z : qm_code R S T D s % 2 = 0
  · rw [if_pos z]
    exact qm_code_t1 (by omega)
  · rw [if_neg z]
    exact qm_code_t0 z
theorem qm_le_tr {a b t D db dp : Int} (hD : 0 < D) (hb : 0 < db) (h1 : a * D ≤ t * dp) (h2 : t * db = b * D) : a * db ≤ b * dp := by
  have k := Int.mul_le_mul_of_nonneg_right h1 (Int.le_of_lt hb)
  have e1 : a * D * db = D * (a * db) := by grind
  have e2 : t * dp * db = D * (b * dp) := by
    have : t * dp * db = t * db * dp := by grind
    rw [this, h2]
    grind
  rw [e1, e2] at k
  exact Int.le_of_mul_le_mul_left k hD
theorem qv_and1 : ∀ g, g < 4 → nI g &&& 1 = nI (g % 2) := by decide +kernel
theorem qv_or : ∀ s, s < 4 → ∀ b, b < 2 ^ s → nI b ||| ((1 : Int32) <<< (nI s &&& 31)) = nI (b + 2 ^ s) := by decide +kernel
section
variable {fb fk : Int64} {fs fp : Int32} {fd : Int64} {a1 a2 : Nat → Int32} {a3 a4 a5 a6 : Nat → Int64} {a7 : Nat → Int32} {T : Nat → Int} {D : Int} {s : Nat} {post : Int32 → St1 → Prop}
theorem qw_bestTop (hf : ¬ fs = 0) (h : qv_Sol a1 a2 T D fd a6 a7) (hs : s < 4) (H : post (qv_top (T s) D) (fb, fk, fs, fp, fd, a1, a2, a3, a4, a5, a6, a7)) : wpX_bestTop post (fb, fk, fs, fp, fd, a1, a2, a3, a4, a5, a6, a7) (nI s) := by
  obtain ⟨⟨d0, _⟩, bD, bT, rfl, h6, h7⟩ := h
  have b := bT s
  unfold wpX_bestTop
  dsimp only
  refine qw_isState hs (br_f (by decide) (qw_solved hf ⟨pk_in s 4 hs, ?_⟩))
  dsimp only
  rw [nI_clamp (by omega), h6 s hs]
  exact qw_lowTop d0 (by omega) (by omega) H
theorem qw_bestBottom (hf : ¬ fs = 0) (h : qv_Sol a1 a2 T D fd a6 a7) (hs : s < 4) (H : post (qv_bot (T s) D) (fb, fk, fs, fp, fd, a1, a2, a3, a4, a5, a6, a7)) : wpX_bestBottom post (fb, fk, fs, fp, fd, a1, a2, a3, a4, a5, a6, a7) (nI s) := by
  obtain ⟨⟨d0, _⟩, bD, bT, rfl, h6, h7⟩ := h
  have b := bT s
  unfold wpX_bestBottom
  dsimp only
  refine qw_isState hs (br_f (by decide) (qw_solved hf ⟨pk_in s 4 hs, ?_⟩))
  dsimp only
  rw [nI_clamp (by omega), h6 s hs]
  exact qw_lowBot d0 (by omega) (by omega) H
/-- bestTop from any state -/
theorem qw_bestTopI (ok : qv_OK a1 a2) (hI : fs = 0 ∨ ∃ T D, qv_Sol a1 a2 T D fd a6 a7) (hs : s < 4)
    (H : ∀ gb gs gp gd b3 b4 b6 b7 T D, ¬ gs = 0 → qv_Sol a1 a2 T D gd b6 b7 → post (qv_top (T s) D) (gb, fk, gs, gp, gd, a1, a2, b3, b4, a5, b6, b7)) : wpX_bestTop post (fb, fk, fs, fp, fd, a1, a2, a3, a4, a5, a6, a7) (nI s) := by
  unfold wpX_bestTop
  dsimp only
  refine qw_isState hs (br_f (by decide) (qw_solve ok hI (fun gb gs gp gd b3 b4 b6 b7 T D hg h => ⟨pk_in s 4 hs, ?_⟩)))
  have k := H gb gs gp gd b3 b4 b6 b7 T D hg h
  obtain ⟨⟨d0, _⟩, bD, bT, rfl, h6, h7⟩ := h
  have b := bT s
  dsimp only
  rw [nI_clamp (by omega), h6 s hs]
  exact qw_lowTop d0 (by omega) (by omega) k
theorem qw_valueTop {p : Nat} (ok : qv_OK a1 a2) (hp : p < 16) (hs : s < 4)
    (H : ∀ gb b3 b4, post (qv_top (qm_VT (qv_R a1) (qv_S a2) p s) (qm_VD (qv_R a1) (qv_S a2) p)) (gb, fk, fs, fp, fd, a1, a2, b3, b4, a5, a6, a7)) : wpX_valueTop post (fb, fk, fs, fp, fd, a1, a2, a3, a4, a5, a6, a7) (nI p) (nI s) := by
  have ok' : qm_OK (qv_R a1) (qv_S a2) := ok
  have P := (qm_A_pos ok' p).2.2.2
  have L := qm_VD_le ok' p
  have b := qm_VT_le ok' p s
  unfold wpX_valueTop
  dsimp only
  refine qw_isPolicy hp (br_f (by decide) (qw_isState hs (br_f (by decide) (qw_evaluate hp ok (fun b3 b4 h4 => ⟨pk_in s 4 hs, ?_⟩)))))
  dsimp only
  rw [nI_clamp (by omega), h4 s hs]
  exact qw_lowTop P (by omega) (by omega) (H _ b3 b4)
theorem qw_valueBottom {p : Nat} (ok : qv_OK a1 a2) (hp : p < 16) (hs : s < 4)
    (H : ∀ gb b3 b4, post (qv_bot (qm_VT (qv_R a1) (qv_S a2) p s) (qm_VD (qv_R a1) (qv_S a2) p)) (gb, fk, fs, fp, fd, a1, a2, b3, b4, a5, a6, a7)) : wpX_valueBottom post (fb, fk, fs, fp, fd, a1, a2, a3, a4, a5, a6, a7) (nI p) (nI s) := by
  have ok' : qm_OK (qv_R a1) (qv_S a2) := ok
  have P := (qm_A_pos ok' p).2.2.2
  have L := qm_VD_le ok' p
  have b := qm_VT_le ok' p s
  unfold wpX_valueBottom
  dsimp only
  refine qw_isPolicy hp (br_f (by decide) (qw_isState hs (br_f (by decide) (qw_evaluate hp ok (fun b3 b4 h4 => ⟨pk_in s 4 hs, ?_⟩)))))
  dsimp only
  rw [nI_clamp (by omega), h4 s hs]
  exact qw_lowBot P (by omega) (by omega) (H _ b3 b4)
theorem qw_keep {post : St1 → Prop} {F : Nat → Int} (h4 : ∀ s, s < 4 → a4 s = Int64.ofInt (F s)) (H : ∀ b5, (∀ s, s < 4 → b5 s = Int64.ofInt (F s)) → post (fb, fb, fs, fp, fd, a1, a2, a3, a4, b5, a6, a7)) : wpX_keepValues post (fb, fk, fs, fp, fd, a1, a2, a3, a4, a5, a6, a7) := by
  unfold wpX_keepValues
  dsimp only
  refine pk_loop (fun n s b5 => wX_keepValues_2 post fb fk fs fp fd n (nI s) a1 a2 a3 a4 b5 a6 a7)
    (fun s b5 => ∀ r, r < s → b5 r = Int64.ofInt (F r)) 4 0 a5 (by omega) (fun q hq => absurd hq (by omega)) ?_ ?_
  · intro n b5 h
    exact pk_le 4 4 (fun _ => H b5 h) (fun z => absurd z (by omega))
  · intro n s b5 hs h hw
    refine pk_le 4 s (fun z => absurd z (by omega)) (fun _ => ⟨pk_in s 4 hs, pk_in s 4 hs, fun b e => nm_r (nI_1 s) ?_⟩)
    rw [nI_clamp (show s < 2 ^ 31 by omega), h4 s hs] at e
    rw [e]
    refine hw _ (fun r hr => ?_)
    by_cases z : r = s
    · rw [z, pk_uLs]
    · rw [pk_uLn z]
      exact h r (by omega)
theorem qw_compare {p q : Nat} (ok : qv_OK a1 a2) (hp : p < 16) (hq : q < 16) (hs : s < 4)
    (hle : qm_VT (qv_R a1) (qv_S a2) p s * qm_VD (qv_R a1) (qv_S a2) q ≤ qm_VT (qv_R a1) (qv_S a2) q s * qm_VD (qv_R a1) (qv_S a2) p)
    (H : ∀ r : Int32, r ≤ 0 → ∀ gb gk b3 b4 b5, post r (gb, gk, fs, fp, fd, a1, a2, b3, b4, b5, a6, a7)) : wpX_compare post (fb, fk, fs, fp, fd, a1, a2, a3, a4, a5, a6, a7) (nI p) (nI q) (nI s) := by
  have ok' : qm_OK (qv_R a1) (qv_S a2) := ok
  have P1 := (qm_A_pos ok' p).2.2.2
  have L1 := qm_VD_le ok' p
  have P2 := (qm_A_pos ok' q).2.2.2
  have L2 := qm_VD_le ok' q
  have m1 := qm_mulB (qm_VT_le ok' p s) (show (qm_VD (qv_R a1) (qv_S a2) q).natAbs ≤ 98304 by omega)
  have m2 := qm_mulB (qm_VT_le ok' q s) (show (qm_VD (qv_R a1) (qv_S a2) p).natAbs ≤ 98304 by omega)
  unfold wpX_compare
  dsimp only
  refine qw_isPolicy hp (br_f (by decide) (qw_isPolicy hq (br_f (by decide) (qw_isState hs (br_f (by decide) (qw_evaluate hp ok (fun b3 b4 h4 => ?_)))))))
  dsimp only
  refine qw_keep h4 (fun b5 h5 => ?_)
  dsimp only
  refine qw_evaluate hq ok (fun c3 c4 g4 => ?_)
  dsimp only
  refine ⟨pk_in s 4 hs, ?_⟩
  refine nm_r (e' := Int64.ofInt (qm_VT (qv_R a1) (qv_S a2) p s * qm_VD (qv_R a1) (qv_S a2) q)) ?_ ⟨pk_in s 4 hs, nm_r (e' := Int64.ofInt (qm_VT (qv_R a1) (qv_S a2) q s * qm_VD (qv_R a1) (qv_S a2) p)) ?_ ?_⟩
  · rw [nI_clamp (by omega), h5 s hs, Int64.ofInt_mul]
  · rw [nI_clamp (by omega), g4 s hs, Int64.ofInt_mul]
  · refine br_c (fun _ => br_t ?_ (H 0 (by decide) _ _ _ _ _)) (fun _ => H (-1) (by decide) _ _ _ _ _)
    exact (qv_le (by omega) (by omega)).mpr hle
theorem qw_good {a : Nat} (hf : ¬ fs = 0) (h : qv_Sol a1 a2 T D fd a6 a7) (hs : s < 4) (ha : a < 2) (H : post (nI (qm_code (qv_R a1) (qv_S a2) T D s / 2 ^ a % 2)) (fb, fk, fs, fp, fd, a1, a2, a3, a4, a5, a6, a7)) :
    wpX_good post (fb, fk, fs, fp, fd, a1, a2, a3, a4, a5, a6, a7) (nI s) (nI a) := by
  have c4 := qm_code_lt (qv_R a1) (qv_S a2) T D s
  unfold wpX_good
  dsimp only
  refine qw_isState hs (br_f (by decide) (br_f (nI_pos (by omega)) (pk_le a 1 (fun _ => qw_solved hf ⟨pk_in s 4 hs, ?_⟩) (fun z => absurd z (by omega)))))
  dsimp only
  rw [nI_clamp (by omega), h.2.2.2.2.2 s hs, qv_bit _ (by omega) a (by omega)]
  revert H
  generalize hb : qm_code (qv_R a1) (qv_S a2) T D s / 2 ^ a % 2 = b
  intro H
  have hb2 : b < 2 := by omega
  refine pk_eq b 0 (fun z => ?_) (fun z => ?_)
  · rw [z] at H
    exact H
  · rw [show b = 1 by omega] at H
    exact H
theorem qw_policies (hf : ¬ fs = 0) (h : qv_Sol a1 a2 T D fd a6 a7) (H : post (nI (qm_pc (qm_code (qv_R a1) (qv_S a2) T D) 4)) (fb, fk, fs, fp, fd, a1, a2, a3, a4, a5, a6, a7)) :
    wpX_policies post (fb, fk, fs, fp, fd, a1, a2, a3, a4, a5, a6, a7) := by
  unfold wpX_policies
  dsimp only
  refine qw_solved hf ?_
  refine pk_loop (σ := Unit) (fun n s _ => wX_policies_8 post fb fk fs fp fd a1 a2 a3 a4 a5 a6 a7 n (nI (qm_pc (qm_code (qv_R a1) (qv_S a2) T D) s)) (nI s)) (fun _ _ => True) 4 0 () (by omega) trivial ?_ ?_
  · intro n _ _
    exact pk_le 4 4 (fun _ => H) (fun z => absurd z (by omega))
  · intro n s _ hs _ hw
    have c4 := qm_code_lt (qv_R a1) (qv_S a2) T D s
    have w := hw () trivial
    refine pk_le 4 s (fun z => absurd z (by omega)) (fun _ => ⟨pk_in s 4 hs, ?_⟩)
    rw [nI_clamp (by omega), h.2.2.2.2.2 s hs]
    unfold qm_pc at w
    refine pk_eq (qm_code (qv_R a1) (qv_S a2) T D s) 3 (fun z => ?_) (fun z => ?_)
    · rw [if_pos z] at w
      exact nm_r (pk_mul _ 2) (nm_r (nI_1 s) w)
    · rw [if_neg z] at w
      exact nm_r (nI_1 s) w
theorem qw_policy8 (h : qv_Sol a1 a2 T D fd a6 a7) (H : post (nI (qm_bp (qm_code (qv_R a1) (qv_S a2) T D) 4)) (fb, fk, fs, fp, fd, a1, a2, a3, a4, a5, a6, a7)) :
    ∃ n, wX_policy_8 post fb fk fs fp fd a1 a2 a3 a4 a5 a6 a7 n 0 0 := by
  refine pk_loop (σ := Unit) (fun n s _ => wX_policy_8 post fb fk fs fp fd a1 a2 a3 a4 a5 a6 a7 n (nI (qm_bp (qm_code (qv_R a1) (qv_S a2) T D) s)) (nI s)) (fun _ _ => True) 4 0 () (by omega) trivial ?_ ?_
  · intro n _ _
    exact pk_le 4 4 (fun _ => H) (fun z => absurd z (by omega))
  · intro n s _ hs _ hw
    have c4 := qm_code_lt (qv_R a1) (qv_S a2) T D s
    have w := hw () trivial
    refine pk_le 4 s (fun z => absurd z (by omega)) (fun _ => ⟨pk_in s 4 hs, ?_⟩)
    rw [nI_clamp (by omega), h.2.2.2.2.2 s hs, qv_and1 _ c4]
    unfold qm_bp at w
    refine pk_eq (qm_code (qv_R a1) (qv_S a2) T D s % 2) 0 (fun z => ?_) (fun z => ?_)
    · rw [if_pos z] at w
      exact nm_r (qv_or s hs _ (qm_bp_lt _ s)) (nm_r (nI_1 s) w)
    · rw [if_neg z] at w
      exact nm_r (nI_1 s) w
/-- policy from any state -/
theorem qw_policyI (ok : qv_OK a1 a2) (hI : fs = 0 ∨ ∃ T D, qv_Sol a1 a2 T D fd a6 a7)
    (H : ∀ gb gs gp gd b3 b4 b6 b7 T D, ¬ gs = 0 → qv_Sol a1 a2 T D gd b6 b7 → post (nI (qm_bp (qm_code (qv_R a1) (qv_S a2) T D) 4)) (gb, fk, gs, gp, gd, a1, a2, b3, b4, a5, b6, b7)) : wpX_policy post (fb, fk, fs, fp, fd, a1, a2, a3, a4, a5, a6, a7) := by
  unfold wpX_policy
  dsimp only
  exact qw_solve ok hI (fun gb gs gp gd b3 b4 b6 b7 T D hg h => qw_policy8 h (H gb gs gp gd b3 b4 b6 b7 T D hg h))
end
end
section
section
variable {fb fk : Int64} {fs fp : Int32} {fd : Int64} {a1 a2 : Nat → Int32} {a3 a4 a5 a6 : Nat → Int64} {a7 : Nat → Int32} {T : Nat → Int} {D : Int} {s : Nat} {post : Int32 → St1 → Prop}
theorem qw_holds96 {J9 : Int32 → Int32 → Int64 → Int64 → Int32 → Int32 → Int64 → (Nat → Int32) → (Nat → Int32) → (Nat → Int64) → (Nat → Int64) → (Nat → Int64) → (Nat → Int64) → (Nat → Int32) → Prop} {x2 : Int32} {b : Nat}
    (ok : qv_OK a1 a2) (hb : b < 16) (hs : s < 4)
    (hle : ∀ p, qm_VT (qv_R a1) (qv_S a2) p s * qm_VD (qv_R a1) (qv_S a2) b ≤ qm_VT (qv_R a1) (qv_S a2) b s * qm_VD (qv_R a1) (qv_S a2) p)
    (H : ∀ gb gk b3 b4 b5, J9 x2 (nI (s + 1)) gb gk fs fp fd a1 a2 b3 b4 b5 a6 a7) :
    ∃ n, wL_holds_96 post J9 (nI b) x2 (nI s) n 0 fb fk fs fp fd a1 a2 a3 a4 a5 a6 a7 := by
  refine pk_loop (σ := Int64 × Int64 × (Nat → Int64) × (Nat → Int64) × (Nat → Int64)) (fun n p u => wL_holds_96 post J9 (nI b) x2 (nI s) n (nI p) u.1 u.2.1 fs fp fd a1 a2 u.2.2.1 u.2.2.2.1 u.2.2.2.2 a6 a7) (fun _ _ => True) 16 0 (fb, fk, a3, a4, a5) (by omega) trivial ?_ ?_
  · intro n u _
    exact pk_le 16 16 (fun _ => nm_r (nI_1 s) (H _ _ _ _ _)) (fun z => absurd z (by omega))
  · intro n p u hp _ hw
    refine pk_le 16 p (fun z => absurd z (by omega)) (fun _ => ?_)
    refine qw_compare ok hp hb hs (hle p) (fun r hr gb gk b3 b4 b5 => br_t hr (nm_r (nI_1 p) ?_))
    exact hw (gb, gk, b3, b4, b5) trivial
theorem qw_holds42 {J9 : Int32 → Int32 → Int64 → Int64 → Int32 → Int32 → Int64 → (Nat → Int32) → (Nat → Int32) → (Nat → Int64) → (Nat → Int64) → (Nat → Int64) → (Nat → Int64) → (Nat → Int32) → Prop} {z0 z1 : Int32}
    (ok : qv_OK a1 a2) (hf : ¬ fs = 0) (h : qv_Sol a1 a2 T D fd a6 a7) (hs : s < 4) (hz0 : z0 = nI (qm_code (qv_R a1) (qv_S a2) T D s / 2 ^ 1 % 2)) (hz1 : z1 = nI (qm_code (qv_R a1) (qv_S a2) T D s / 2 ^ 0 % 2))
    (H : ∀ gb gk b3 b4 b5, J9 (nI (qm_pc (qm_code (qv_R a1) (qv_S a2) T D) (s + 1))) (nI (s + 1)) gb gk fs fp fd a1 a2 b3 b4 b5 a6 a7) :
    wL_holds_42 post J9 (nI (qm_bp (qm_code (qv_R a1) (qv_S a2) T D) 4)) (nI (qm_pc (qm_code (qv_R a1) (qv_S a2) T D) s)) (nI s) z0 z1 fb fk fs fp fd a1 a2 a3 a4 a5 a6 a7 := by
  have ok' : qm_OK (qv_R a1) (qv_S a2) := ok
  have sol := h.1
  have bD := h.2.1
  have bT := h.2.2.1 s
  have hb : qm_bp (qm_code (qv_R a1) (qv_S a2) T D) 4 < 16 := qm_bp_lt _ 4
  have hq := qm_best_eqn sol
  have hbit := qm_bp_act (qm_code (qv_R a1) (qv_S a2) T D) hs
  have c4 := qm_code_lt (qv_R a1) (qv_S a2) T D s
  have c0 : 0 < qm_code (qv_R a1) (qv_S a2) T D s := by
    obtain ⟨_, _, p, e⟩ := sol
    exact qm_code_0 e hs
  have hpc : qm_pc (qm_code (qv_R a1) (qv_S a2) T D) (s + 1) = qm_pc (qm_code (qv_R a1) (qv_S a2) T D) s * (qm_code (qv_R a1) (qv_S a2) T D s / 2 ^ 0 % 2 + qm_code (qv_R a1) (qv_S a2) T D s / 2 ^ 1 % 2) := by
    rw [qm_pc]
    by_cases z : qm_code (qv_R a1) (qv_S a2) T D s = 3
    · rw [if_pos z, z]
    · rw [if_neg z, show qm_code (qv_R a1) (qv_S a2) T D s / 2 ^ 0 % 2 + qm_code (qv_R a1) (qv_S a2) T D s / 2 ^ 1 % 2 = 1 by omega, Nat.mul_one]
  rw [hpc] at H
  clear hpc
  have hgood : qm_code (qv_R a1) (qv_S a2) T D s / 2 ^ (qm_bp (qm_code (qv_R a1) (qv_S a2) T D) 4 / 2 ^ s % 2) % 2 = 1 := by
    rw [hbit]
    by_cases z : qm_code (qv_R a1) (qv_S a2) T D s % 2 = 0
    · rw [if_pos z]
      omega
    · rw [if_neg z]
      omega
  have hb2 : qm_bp (qm_code (qv_R a1) (qv_S a2) T D) 4 / 2 ^ s % 2 < 2 := by omega
  have hbw := qv_bit (qm_bp (qm_code (qv_R a1) (qv_S a2) T D) 4) hb s hs
  clear hbit
  revert H hq hgood hb2 hb hbw
  generalize qm_bp (qm_code (qv_R a1) (qv_S a2) T D) 4 = b
  generalize qm_pc (qm_code (qv_R a1) (qv_S a2) T D) s = k
  intro H hb hq hgood hb2 hbw
  have P := (qm_A_pos ok' b).2.2.2
  have L := qm_VD_le ok' b
  have bV := qm_VT_le ok' b s
  have eqv := fun s hs => qm_eqn_uniq ok' sol.1 P hq (fun s hs => qm_val_eq b s hs) s hs
  have low := qv_low sol.1 P (by omega) (by omega) (by omega) (by omega) (eqv s hs)
  have hle : ∀ p, qm_VT (qv_R a1) (qv_S a2) p s * qm_VD (qv_R a1) (qv_S a2) b ≤ qm_VT (qv_R a1) (qv_S a2) b s * qm_VD (qv_R a1) (qv_S a2) p := fun p =>
    qm_le_tr sol.1 P (qm_sol_le ok' (qm_A_pos ok' p).2.2.2 (fun s hs => qm_val_eq p s hs) sol.1 sol.2.1 s hs) (eqv s hs)
  unfold wL_holds_42
  refine nm_r (e' := nI (qm_code (qv_R a1) (qv_S a2) T D s / 2 ^ 0 % 2 + qm_code (qv_R a1) (qv_S a2) T D s / 2 ^ 1 % 2)) (by rw [hz0, hz1, nI_add]) (nm_r (pk_mul _ _) ?_)
  rw [hbw]
  refine qw_good hf h hs hb2 ?_
  rw [hgood]
  refine br_f (by decide) ?_
  refine qw_bestTop hf h hs ?_
  refine qw_valueTop ok hb hs (fun gb b3 b4 => ?_)
  refine br_t low.1 ?_
  refine qw_bestBottom hf h hs ?_
  refine qw_valueBottom ok hb hs (fun gb b3 b4 => ?_)
  refine br_t low.2 ?_
  exact qw_holds96 ok hb hs hle H
/-- holds answers true, and the state is solved -/
theorem qw_holds (ok : qv_OK a1 a2) (hI : fs = 0 ∨ ∃ T D, qv_Sol a1 a2 T D fd a6 a7)
    (H : ∀ gb gk gs gp gd b3 b4 b5 b6 b7 T D, ¬ gs = 0 → qv_Sol a1 a2 T D gd b6 b7 → post 1 (gb, gk, gs, gp, gd, a1, a2, b3, b4, b5, b6, b7)) : wpL_holds post (fb, fk, fs, fp, fd, a1, a2, a3, a4, a5, a6, a7) := by
  unfold wpL_holds
  dsimp only
  refine qw_policyI ok hI (fun gb gs gp gd b3 b4 b6 b7 T D hg h => ?_)
  refine pk_loop (σ := Int64 × Int64 × (Nat → Int64) × (Nat → Int64) × (Nat → Int64)) (fun n s u => wL_holds_9 post (nI (qm_bp (qm_code (qv_R a1) (qv_S a2) T D) 4)) n (nI (qm_pc (qm_code (qv_R a1) (qv_S a2) T D) s)) (nI s) u.1 u.2.1 gs gp gd a1 a2 u.2.2.1 u.2.2.2.1 u.2.2.2.2 b6 b7) (fun _ _ => True) 4 0 (gb, fk, b3, b4, a5) (by omega) trivial ?_ ?_
  · intro n u _
    refine pk_le 4 4 (fun _ => ?_) (fun z => absurd z (by omega))
    exact qw_policies hg h (br_t rfl (H _ _ _ _ _ _ _ _ _ _ T D hg h))
  · intro n s u hs _ hw
    refine pk_le 4 s (fun z => absurd z (by omega)) (fun _ => ?_)
    have c4 := qm_code_lt (qv_R a1) (qv_S a2) T D s
    have J : ∀ gb gk b3 b4 b5, wL_holds_9 post (nI (qm_bp (qm_code (qv_R a1) (qv_S a2) T D) 4)) n (nI (qm_pc (qm_code (qv_R a1) (qv_S a2) T D) (s + 1))) (nI (s + 1)) gb gk gs gp gd a1 a2 b3 b4 b5 b6 b7 := fun gb gk b3 b4 b5 => hw (gb, gk, b3, b4, b5) trivial
    have step : ∀ z1 : Int32, z1 = nI (qm_code (qv_R a1) (qv_S a2) T D s / 2 ^ 0 % 2) → wL_holds_28 post (wL_holds_9 post (nI (qm_bp (qm_code (qv_R a1) (qv_S a2) T D) 4)) n) (nI (qm_bp (qm_code (qv_R a1) (qv_S a2) T D) 4)) (nI (qm_pc (qm_code (qv_R a1) (qv_S a2) T D) s)) (nI s) z1 u.1 u.2.1 gs gp gd a1 a2 u.2.2.1 u.2.2.2.1 u.2.2.2.2 b6 b7 := by
      intro z1 hz
      unfold wL_holds_28
      refine qw_good (a := 1) hg h hs (by decide) ?_
      refine pk_eq (qm_code (qv_R a1) (qv_S a2) T D s / 2 ^ 1 % 2) 0 (fun z => ?_) (fun z => ?_)
      · exact qw_holds42 ok hg h hs (by rw [z]; rfl) hz J
      · exact qw_holds42 ok hg h hs (by rw [show qm_code (qv_R a1) (qv_S a2) T D s / 2 ^ 1 % 2 = 1 by omega]; rfl) hz J
    refine qw_good (a := 0) hg h hs (by decide) ?_
    refine pk_eq (qm_code (qv_R a1) (qv_S a2) T D s / 2 ^ 0 % 2) 0 (fun z => ?_) (fun z => ?_)
    · exact step 0 (by rw [z]; rfl)
    · exact step 1 (by rw [show qm_code (qv_R a1) (qv_S a2) T D s / 2 ^ 0 % 2 = 1 by omega]; rfl)
end
end
section
theorem qv_ok1 {a1 a2 : Nat → Int32} (ok : qv_OK a1 a2) {j : Nat} {x : Int32} (h0 : -20 ≤ x.toInt) (h1 : x.toInt ≤ 20) : qv_OK (upd a1 j x) a2 := by
  refine ⟨fun i hi => ?_, ok.2⟩
  unfold qv_R
  by_cases e : i = j
  · rw [e, pk_us]
    exact ⟨h0, h1⟩
  · rw [pk_un e]
    exact ok.1 i hi
theorem qv_ok2 {a1 a2 b2 : Nat → Int32} (ok : qv_OK a1 a2) {j : Nat} (h : ∀ i, (i < 4 * j ∨ 4 * j + 4 ≤ i) → b2 i = a2 i) (hr : qm_row (qv_S b2 j)) : qv_OK a1 b2 := by
  refine ⟨ok.1, fun i hi => ?_⟩
  by_cases e : i = j
  · rw [e]
    exact hr
  · have r := ok.2 i hi
    unfold qm_row qv_S at r ⊢
    rw [h _ (by omega), h _ (by omega), h _ (by omega), h _ (by omega)]
    exact r
theorem qv_rw0 : ∀ k, k < 41 → ¬ (nI k - 20) < (-20) := by decide +kernel
theorem qv_rw1 : ∀ k, k < 41 → (nI k - 20) ≤ 20 := by decide +kernel
theorem qv_rw2 : ∀ k, k < 41 → -20 ≤ ((nI k - 20).toInt8.toInt32).toInt ∧ ((nI k - 20).toInt8.toInt32).toInt ≤ 20 := by decide +kernel
theorem qv_b5 : ∀ d, d < 5 → (nI d).toInt8.toInt32 = nI d := by decide +kernel
theorem qv_t5 {d : Nat} (h : d < 5) : (nI d).toInt = (d : Int) := nI_toInt (by omega)
section
variable {fb fk : Int64} {fs fp : Int32} {fd : Int64} {a1 a2 : Nat → Int32} {a3 a4 a5 a6 : Nat → Int64} {a7 : Nat → Int32} {T : Nat → Int} {D : Int} {s a : Nat} {post : Int32 → St1 → Prop}
theorem qw_reward {k : Nat} (ok : qv_OK a1 a2) (hs : s < 4) (ha : a < 2) (hk : k < 41) (H : ∀ b1, qv_OK b1 a2 → post 1 (fb, fk, 0, fp, fd, b1, a2, a3, a4, a5, a6, a7)) :
    wpX_reward post (fb, fk, fs, fp, fd, a1, a2, a3, a4, a5, a6, a7) (nI s) (nI a) (nI k - 20) := by
  unfold wpX_reward
  dsimp only
  refine qw_isState hs (br_f (by decide) (br_f (nI_pos (by omega)) (pk_lt 1 a (fun z => absurd z (by omega)) (fun _ => br_f (qv_rw0 k hk) (br_t (qv_rw1 k hk) ⟨pk_in (2 * s + a) 8 (by omega) (qv_ix 2 s a), fun b1 e => ?_⟩)))))
  rw [e]
  exact H _ (qv_ok1 ok (qv_rw2 k hk).1 (qv_rw2 k hk).2)
theorem qw_lawShares {post : Int32 → Prop} {u : St2} {x : Int32} (H : ∀ a b c : Nat, a + b + c ≤ 4 → post (nI (125 * a + 25 * b + 5 * c + (4 - a - b - c)))) : wpL_shares post u x := by
  obtain ⟨n1, h1, e1⟩ := pk_andE x (m := 255) 8 (by decide)
  obtain ⟨n2, h2, e2⟩ := pk_andE (x >>> ((8 : Int32) &&& 31)) (m := 255) 8 (by decide)
  obtain ⟨n3, h3, e3⟩ := pk_andE (x >>> ((16 : Int32) &&& 31)) (m := 255) 8 (by decide)
  unfold wpL_shares
  rw [e1, e2, e3]
  have a4 : n1 % 5 < 5 := Nat.mod_lt _ (by decide)
  refine ⟨by decide, nm_r (e' := nI (n1 % 5)) (pk_rem (d := 5) (by omega) (by decide) (by decide)) ?_⟩
  generalize n1 % 5 = a at a4
  rw [show (5 : Int32) - nI a = nI (5 - a) from pk_sub (a := 5) (by omega)]
  have b4 : n2 % (5 - a) < 5 - a := Nat.mod_lt _ (by omega)
  refine ⟨nI_ne0 (by omega) (by omega), nm_r (e' := nI (n2 % (5 - a))) (pk_rem (by omega) (by omega) (by omega)) ?_⟩
  generalize n2 % (5 - a) = b at b4
  rw [show nI (5 - a) - nI b = nI (5 - a - b) from pk_sub (by omega)]
  have c4 : n3 % (5 - a - b) < 5 - a - b := Nat.mod_lt _ (by omega)
  refine ⟨nI_ne0 (by omega) (by omega), nm_r (e' := nI (n3 % (5 - a - b))) (pk_rem (by omega) (by omega) (by omega)) ?_⟩
  generalize n3 % (5 - a - b) = c at c4
  have k := H a b c (by omega)
  rw [show (125 : Int32) = nI 125 from rfl, show (25 : Int32) = nI 25 from rfl, show (5 : Int32) = nI 5 from rfl, show (4 : Int32) = nI 4 from rfl, pk_mul, pk_mul, pk_mul, nI_add, nI_add, nI_add, pk_sub (by omega), pk_sub (by omega), pk_sub (by omega)]
  rw [show 125 * a + 25 * b + 5 * c + 4 - a - b - c = 125 * a + 25 * b + 5 * c + (4 - a - b - c) by omega]
  exact k
/-- one place of shares -/
theorem qw_sh67 {n N t : Nat} {b2 : Nat → Int32} (hs : s < 4) (ha : a < 2) (ht : t < 4) (hN : N < 625)
    (H : wX_shares_67 post (nI s) (nI a) fb fk fs fp fd n (nI (N / 5)) (nI t + (-1)) a1 (upd b2 (4 * (2 * s + a) + t) (nI (N % 5))) a3 a4 a5 a6 a7) :
    wX_shares_67 post (nI s) (nI a) fb fk fs fp fd (n + 1) (nI N) (nI t) a1 b2 a3 a4 a5 a6 a7 := by
  have e : (4 * (2 * nI s + nI a) + nI t : Int32) = nI (4 * (2 * s + a) + t) := by
    rw [show (2 * nI s + nI a : Int32) = nI (2 * s + a) from qv_ix 2 s a]
    exact qv_ix 4 _ t
  refine br_f (nI_pos (by omega)) ⟨by decide, pk_in (4 * (2 * s + a) + t) 32 (by omega) e, fun c2 ec => ⟨by decide, nm_r (pk_div (d := 5) (by omega) (by decide) (by decide)) (nm_e ?_)⟩⟩
  rw [e, nI_clamp (show 4 * (2 * s + a) + t < 2 ^ 31 by omega), show nI N - nI N / 5 * 5 = nI (N % 5) from pk_rem (d := 5) (by omega) (by decide) (by decide), qv_b5 _ (Nat.mod_lt _ (by decide))] at ec
  rw [ec]
  exact H
theorem qw_shares {p q r : Nat} (ok : qv_OK a1 a2) (hs : s < 4) (ha : a < 2) (hq : p + q + r ≤ 4) (H : ∀ b2, qv_OK a1 b2 → post 1 (fb, fk, 0, fp, fd, a1, b2, a3, a4, a5, a6, a7)) :
    wpX_shares post (fb, fk, fs, fp, fd, a1, a2, a3, a4, a5, a6, a7) (nI s) (nI a) (nI (125 * p + 25 * q + 5 * r + (4 - p - q - r))) := by
  have hN : 125 * p + 25 * q + 5 * r + (4 - p - q - r) < 625 := by omega
  have h0 : (125 * p + 25 * q + 5 * r + (4 - p - q - r)) % 5 = 4 - p - q - r := by omega
  have h1 : (125 * p + 25 * q + 5 * r + (4 - p - q - r)) / 5 % 5 = r := by omega
  have h2 : (125 * p + 25 * q + 5 * r + (4 - p - q - r)) / 25 % 5 = q := by omega
  have h3 : (125 * p + 25 * q + 5 * r + (4 - p - q - r)) / 125 = p := by omega
  revert hN h0 h1 h2 h3
  generalize 125 * p + 25 * q + 5 * r + (4 - p - q - r) = N
  intro hN h0 h1 h2 h3
  unfold wpX_shares
  dsimp only
  refine qw_isState hs (br_f (by decide) (br_f (nI_pos (by omega)) (pk_lt 1 a (fun z => absurd z (by omega)) (fun _ => br_f (nI_pos (by omega)) (pk_le N 624 (fun _ => ⟨by decide, by decide, by decide, by decide, by decide, by decide, nm_r (e' := nI 4) ?_ (br_t rfl ?_)⟩) (fun z => absurd z (by omega)))))))
  · have q1 : nI N / 125 = nI (N / 125) := pk_div (d := 125) (by omega) (by decide) (by decide)
    have q2 : nI N / 25 = nI (N / 25) := pk_div (d := 25) (by omega) (by decide) (by decide)
    have q3 : nI N / 5 = nI (N / 5) := pk_div (d := 5) (by omega) (by decide) (by decide)
    have r1 : nI N - nI N / 5 * 5 = nI (N % 5) := pk_rem (d := 5) (by omega) (by decide) (by decide)
    have r2 : nI (N / 25) - nI (N / 25) / 5 * 5 = nI (N / 25 % 5) := pk_rem (d := 5) (by omega) (by decide) (by decide)
    have r3 : nI (N / 5) - nI (N / 5) / 5 * 5 = nI (N / 5 % 5) := pk_rem (d := 5) (by omega) (by decide) (by decide)
    rw [r1, q1, q2, q3, r2, r3, nI_add, nI_add, nI_add]
    congr 1
    omega
  · refine ⟨5, qw_sh67 (t := 3) hs ha (by decide) hN ?_⟩
    refine qw_sh67 (t := 2) hs ha (by decide) (by omega) ?_
    refine qw_sh67 (t := 1) hs ha (by decide) (by omega) ?_
    refine qw_sh67 (t := 0) hs ha (by decide) (by omega) ?_
    refine br_t (by decide) (H _ (qv_ok2 (j := 2 * s + a) ok (fun i hi => ?_) ?_))
    · rw [pk_un (by omega), pk_un (by omega), pk_un (by omega), pk_un (by omega)]
    · unfold qm_row qv_S
      rw [pk_us, pk_un (by omega), pk_us, pk_un (by omega), pk_un (by omega), pk_us, pk_un (by omega), pk_un (by omega), pk_un (by omega), pk_us]
      have e2 : N / 5 / 5 = N / 25 := Nat.div_div_eq_div_mul N 5 5
      have e3 : N / 25 / 5 = N / 125 := Nat.div_div_eq_div_mul N 25 5
      rw [e2, e3, h0, h1, h2, h3, Nat.mod_eq_of_lt (show p < 5 by omega), qv_t5 (by omega), qv_t5 (by omega), qv_t5 (by omega), qv_t5 (by omega)]
      omega
/-- copyAction -/
theorem qv_small {x : Int32} (h0 : -20 ≤ x.toInt) (h1 : x.toInt ≤ 20) : vp_nar .byte x = x := by
  rw [vp_nar_byte, ← Int32.toInt_inj, Int8.toInt_toInt32, Int32.toInt_toInt8]
  exact Int.bmod_eq_of_le (by omega) (by omega)
theorem qw_copy55 {x y : Nat} {x6 : Int32} (hx : x < 8) (hy : y < 8) (hn : x ≠ y) (ok : ∀ t, t < 4 → -20 ≤ (a2 (4 * x + t)).toInt ∧ (a2 (4 * x + t)).toInt ≤ 20) (h6 : x6 = 0 ∨ x6 = 1)
    (H : ∀ d b2, (d = 0 ∨ d = 1) → (∀ t, t < 4 → b2 (4 * y + t) = a2 (4 * x + t)) → (∀ i, (i < 4 * y ∨ 4 * y + 4 ≤ i) → b2 i = a2 i) → post d (fb, fk, fs, fp, fd, a1, b2, a3, a4, a5, a6, a7)) :
    ∃ n, wX_copyAction_55 post (nI x) (nI y) fb fk fs fp fd n x6 0 a1 a2 a3 a4 a5 a6 a7 := by
  refine pk_loop (σ := Int32 × (Nat → Int32)) (fun n t u => wX_copyAction_55 post (nI x) (nI y) fb fk fs fp fd n u.1 (nI t) a1 u.2 a3 a4 a5 a6 a7)
    (fun t u => (u.1 = 0 ∨ u.1 = 1) ∧ (∀ r, r < t → u.2 (4 * y + r) = a2 (4 * x + r)) ∧ (∀ i, (i < 4 * y ∨ 4 * y + 4 ≤ i) → u.2 i = a2 i)) 4 0 (x6, a2) (by omega) ⟨h6, fun r hr => absurd hr (by omega), fun _ _ => rfl⟩ ?_ ?_
  · intro n ⟨d, b2⟩ ⟨g1, g2, g3⟩
    dsimp only at g1 g2 g3
    refine pk_le 4 4 (fun _ => ⟨?_, H d b2 g1 g2 g3⟩) (fun z => absurd z (by omega))
    dsimp only
    rcases g1 with e | e <;> rw [e] <;> rfl
  · intro n t ⟨d, b2⟩ ht ⟨g1, g2, g3⟩ hw
    dsimp only at g1 g2 g3
    have e1 : (4 * nI x + nI t : Int32) = nI (4 * x + t) := qv_ix 4 x t
    have e2 : (4 * nI y + nI t : Int32) = nI (4 * y + t) := qv_ix 4 y t
    have st : ∀ d' : Int32, (d' = 0 ∨ d' = 1) → wX_copyAction_91 post (wX_copyAction_55 post (nI x) (nI y) fb fk fs fp fd n) (nI x) (nI y) d' (nI t) fb fk fs fp fd a1 b2 a3 a4 a5 a6 a7 := by
      intro d' hd
      refine ⟨pk_in (4 * x + t) 32 (by omega) e1, pk_in (4 * y + t) 32 (by omega) e2, fun c2 ec => nm_r (nI_1 t) ?_⟩
      rw [e1, e2, nI_clamp (show 4 * x + t < 2 ^ 31 by omega), nI_clamp (show 4 * y + t < 2 ^ 31 by omega), g3 (4 * x + t) (by omega), qv_small (ok t ht).1 (ok t ht).2] at ec
      rw [ec]
      refine hw (d', upd b2 (4 * y + t) (a2 (4 * x + t))) ⟨hd, fun r hr => ?_, fun i hi => ?_⟩
      · dsimp only
        by_cases z : r = t
        · rw [z, pk_us]
        · rw [pk_un (by omega)]
          exact g2 r (by omega)
      · dsimp only
        rw [pk_un (by omega)]
        exact g3 i hi
    refine pk_le 4 t (fun z => absurd z (by omega)) (fun _ => ⟨pk_in (4 * x + t) 32 (by omega) e1, pk_in (4 * y + t) 32 (by omega) e2, br_c (fun _ => st d g1) (fun _ => st 1 (Or.inr rfl))⟩)
/-- row j of one process is row i of the other -/
def qv_row (a1 a2 b1 b2 : Nat → Int32) (j i : Nat) : Prop := b1 j = a1 i ∧ ∀ t, t < 4 → b2 (4 * j + t) = a2 (4 * i + t)
theorem qw_copy {f t : Nat} (ok : qv_OK a1 a2) (hs : s < 4) (hf : f < 2) (ht : t < 2) (hn : f ≠ t)
    (H : ∀ d b1 b2, (d = 0 ∨ d = 1) → qv_row a1 a2 b1 b2 (2 * s + t) (2 * s + f) → (∀ j, j < 8 → j ≠ 2 * s + t → qv_row a1 a2 b1 b2 j j) → post d (fb, fk, fs, fp, fd, b1, b2, a3, a4, a5, a6, a7)) :
    wpX_copyAction post (fb, fk, fs, fp, fd, a1, a2, a3, a4, a5, a6, a7) (nI s) (nI f) (nI t) := by
  have r1 := ok.1 (2 * s + f) (by omega)
  have r2 := ok.2 (2 * s + f) (by omega)
  have rb : ∀ t, t < 4 → -20 ≤ (a2 (4 * (2 * s + f) + t)).toInt ∧ (a2 (4 * (2 * s + f) + t)).toInt ≤ 20 := by
    unfold qm_row qv_S at r2
    exact fun t ht => co_4 (P := fun t => -20 ≤ (a2 (4 * (2 * s + f) + t)).toInt ∧ (a2 (4 * (2 * s + f) + t)).toInt ≤ 20) (by omega) (by omega) (by omega) (by omega) ht
  unfold wpX_copyAction
  dsimp only
  refine nm_r (qv_ix 2 s f) (nm_r (qv_ix 2 s t) ⟨pk_in (2 * s + f) 8 (by omega), pk_in (2 * s + t) 8 (by omega), ?_⟩)
  have st : ∀ z0 : Int32, (z0 = 0 ∨ z0 = 1) → wX_copyAction_36 post (nI (2 * s + f)) (nI (2 * s + t)) z0 fb fk fs fp fd a1 a2 a3 a4 a5 a6 a7 := by
    intro z0 hz
    refine ⟨pk_in (2 * s + f) 8 (by omega), pk_in (2 * s + t) 8 (by omega), fun b1 e => ?_⟩
    rw [nI_clamp (show 2 * s + f < 2 ^ 31 by omega), nI_clamp (show 2 * s + t < 2 ^ 31 by omega), qv_small r1.1 r1.2] at e
    refine qw_copy55 (by omega) (by omega) (by omega) rb hz (fun d b2 hd h1 h2 => H d b1 b2 hd ⟨?_, h1⟩ (fun j hj hn => ⟨?_, fun t ht => h2 _ (by omega)⟩))
    · rw [e, pk_us]
    · rw [e, pk_un hn]
  exact br_c (fun _ => st 0 (Or.inl rfl)) (fun _ => st 1 (Or.inr rfl))
end
end
section
theorem qv_row_tr {a1 a2 b1 b2 c1 c2 : Nat → Int32} {i j k : Nat} (h : qv_row a1 a2 b1 b2 j i) (g : qv_row b1 b2 c1 c2 k j) : qv_row a1 a2 c1 c2 k i :=
  ⟨g.1.trans h.1, fun t ht => (g.2 t ht).trans (h.2 t ht)⟩
theorem qv_row_gain {a1 a2 b1 b2 : Nat → Int32} {i j : Nat} (h : qv_row a1 a2 b1 b2 j i) (T : Nat → Int) (D : Int) : qm_gain (qv_R b1) (qv_S b2) T D j = qm_gain (qv_R a1) (qv_S a2) T D i := by
  unfold qm_gain qm_dot qv_R qv_S
  rw [h.1, h.2 0 (by decide), h.2 1 (by decide), h.2 2 (by decide), h.2 3 (by decide)]
theorem qv_row_ok {a1 a2 b1 b2 : Nat → Int32} (ok : qv_OK a1 a2) (h : ∀ j, j < 8 → ∃ i, i < 8 ∧ qv_row a1 a2 b1 b2 j i) : qv_OK b1 b2 := by
  refine ⟨fun j hj => ?_, fun j hj => ?_⟩
  · obtain ⟨i, hi, r⟩ := h j hj
    have := ok.1 i hi
    unfold qv_R at this ⊢
    rw [r.1]
    exact this
  · obtain ⟨i, hi, r⟩ := h j hj
    have := ok.2 i hi
    unfold qm_row qv_S at this ⊢
    rw [r.2 0 (by decide), r.2 1 (by decide), r.2 2 (by decide), r.2 3 (by decide)]
    exact this
section
variable {fb fk : Int64} {fs fp : Int32} {fd : Int64} {a1 a2 b1 b2 : Nat → Int32} {a3 a4 a5 a6 : Nat → Int64} {a7 : Nat → Int32} {T : Nat → Int} {D : Int} {s a g n : Nat} {post : Int32 → St1 → Prop}
  {J8 : Int32 → Int32 → Int64 → Int64 → Int32 → Int32 → Int64 → (Nat → Int32) → (Nat → Int32) → (Nat → Int64) → (Nat → Int64) → (Nat → Int64) → (Nat → Int64) → (Nat → Int32) → Prop}
theorem qw_prSkip {x1 : Int32} (hs : s < 4) (ha : a < 2) (h7 : a7 s = nI g) (h4 : g < 4) (hg : ¬ g / 2 ^ a % 2 = 0)
    (H : wX_prune_15 post J8 (nI s) n x1 (nI (a + 1)) fb fk fs fp fd b1 b2 a3 a4 a5 a6 a7) : wX_prune_15 post J8 (nI s) (n + 1) x1 (nI a) fb fk fs fp fd b1 b2 a3 a4 a5 a6 a7 := by
  refine pk_le 2 a (fun z => absurd z (by omega)) (fun _ => ⟨pk_in s 4 hs, ?_⟩)
  rw [nI_clamp (by omega), h7, qv_bit g (by omega) a (by omega)]
  exact pk_eq (g / 2 ^ a % 2) 0 (fun z => absurd z hg) (fun _ => nm_r (nI_1 a) H)
theorem qw_prCopy {c : Nat} (ok : qv_OK b1 b2) (hs : s < 4) (ha : a < 2) (h7 : a7 s = nI g) (h4 : g < 4) (hg : g / 2 ^ a % 2 = 0)
    (H : ∀ c' c1 c2, (c' = c ∨ c' = c + 1) → qv_row b1 b2 c1 c2 (2 * s + a) (2 * s + (1 - a)) → (∀ j, j < 8 → j ≠ 2 * s + a → qv_row b1 b2 c1 c2 j j) → wX_prune_15 post J8 (nI s) n (nI c') (nI (a + 1)) fb fk fs fp fd c1 c2 a3 a4 a5 a6 a7) :
    wX_prune_15 post J8 (nI s) (n + 1) (nI c) (nI a) fb fk fs fp fd b1 b2 a3 a4 a5 a6 a7 := by
  refine pk_le 2 a (fun z => absurd z (by omega)) (fun _ => ⟨pk_in s 4 hs, ?_⟩)
  rw [nI_clamp (by omega), h7, qv_bit g (by omega) a (by omega)]
  refine pk_eq (g / 2 ^ a % 2) 0 (fun _ => ?_) (fun z => absurd hg z)
  rw [show (1 : Int32) - nI a = nI (1 - a) from pk_sub (a := 1) (by omega)]
  refine qw_copy ok hs (by omega) ha (by omega) (fun d c1 c2 hd h1 h2 => ?_)
  exact br_c (fun _ => nm_r (nI_1 a) (H c c1 c2 (Or.inl rfl) h1 h2)) (fun _ => nm_r (nI_1 c) (nm_r (nI_1 a) (H (c + 1) c1 c2 (Or.inr rfl) h1 h2)))
theorem qw_prEnd {x1 : Int32} (H : J8 x1 (nI (s + 1)) fb fk fs fp fd b1 b2 a3 a4 a5 a6 a7) : wX_prune_15 post J8 (nI s) (n + 1) x1 (nI 2) fb fk fs fp fd b1 b2 a3 a4 a5 a6 a7 :=
  pk_le 2 2 (fun _ => nm_r (nI_1 s) H) (fun z => absurd z (by omega))
theorem qw_prune15 {c : Nat} (ok : qv_OK b1 b2) (hs : s < 4) (h7 : a7 s = nI g) (h4 : g < 4) (h0 : 0 < g)
    (H : ∀ c' c1 c2, (c' = c ∨ (c' = c + 1 ∧ g ≠ 3)) → (∀ j, j < 8 → j ≠ 2 * s → j ≠ 2 * s + 1 → qv_row b1 b2 c1 c2 j j) → (∀ a, a < 2 → ∃ a', a' < 2 ∧ qv_row b1 b2 c1 c2 (2 * s + a) (2 * s + a') ∧ ¬ g / 2 ^ a' % 2 = 0) →
      J8 (nI c') (nI (s + 1)) fb fk fs fp fd c1 c2 a3 a4 a5 a6 a7) :
    ∃ n, wX_prune_15 post J8 (nI s) n (nI c) 0 fb fk fs fp fd b1 b2 a3 a4 a5 a6 a7 := by
  have rr : ∀ j, qv_row b1 b2 b1 b2 j j := fun j => ⟨rfl, fun _ _ => rfl⟩
  refine ⟨3, ?_⟩
  rcases (show g = 1 ∨ g = 2 ∨ g = 3 by omega) with e | e | e
  · subst e
    refine qw_prSkip (a := 0) hs (by decide) h7 h4 (by decide) (qw_prCopy (a := 1) ok hs (by decide) h7 h4 (by decide) (fun c' c1 c2 h1 h2 h3 => qw_prEnd (H c' c1 c2 (by omega) (fun j hj _ n1 => h3 j hj n1) ?_)))
    exact fun a ha => co_2 (P := fun a => ∃ a', a' < 2 ∧ qv_row b1 b2 c1 c2 (2 * s + a) (2 * s + a') ∧ ¬ 1 / 2 ^ a' % 2 = 0) ⟨0, by decide, h3 _ (by omega) (by omega), by decide⟩ ⟨0, by decide, h2, by decide⟩ ha
  · subst e
    refine qw_prCopy (a := 0) ok hs (by decide) h7 h4 (by decide) (fun c' c1 c2 h1 h2 h3 => qw_prSkip (a := 1) hs (by decide) h7 h4 (by decide) (qw_prEnd (H c' c1 c2 (by omega) (fun j hj n0 _ => h3 j hj n0) ?_)))
    exact fun a ha => co_2 (P := fun a => ∃ a', a' < 2 ∧ qv_row b1 b2 c1 c2 (2 * s + a) (2 * s + a') ∧ ¬ 2 / 2 ^ a' % 2 = 0) ⟨1, by decide, h2, by decide⟩ ⟨1, by decide, h3 _ (by omega) (by omega), by decide⟩ ha
  · subst e
    refine qw_prSkip (a := 0) hs (by decide) h7 h4 (by decide) (qw_prSkip (a := 1) hs (by decide) h7 h4 (by decide) (qw_prEnd (H c b1 b2 (Or.inl rfl) (fun j _ _ _ => rr j) ?_)))
    exact fun a ha => co_2 (P := fun a => ∃ a', a' < 2 ∧ qv_row b1 b2 b1 b2 (2 * s + a) (2 * s + a') ∧ ¬ 3 / 2 ^ a' % 2 = 0) ⟨0, by decide, rr _, by decide⟩ ⟨1, by decide, rr _, by decide⟩ ha
theorem qw_prune (ok : qv_OK a1 a2) (hf : ¬ fs = 0) (h : qv_Sol a1 a2 T D fd a6 a7)
    (H : ∀ c b1 b2, c ≤ 4 → ((∀ r, r < 4 → qm_code (qv_R a1) (qv_S a2) T D r = 3) → c = 0) → qv_OK b1 b2 → (∀ r, r < 4 → ∀ a, a < 2 → qm_gain (qv_R b1) (qv_S b2) T D (2 * r + a) = 8 * T r) →
      post (nI c) (fb, fk, 0, fp, fd, b1, b2, a3, a4, a5, a6, a7)) :
    wpX_prune post (fb, fk, fs, fp, fd, a1, a2, a3, a4, a5, a6, a7) := by
  unfold wpX_prune
  dsimp only
  refine qw_solved hf ?_
  have rows : ∀ (s : Nat) (b1 b2 : Nat → Int32), (∀ r, r < s → ∀ a, a < 2 → ∃ a', a' < 2 ∧ qv_row a1 a2 b1 b2 (2 * r + a) (2 * r + a') ∧ qm_gain (qv_R a1) (qv_S a2) T D (2 * r + a') = 8 * T r) → (∀ r, s ≤ r → r < 4 → ∀ a, a < 2 → qv_row a1 a2 b1 b2 (2 * r + a) (2 * r + a)) → qv_OK b1 b2 := by
    intro s b1 b2 h1 h2
    refine qv_row_ok ok (fun j hj => ?_)
    have ej : j = 2 * (j / 2) + j % 2 := by omega
    by_cases z : j / 2 < s
    · obtain ⟨a', ha, r, _⟩ := h1 (j / 2) z (j % 2) (by omega)
      rw [← ej] at r
      exact ⟨_, by omega, r⟩
    · have r := h2 (j / 2) (by omega) (by omega) (j % 2) (by omega)
      rw [← ej] at r
      exact ⟨j, hj, r⟩
  refine pk_loop (σ := Nat × (Nat → Int32) × (Nat → Int32)) (fun n s u => wX_prune_8 post n (nI u.1) (nI s) fb fk fs fp fd u.2.1 u.2.2 a3 a4 a5 a6 a7)
    (fun s u => u.1 ≤ s ∧ ((∀ r, r < s → qm_code (qv_R a1) (qv_S a2) T D r = 3) → u.1 = 0) ∧
      (∀ r, r < s → ∀ a, a < 2 → ∃ a', a' < 2 ∧ qv_row a1 a2 u.2.1 u.2.2 (2 * r + a) (2 * r + a') ∧ qm_gain (qv_R a1) (qv_S a2) T D (2 * r + a') = 8 * T r) ∧
      (∀ r, s ≤ r → r < 4 → ∀ a, a < 2 → qv_row a1 a2 u.2.1 u.2.2 (2 * r + a) (2 * r + a)))
    4 0 (0, a1, a2) (by omega) ⟨Nat.le_refl 0, fun _ => rfl, fun r hr => absurd hr (by omega), fun _ _ _ _ _ => ⟨rfl, fun _ _ => rfl⟩⟩ ?_ ?_
  · intro n ⟨c, b1, b2⟩ ⟨g1, g2, g3, g4⟩
    dsimp only at g1 g2 g3 g4
    refine pk_le 4 4 (fun _ => H c b1 b2 g1 g2 (rows 4 b1 b2 g3 g4) (fun r hr a ha => ?_)) (fun z => absurd z (by omega))
    obtain ⟨a', _, q, e⟩ := g3 r hr a ha
    rw [qv_row_gain q]
    exact e
  · intro n s ⟨c, b1, b2⟩ hs ⟨g1, g2, g3, g4⟩ hw
    dsimp only at g1 g2 g3 g4
    have c0 : 0 < qm_code (qv_R a1) (qv_S a2) T D s := by
      obtain ⟨_, _, p, e⟩ := h.1
      exact qm_code_0 e hs
    refine pk_le 4 s (fun z => absurd z (by omega)) (fun _ => ?_)
    refine qw_prune15 (rows s b1 b2 g3 g4) hs (h.2.2.2.2.2 s hs) (qm_code_lt _ _ _ _ s) c0 (fun c' c1 c2 k1 k2 k3 => hw (c', c1, c2) ⟨?_, fun k => ?_, fun r hr a ha => ?_, fun r hr h4 a ha => ?_⟩)
    · dsimp only
      omega
    · dsimp only
      have z := g2 (fun r hr => k r (by omega))
      have z3 := k s (by omega)
      omega
    · dsimp only
      by_cases z : r = s
      · subst z
        obtain ⟨a', h2, q, e⟩ := k3 a ha
        exact ⟨a', h2, qv_row_tr (g4 r (by omega) hs a' h2) q, qm_code_ta h2 e⟩
      · obtain ⟨a', h2, q, e⟩ := g3 r (by omega) a ha
        exact ⟨a', h2, qv_row_tr q (k2 _ (by omega) (by omega) (by omega)), e⟩
    · dsimp only
      exact qv_row_tr (g4 r (by omega) h4 a ha) (k2 _ (by omega) (by omega) (by omega))
end
/-! the constructor -/
def qv_i (c i : Nat) : Int32 := if i / 4 < c ∧ i % 4 = i / 8 then 4 else 0
theorem qv_i8 : ∀ j, j < 8 → 0 ≤ (qv_i 8 (4 * j + 0)).toInt ∧ 0 ≤ (qv_i 8 (4 * j + 1)).toInt ∧ 0 ≤ (qv_i 8 (4 * j + 2)).toInt ∧ 0 ≤ (qv_i 8 (4 * j + 3)).toInt ∧ (qv_i 8 (4 * j + 0)).toInt + (qv_i 8 (4 * j + 1)).toInt + (qv_i 8 (4 * j + 2)).toInt + (qv_i 8 (4 * j + 3)).toInt = 4 := by decide +kernel
theorem qw_init65 {post : St1 → Prop} {mc ms kc ks : Nat} {J58 : Int32 → (Nat → Int32) → (Nat → Int32) → (Nat → Int64) → (Nat → Int64) → (Nat → Int64) → (Nat → Int64) → (Nat → Int32) → Prop} {fb fk : Int64} {fs fp : Int32} {fd : Int64} {a1 a2 : Nat → Int32} {a3 a4 a5 a6 : Nat → Int64} {a7 : Nat → Int32} {s : Nat} (hs : s < 4)
    (h : ∀ i, i < 32 → a2 i = qv_i (2 * s) i) (H : ∀ b2, (∀ i, i < 32 → b2 i = qv_i (2 * (s + 1)) i) → J58 (nI (s + 1)) a1 b2 a3 a4 a5 a6 a7) :
    ∃ n, wX_init_65 post mc ms J58 (nI s) kc ks fb fk fs fp fd n 0 a1 a2 a3 a4 a5 a6 a7 := by
  refine pk_loop (fun n a b2 => wX_init_65 post mc ms J58 (nI s) kc ks fb fk fs fp fd n (nI a) a1 b2 a3 a4 a5 a6 a7) (fun a b2 => ∀ i, i < 32 → b2 i = qv_i (2 * s + a) i) 2 0 a2 (by omega) h ?_ ?_
  · intro n b2 g
    exact pk_le 2 2 (fun _ => nm_r (nI_1 s) (H b2 g)) (fun z => absurd z (by omega))
  · intro n a b2 ha g hw
    have e : (4 * (2 * nI s + nI a) + nI s : Int32) = nI (4 * (2 * s + a) + s) := by
      rw [show (2 * nI s + nI a : Int32) = nI (2 * s + a) from qv_ix 2 s a]
      exact qv_ix 4 _ s
    refine pk_le 2 a (fun z => absurd z (by omega)) (fun _ => ⟨pk_in (4 * (2 * s + a) + s) 32 (by omega) e, fun c2 ec => nm_r (nI_1 a) ?_⟩)
    rw [e, nI_clamp (show 4 * (2 * s + a) + s < 2 ^ 31 by omega)] at ec
    rw [ec]
    refine hw _ (fun i hi => ?_)
    by_cases z : i = 4 * (2 * s + a) + s
    · rw [z, pk_us]
      unfold qv_i
      rw [if_pos ⟨by omega, by rcases (show s = 0 ∨ s = 1 ∨ s = 2 ∨ s = 3 by omega) with e | e | e | e <;> subst e <;> omega⟩]
    · rw [pk_un z, g i hi]
      unfold qv_i
      by_cases y : i / 4 < 2 * s + a ∧ i % 4 = i / 8
      · rw [if_pos y, if_pos ⟨by omega, y.2⟩]
      · rw [if_neg y, if_neg (by omega)]
theorem qw_init {post : St1 → Prop} (H : ∀ b2, qv_OK (fun _ => 0) b2 → post (0, 0, 0, 0, 0, fun _ => 0, b2, fun _ => 0, fun _ => 0, fun _ => 0, fun _ => 0, fun _ => 0)) : wpX_init post 7 76 (0, 0, 0, 0, 0) := by
  unfold wpX_init
  dsimp only
  refine ⟨by decide, by decide, by decide, by decide, by decide, by decide, by decide, by decide, by decide, by decide, by decide, by decide, by decide, by decide, ?_⟩
  refine pk_loop (fun n s b2 => wX_init_58 post 7 76 7 76 0 0 0 0 0 n (nI s) (fun _ => 0) b2 (fun _ => 0) (fun _ => 0) (fun _ => 0) (fun _ => 0) (fun _ => 0)) (fun s b2 => ∀ i, i < 32 → b2 i = qv_i (2 * s) i) 4 0 (fun _ => 0) (by omega) (fun i _ => ?_) ?_ ?_
  · unfold qv_i
    rw [if_neg (by omega)]
  · intro n b2 g
    refine pk_le 4 4 (fun _ => H b2 ⟨fun _ _ => (show -20 ≤ (0 : Int32).toInt ∧ (0 : Int32).toInt ≤ 20 by decide), fun j hj => ?_⟩) (fun z => absurd z (by omega))
    have k := qv_i8 j hj
    unfold qm_row qv_S
    rw [g _ (by omega), g _ (by omega), g _ (by omega), g _ (by omega)]
    exact k
  · intro n s b2 hs g hw
    exact pk_le 4 s (fun z => absurd z (by omega)) (fun _ => qw_init65 hs g (fun c2 k => hw c2 k))
end
section
/-- what holds of the state between two calls -/
def qv_Inv (a1 a2 : Nat → Int32) (fs : Int32) (fd : Int64) (a6 : Nat → Int64) (a7 : Nat → Int32) : Prop := qv_OK a1 a2 ∧ (fs = 0 ∨ ∃ T D, qv_Sol a1 a2 T D fd a6 a7)
theorem qm_pc16 {f : Nat → Nat} (h : ∀ r, r < 4 → f r = 3) : qm_pc f 4 = 16 := by
  simp only [qm_pc]
  rw [if_pos (h 3 (by decide)), if_pos (h 2 (by decide)), if_pos (h 1 (by decide)), if_pos (h 0 (by decide))]
section
variable {fb fk : Int64} {fs fp : Int32} {fd : Int64} {a1 a2 : Nat → Int32} {a3 a4 a5 a6 : Nat → Int64} {a7 : Nat → Int32} {post : Int32 → Prop} {L k kc ks : Nat} {xs : Nat → Int32}
  {J : Int32 → Int64 → Int64 → Int32 → Int32 → Int64 → (Nat → Int32) → (Nat → Int32) → (Nat → Int64) → (Nat → Int64) → (Nat → Int64) → (Nat → Int64) → (Nat → Int32) → Prop}
theorem qw_law301 (h : qv_Inv a1 a2 fs fd a6 a7) (H : ∀ gb gk gs gp gd b1 b2 b3 b4 b5 b6 b7, qv_Inv b1 b2 gs gd b6 b7 → J (nI (3 * (k + 1))) gb gk gs gp gd b1 b2 b3 b4 b5 b6 b7) :
    wL_law_301 post L xs J (nI (3 * k)) kc ks fb fk fs fp fd a1 a2 a3 a4 a5 a6 a7 := by
  unfold wL_law_301
  refine qw_holds h.1 h.2 (fun gb gk gs gp gd b3 b4 b5 b6 b7 T D hg hs => br_f (by decide) (nm_r (e' := nI (3 * (k + 1))) (nI_add (3 * k) 3) ?_))
  exact H _ _ _ _ _ _ _ _ _ _ _ _ ⟨h.1, Or.inr ⟨T, D, hs⟩⟩
theorem qw_law263 {s a : Nat} {x5 : Int32} (hs : s < 4) (ha : a < 2) (h : qv_Inv a1 a2 fs fd a6 a7) (H : ∀ gb gk gs gp gd b1 b2 b3 b4 b5 b6 b7, qv_Inv b1 b2 gs gd b6 b7 → J (nI (3 * (k + 1))) gb gk gs gp gd b1 b2 b3 b4 b5 b6 b7) :
    wL_law_263 post L xs J (nI (3 * k)) (nI s) (nI a) x5 kc ks fb fk fs fp fd a1 a2 a3 a4 a5 a6 a7 := by
  obtain ⟨n, hn, e⟩ := pk_andE x5 (m := 255) 8 (by decide)
  unfold wL_law_263
  rw [e, show nI n - nI n / 41 * 41 = nI (n % 41) from pk_rem (d := 41) (by omega) (by decide) (by decide)]
  refine ⟨by decide, qw_reward h.1 hs ha (Nat.mod_lt _ (by decide)) (fun b1 hb => br_f (by decide) ?_)⟩
  exact qw_law301 ⟨hb, Or.inl rfl⟩ H
end
theorem qw_new {b1 b2 : Nat → Int32} {T T' : Nat → Int} {D D' : Int} (ok : qv_OK b1 b2) (d0 : 0 < D) (bD : D.natAbs ≤ 98304) (bT : ∀ s, (T s).natAbs ≤ 15728640000)
    (g : ∀ r, r < 4 → ∀ a, a < 2 → qm_gain (qv_R b1) (qv_S b2) T D (2 * r + a) = 8 * T r) {gd : Int64} {b6 : Nat → Int64} {b7 : Nat → Int32} (h' : qv_Sol b1 b2 T' D' gd b6 b7) :
    (∀ s, s < 4 → qv_top (T' s) D' = qv_top (T s) D ∧ qv_bot (T' s) D' = qv_bot (T s) D) ∧ ∀ r, r < 4 → qm_code (qv_R b1) (qv_S b2) T' D' r = 3 := by
  have sol : qm_sol (qv_R b1) (qv_S b2) T D := ⟨d0, fun s hs a ha => Int.le_of_eq (g s hs a ha), 0, fun s hs => g s hs _ (Nat.mod_lt _ (by decide))⟩
  have u := qm_sol_uniq ok h'.1 sol
  have d0' := h'.1.1
  have bD' := h'.2.1
  have bT' := h'.2.2.1
  constructor
  · intro s hs
    have i := bT s
    have i' := bT' s
    exact qv_low d0' d0 (by omega) (by omega) (by omega) (by omega) (u s hs)
  · intro r hr
    unfold qm_code
    rw [if_pos ((qm_good_sc d0' d0 u _ r hr).mpr (g r hr 0 (by decide))), if_pos ((qm_good_sc d0' d0 u _ r hr).mpr (g r hr 1 (by decide)))]
theorem i_vc (xs : Nat → Int32) (L : Nat) (hL : L ≤ 260) : wpL_law (fun r => r = 1) L xs := by
  refine ⟨7, 76, by decide, by decide, qw_init (fun i2 hi => ?_)⟩
  refine pk_loop (σ := St1) (fun n k u => wL_law_10 (fun r => r = 1) L xs (1 + 7) (12 + 76) n (nI (3 * k)) u.1 u.2.1 u.2.2.1 u.2.2.2.1 u.2.2.2.2.1 u.2.2.2.2.2.1 u.2.2.2.2.2.2.1 u.2.2.2.2.2.2.2.1 u.2.2.2.2.2.2.2.2.1 u.2.2.2.2.2.2.2.2.2.1 u.2.2.2.2.2.2.2.2.2.2.1 u.2.2.2.2.2.2.2.2.2.2.2)
    (fun _ u => qv_Inv u.2.2.2.2.2.1 u.2.2.2.2.2.2.1 u.2.2.1 u.2.2.2.2.1 u.2.2.2.2.2.2.2.2.2.2.1 u.2.2.2.2.2.2.2.2.2.2.2) (L / 3) 0 (0, 0, 0, 0, 0, fun _ => 0, i2, fun _ => 0, fun _ => 0, fun _ => 0, fun _ => 0, fun _ => 0) (by omega) ⟨hi, Or.inl rfl⟩ ?_ ?_
  · intro n ⟨fb, fk, fs, fp, fd, a1, a2, a3, a4, a5, a6, a7⟩ h
    dsimp only at h
    refine br_t ?_ (qw_holds h.1 h.2 (fun _ _ _ _ _ _ _ _ _ _ _ _ _ _ => rfl))
    rw [Int32.lt_iff_toInt_lt, show (Int32.ofNat L - 3).toInt = (L : Int) - (3 : Nat) from pk_sub_toInt (a := L) (b := 3) (by omega) (by decide), nI_toInt (by omega)]
    omega
  · intro n k ⟨fb, fk, fs, fp, fd, a1, a2, a3, a4, a5, a6, a7⟩ hk h hw
    dsimp only at h
    have H : ∀ gb gk gs gp gd b1 b2 b3 b4 b5 b6 b7, qv_Inv b1 b2 gs gd b6 b7 → wL_law_10 (fun r => r = 1) L xs (1 + 7) (12 + 76) n (nI (3 * (k + 1))) gb gk gs gp gd b1 b2 b3 b4 b5 b6 b7 :=
      fun gb gk gs gp gd b1 b2 b3 b4 b5 b6 b7 hh => hw (gb, gk, gs, gp, gd, b1, b2, b3, b4, b5, b6, b7) hh
    clear hw
    obtain ⟨s, hs, es⟩ := pk_andE (xs (nI (3 * k) + 1).toNatClampNeg) (m := 3) 2 (by decide)
    obtain ⟨a, ha, ea⟩ := pk_andE (xs (nI (3 * k) + 1).toNatClampNeg >>> ((2 : Int32) &&& 31)) (m := 1) 1 (by decide)
    obtain ⟨j, hj, ej⟩ := pk_andE (xs (nI (3 * k)).toNatClampNeg) (m := 7) 3 (by decide)
    refine br_f ?_ ⟨pk_in (3 * k + 1) L (by omega) (nI_1 _), nm_r es ⟨pk_in (3 * k + 1) L (by omega) (nI_1 _), nm_r ea ⟨pk_in (3 * k + 2) L (by omega) (nI_add (3 * k) 2), nm_e (qw_lawShares (fun p q r hq => ⟨pk_in (3 * k) L (by omega), nm_r ej ?_⟩))⟩⟩⟩
    · rw [Int32.lt_iff_toInt_lt, show (Int32.ofNat L - 3).toInt = (L : Int) - (3 : Nat) from pk_sub_toInt (a := L) (b := 3) (by omega) (by decide), nI_toInt (by omega)]
      omega
    dsimp only
    refine br_f (nI_pos (by omega)) (pk_lt 3 j (fun _ => ?_) (fun _ => pk_eq j 0 (fun _ => ?_) (fun _ => pk_eq j 1 (fun _ => qw_law263 hs ha h H) (fun _ => pk_eq j 2 (fun _ => qw_law263 hs ha h H) (fun _ => pk_eq j 3 (fun _ => qw_law263 hs ha h H) (fun _ => trivial))))))
    · exact qw_shares h.1 hs ha hq (fun b2 hb => br_f (by decide) (qw_law301 ⟨hb, Or.inl rfl⟩ H))
    · refine qw_bestTopI (s := 0) h.1 h.2 (by decide) (fun gb gs gp gd b3 b4 b6 b7 T D hg hS => ?_)
      dsimp only
      have d0 := hS.1.1
      have bD := hS.2.1
      have bT := hS.2.2.1
      refine qw_bestTop (s := 1) hg hS (by decide) ?_
      dsimp only
      refine qw_bestTop (s := 2) hg hS (by decide) ?_
      dsimp only
      refine qw_bestTop (s := 3) hg hS (by decide) ?_
      dsimp only
      refine qw_bestBottom (s := 0) hg hS (by decide) ?_
      dsimp only
      refine qw_bestBottom (s := 1) hg hS (by decide) ?_
      dsimp only
      refine qw_bestBottom (s := 2) hg hS (by decide) ?_
      dsimp only
      refine qw_bestBottom (s := 3) hg hS (by decide) ?_
      dsimp only
      refine qw_prune h.1 hg hS (fun c c1 c2 hc _ okc hgain => ?_)
      dsimp only
      refine br_f (nI_pos (by omega)) (pk_lt 4 c (fun z => absurd z (by omega)) (fun _ => ?_))
      refine qw_bestTopI (s := 0) okc (Or.inl rfl) (by decide) (fun vb vs vp vd v3 v4 v6 v7 T' D' hv hV => ?_)
      dsimp only
      obtain ⟨low, three⟩ := qw_new okc d0 bD bT hgain hV
      refine br_t (low 0 (by decide)).1 ?_
      refine qw_bestTop (s := 1) hv hV (by decide) ?_
      dsimp only
      refine br_t (low 1 (by decide)).1 ?_
      refine qw_bestTop (s := 2) hv hV (by decide) ?_
      dsimp only
      refine br_t (low 2 (by decide)).1 ?_
      refine qw_bestTop (s := 3) hv hV (by decide) ?_
      dsimp only
      refine br_t (low 3 (by decide)).1 ?_
      refine qw_bestBottom (s := 0) hv hV (by decide) ?_
      dsimp only
      refine br_t (low 0 (by decide)).2 ?_
      refine qw_bestBottom (s := 1) hv hV (by decide) ?_
      dsimp only
      refine br_t (low 1 (by decide)).2 ?_
      refine qw_bestBottom (s := 2) hv hV (by decide) ?_
      dsimp only
      refine br_t (low 2 (by decide)).2 ?_
      refine qw_bestBottom (s := 3) hv hV (by decide) ?_
      dsimp only
      refine br_t (low 3 (by decide)).2 ?_
      refine qw_policies hv hV ?_
      dsimp only
      rw [qm_pc16 three]
      refine br_t rfl ?_
      refine qw_prune okc hv hV (fun c' d1 d2 _ hc' okd _ => ?_)
      dsimp only
      rw [hc' three]
      exact br_t rfl (qw_law301 ⟨okd, Or.inl rfl⟩ H)
end
