section
/-! signs of products -/
theorem sg_pp {a b : Int} (ha : 0 < a) (hb : 0 < b) : 0 < a * b := Int.mul_pos ha hb
theorem sg_p0 {a b : Int} (ha : 0 ≤ a) (hb : 0 ≤ b) : 0 ≤ a * b := Int.mul_nonneg ha hb
theorem sg_0n {a b : Int} (ha : 0 ≤ a) (hb : b ≤ 0) : a * b ≤ 0 := by
  have h := Int.mul_nonneg ha (show 0 ≤ -b by omega)
  rw [Int.mul_neg] at h; omega
theorem sg_n0 {a b : Int} (ha : a ≤ 0) (hb : 0 ≤ b) : a * b ≤ 0 := by
  rw [Int.mul_comm]; exact sg_0n hb ha
theorem sg_00 {a b : Int} (ha : a ≤ 0) (hb : b ≤ 0) : 0 ≤ a * b := by
  have h := Int.mul_nonneg (show 0 ≤ -a by omega) (show 0 ≤ -b by omega)
  rw [Int.neg_mul_neg] at h; exact h
theorem sg_pn {a b : Int} (ha : 0 < a) (hb : b < 0) : a * b < 0 := by
  have h := Int.mul_pos ha (show 0 < -b by omega)
  rw [Int.mul_neg] at h; omega
theorem sg_np {a b : Int} (ha : a < 0) (hb : 0 < b) : a * b < 0 := by
  rw [Int.mul_comm]; exact sg_pn hb ha
theorem sg_nn {a b : Int} (ha : a < 0) (hb : b < 0) : 0 < a * b := by
  have h := Int.mul_pos (show 0 < -a by omega) (show 0 < -b by omega)
  rw [Int.neg_mul_neg] at h; exact h
theorem sg_cp {a b : Int} (ha : 0 < a) (h : 0 < a * b) : 0 < b :=
  Int.not_le.mp fun hb => by have := sg_0n (Int.le_of_lt ha) hb; omega
theorem sg_c0 {a b : Int} (ha : 0 < a) (h : 0 ≤ a * b) : 0 ≤ b :=
  Int.not_lt.mp fun hb => by have := sg_pn ha hb; omega
theorem sg_cn {a b : Int} (ha : 0 < a) (h : a * b < 0) : b < 0 :=
  Int.not_le.mp fun hb => by have := sg_p0 (Int.le_of_lt ha) hb; omega
theorem sg_cm {a b : Int} (ha : 0 < a) (h : a * b ≤ 0) : b ≤ 0 :=
  Int.not_lt.mp fun hb => by have := sg_pp ha hb; omega
theorem sg_cz {a b : Int} (ha : 0 < a) (h : a * b = 0) : b = 0 := by
  have h1 := sg_c0 ha (Int.le_of_eq h.symm)
  have h2 := sg_cm ha (Int.le_of_eq h)
  omega
/-- the same with a factor below nothing -/
theorem sg_dp {a b : Int} (ha : a < 0) (h : 0 < a * b) : b < 0 :=
  Int.not_le.mp fun hb => by have := sg_n0 (Int.le_of_lt ha) hb; omega
theorem sg_d0 {a b : Int} (ha : a < 0) (h : 0 ≤ a * b) : b ≤ 0 :=
  Int.not_lt.mp fun hb => by have := sg_np ha hb; omega
theorem sg_dn {a b : Int} (ha : a < 0) (h : a * b < 0) : 0 < b :=
  Int.not_le.mp fun hb => by have := sg_00 (Int.le_of_lt ha) hb; omega
theorem sg_dm {a b : Int} (ha : a < 0) (h : a * b ≤ 0) : 0 ≤ b :=
  Int.not_lt.mp fun hb => by have := sg_nn ha hb; omega
theorem sg_dz {a b : Int} (ha : a < 0) (h : a * b = 0) : b = 0 := by
  have h1 := sg_dm ha (Int.le_of_eq h)
  have h2 := sg_d0 ha (Int.le_of_eq h.symm)
  omega
theorem sg_z {a b : Int} (ha : a ≠ 0) (h : a * b = 0) : b = 0 := by
  rcases Int.lt_or_gt_of_ne ha with h1 | h1
  · exact sg_dz h1 h
  · exact sg_cz h1 h

/-! vectors of four ints: a point is (1, x, y, z) -/
abbrev hu_V : Type := Int × Int × Int × Int
def hu_l (l x : hu_V) : Int := l.1 * x.1 + l.2.1 * x.2.1 + l.2.2.1 * x.2.2.1 + l.2.2.2 * x.2.2.2
def hu_a (x y : hu_V) : hu_V := (x.1 + y.1, x.2.1 + y.2.1, x.2.2.1 + y.2.2.1, x.2.2.2 + y.2.2.2)
def hu_k (k : Int) (x : hu_V) : hu_V := (k * x.1, k * x.2.1, k * x.2.2.1, k * x.2.2.2)
def hu_w : hu_V := (1, 0, 0, 0)
def hu_3 (a b c d e f g h i : Int) : Int := a * (e * i - f * h) - b * (d * i - f * g) + c * (d * h - e * g)
def hu_c (a b c : hu_V) : hu_V :=
  (-(hu_3 a.2.1 a.2.2.1 a.2.2.2 b.2.1 b.2.2.1 b.2.2.2 c.2.1 c.2.2.1 c.2.2.2),
   hu_3 a.1 a.2.2.1 a.2.2.2 b.1 b.2.2.1 b.2.2.2 c.1 c.2.2.1 c.2.2.2,
   -(hu_3 a.1 a.2.1 a.2.2.2 b.1 b.2.1 b.2.2.2 c.1 c.2.1 c.2.2.2),
   hu_3 a.1 a.2.1 a.2.2.1 b.1 b.2.1 b.2.2.1 c.1 c.2.1 c.2.2.1)
def hu_d (a b c x : hu_V) : Int := hu_l (hu_c a b c) x
theorem hu_lw (x : hu_V) : hu_l hu_w x = x.1 := by simp only [hu_l, hu_w]; omega
theorem hu_la (l x y : hu_V) : hu_l l (hu_a x y) = hu_l l x + hu_l l y := by
  simp only [hu_l, hu_a]; grind
theorem hu_lk (l : hu_V) (k : Int) (x : hu_V) : hu_l l (hu_k k x) = k * hu_l l x := by
  simp only [hu_l, hu_k]; grind
theorem hu_al (l m x : hu_V) : hu_l (hu_a l m) x = hu_l l x + hu_l m x := by
  simp only [hu_l, hu_a]; grind
theorem hu_kl (k : Int) (l x : hu_V) : hu_l (hu_k k l) x = k * hu_l l x := by
  simp only [hu_l, hu_k]; grind
theorem hu_d12 (a b c x : hu_V) : hu_d b a c x = -hu_d a b c x := by
  simp only [hu_d, hu_l, hu_c, hu_3]; grind
theorem hu_d23 (a b c x : hu_V) : hu_d a c b x = -hu_d a b c x := by
  simp only [hu_d, hu_l, hu_c, hu_3]; grind
theorem hu_d34 (a b c x : hu_V) : hu_d a b x c = -hu_d a b c x := by
  simp only [hu_d, hu_l, hu_c, hu_3]; grind
theorem hu_dcy (a b c x : hu_V) : hu_d b c a x = hu_d a b c x := by
  rw [hu_d23 b a c x, hu_d12 a b c x, Int.neg_neg]
theorem hu_d24 (a b c x : hu_V) : hu_d a x c b = -hu_d a b c x := by
  rw [hu_d34 a x b c, hu_d23 a b x c, hu_d34 a b c x]; omega
theorem hu_dpq (a b c x : hu_V) : hu_d c x a b = hu_d a b c x := by
  simp only [hu_d, hu_l, hu_c, hu_3]; grind
theorem hu_z12 (a c x : hu_V) : hu_d a a c x = 0 := by have := hu_d12 a a c x; omega
theorem hu_z23 (a b x : hu_V) : hu_d a b b x = 0 := by have := hu_d23 a b b x; omega
theorem hu_z34 (a b c : hu_V) : hu_d a b c c = 0 := by have := hu_d34 a b c c; omega
theorem hu_z24 (a b c : hu_V) : hu_d a b c b = 0 := by rw [hu_d34 a b b c, hu_z23]; rfl
theorem hu_z13 (a b x : hu_V) : hu_d a b a x = 0 := by rw [hu_d23 a a b x, hu_z12]; rfl
theorem hu_z14 (a b c : hu_V) : hu_d a b c a = 0 := by rw [hu_d34 a b a c, hu_z13]; rfl
theorem hu_d4 (a b c x y : hu_V) : hu_d a b c (hu_a x y) = hu_d a b c x + hu_d a b c y := hu_la _ _ _
theorem hu_d4k (a b c : hu_V) (k : Int) (x : hu_V) : hu_d a b c (hu_k k x) = k * hu_d a b c x := hu_lk _ _ _
theorem hu_d3 (a b x y c : hu_V) : hu_d a b (hu_a x y) c = hu_d a b x c + hu_d a b y c := by
  rw [hu_d34 a b c (hu_a x y), hu_d4, hu_d34 a b x c, hu_d34 a b y c]; omega
theorem hu_d3k (a b : hu_V) (k : Int) (x c : hu_V) : hu_d a b (hu_k k x) c = k * hu_d a b x c := by
  rw [hu_d34 a b c (hu_k k x), hu_d4k, hu_d34 a b x c, Int.mul_neg]; omega
theorem hu_d2 (a x y b c : hu_V) : hu_d a (hu_a x y) b c = hu_d a x b c + hu_d a y b c := by
  rw [hu_d23 a b (hu_a x y) c, hu_d3, hu_d23 a x b c, hu_d23 a y b c]; omega
theorem hu_d2k (a : hu_V) (k : Int) (x b c : hu_V) : hu_d a (hu_k k x) b c = k * hu_d a x b c := by
  rw [hu_d23 a b (hu_k k x) c, hu_d3k, hu_d23 a x b c, Int.mul_neg]; omega
theorem hu_d1 (x y a b c : hu_V) : hu_d (hu_a x y) a b c = hu_d x a b c + hu_d y a b c := by
  rw [hu_d12 a (hu_a x y) b c, hu_d2, hu_d12 x a b c, hu_d12 y a b c]; omega
theorem hu_d1k (k : Int) (x a b c : hu_V) : hu_d (hu_k k x) a b c = k * hu_d x a b c := by
  rw [hu_d12 a (hu_k k x) b c, hu_d2k, hu_d12 x a b c, Int.mul_neg]; omega
/-- Cramer: five vectors of four ints -/
theorem hu_F1 (a b c p x : hu_V) :
    a.1 * hu_d b c p x - b.1 * hu_d a c p x + c.1 * hu_d a b p x - p.1 * hu_d a b c x + x.1 * hu_d a b c p = 0 := by
  simp only [hu_d, hu_l, hu_c, hu_3]; grind
theorem hu_F2 (a b c p x : hu_V) :
    a.2.1 * hu_d b c p x - b.2.1 * hu_d a c p x + c.2.1 * hu_d a b p x - p.2.1 * hu_d a b c x + x.2.1 * hu_d a b c p = 0 := by
  simp only [hu_d, hu_l, hu_c, hu_3]; grind
theorem hu_F3 (a b c p x : hu_V) :
    a.2.2.1 * hu_d b c p x - b.2.2.1 * hu_d a c p x + c.2.2.1 * hu_d a b p x - p.2.2.1 * hu_d a b c x + x.2.2.1 * hu_d a b c p = 0 := by
  simp only [hu_d, hu_l, hu_c, hu_3]; grind
theorem hu_F4 (a b c p x : hu_V) :
    a.2.2.2 * hu_d b c p x - b.2.2.2 * hu_d a c p x + c.2.2.2 * hu_d a b p x - p.2.2.2 * hu_d a b c x + x.2.2.2 * hu_d a b c p = 0 := by
  simp only [hu_d, hu_l, hu_c, hu_3]; grind
theorem hu_F5 (l a b c p x : hu_V) :
    hu_l l a * hu_d b c p x - hu_l l b * hu_d a c p x + hu_l l c * hu_d a b p x
      - hu_l l p * hu_d a b c x + hu_l l x * hu_d a b c p = 0 := by
  have h1 := hu_F1 a b c p x
  have h2 := hu_F2 a b c p x
  have h3 := hu_F3 a b c p x
  have h4 := hu_F4 a b c p x
  generalize hu_d b c p x = A at *
  generalize hu_d a c p x = B at *
  generalize hu_d a b p x = C at *
  generalize hu_d a b c x = D at *
  generalize hu_d a b c p = E at *
  simp only [hu_l]
  grind
/-- a functional that is nothing on a, b, c is a multiple of the plane a, b, c -/
theorem hu_prop {l a b c : hu_V} (ha : hu_l l a = 0) (hb : hu_l l b = 0) (hc : hu_l l c = 0) (x y : hu_V) :
    hu_l l x * hu_d a b c y = hu_l l y * hu_d a b c x := by
  have h := hu_F5 l a b c x y
  rw [ha, hb, hc, Int.zero_mul, Int.zero_mul, Int.zero_mul] at h
  omega
end
section
/-! sums of ints, indicators -/
def hs_s (f : Nat → Int) : Nat → Int
  | 0 => 0
  | n + 1 => hs_s f n + f n
noncomputable def hs_i (p : Prop) : Int := @ite Int p (Classical.propDecidable p) 1 0
theorem hs_it {p : Prop} (h : p) : hs_i p = 1 := by unfold hs_i; exact if_pos h
theorem hs_if {p : Prop} (h : ¬ p) : hs_i p = 0 := by unfold hs_i; exact if_neg h
theorem hs_i01 (p : Prop) : hs_i p = 0 ∨ hs_i p = 1 := by
  rcases Classical.em p with h | h
  · exact Or.inr (hs_it h)
  · exact Or.inl (hs_if h)
theorem hs_i0 (p : Prop) : 0 ≤ hs_i p := by rcases hs_i01 p with h | h <;> omega
theorem hs_i1 (p : Prop) : hs_i p ≤ 1 := by rcases hs_i01 p with h | h <;> omega
theorem hs_iff {p q : Prop} (h : p ↔ q) : hs_i p = hs_i q := by
  rcases Classical.em p with a | a
  · rw [hs_it a, hs_it (h.mp a)]
  · rw [hs_if a, hs_if (fun b => a (h.mpr b))]
theorem hs_iand (p q : Prop) : hs_i (p ∧ q) = hs_i p * hs_i q := by
  rcases Classical.em p with a | a
  · rcases Classical.em q with b | b
    · rw [hs_it a, hs_it b, hs_it ⟨a, b⟩]; rfl
    · rw [hs_it a, hs_if b, hs_if (fun c => b c.2)]; rfl
  · rw [hs_if a, hs_if (fun c => a c.1)]; omega
theorem hs_inot (p : Prop) : hs_i (¬ p) = 1 - hs_i p := by
  rcases Classical.em p with a | a
  · rw [hs_it a, hs_if (fun c => c a)]; rfl
  · rw [hs_if a, hs_it a]; rfl
theorem hs_s1 (f : Nat → Int) (n : Nat) : hs_s f (n + 1) = hs_s f n + f n := rfl
theorem hs_cg {f g : Nat → Int} : ∀ {n : Nat}, (∀ i, i < n → f i = g i) → hs_s f n = hs_s g n
  | 0, _ => rfl
  | n + 1, h => by
    rw [hs_s1, hs_s1, hs_cg (fun i hi => h i (Nat.lt_succ_of_lt hi)), h n (Nat.lt_succ_self n)]
theorem hs_add (f g : Nat → Int) : ∀ n, hs_s (fun i => f i + g i) n = hs_s f n + hs_s g n
  | 0 => rfl
  | n + 1 => by rw [hs_s1, hs_s1, hs_s1, hs_add f g n]; omega
theorem hs_sub (f g : Nat → Int) : ∀ n, hs_s (fun i => f i - g i) n = hs_s f n - hs_s g n
  | 0 => rfl
  | n + 1 => by rw [hs_s1, hs_s1, hs_s1, hs_sub f g n]; omega
theorem hs_mul (k : Int) (f : Nat → Int) : ∀ n, hs_s (fun i => k * f i) n = k * hs_s f n
  | 0 => by show (0 : Int) = k * 0; omega
  | n + 1 => by rw [hs_s1, hs_s1, hs_mul k f n, Int.mul_add]
theorem hs_mulr (k : Int) (f : Nat → Int) (n : Nat) : hs_s (fun i => f i * k) n = hs_s f n * k := by
  rw [Int.mul_comm, ← hs_mul]; exact hs_cg fun i _ => Int.mul_comm _ _
theorem hs_neg (f : Nat → Int) : ∀ n, hs_s (fun i => - f i) n = - hs_s f n
  | 0 => rfl
  | n + 1 => by rw [hs_s1, hs_s1, hs_neg f n]; omega
theorem hs_0 {f : Nat → Int} : ∀ {n : Nat}, (∀ i, i < n → f i = 0) → hs_s f n = 0
  | 0, _ => rfl
  | n + 1, h => by
    rw [hs_s1, hs_0 (fun i hi => h i (Nat.lt_succ_of_lt hi)), h n (Nat.lt_succ_self n)]; rfl
theorem hs_nn {f : Nat → Int} : ∀ {n : Nat}, (∀ i, i < n → 0 ≤ f i) → 0 ≤ hs_s f n
  | 0, _ => Int.le_refl 0
  | n + 1, h => by
    have a := hs_nn (fun i hi => h i (Nat.lt_succ_of_lt hi))
    have b := h n (Nat.lt_succ_self n)
    rw [hs_s1]; omega
theorem hs_le {f g : Nat → Int} : ∀ {n : Nat}, (∀ i, i < n → f i ≤ g i) → hs_s f n ≤ hs_s g n
  | 0, _ => Int.le_refl 0
  | n + 1, h => by
    have a := hs_le (fun i hi => h i (Nat.lt_succ_of_lt hi))
    have b := h n (Nat.lt_succ_self n)
    rw [hs_s1, hs_s1]; omega
/-- one term is at most the sum, if none is below nothing -/
theorem hs_ge {f : Nat → Int} {k : Nat} : ∀ {n : Nat}, (∀ i, i < n → 0 ≤ f i) → k < n → f k ≤ hs_s f n
  | 0, _, hk => absurd hk (Nat.not_lt_zero k)
  | n + 1, h, hk => by
    rw [hs_s1]
    have b := h n (Nat.lt_succ_self n)
    rcases Nat.lt_or_ge k n with c | c
    · have a := hs_ge (fun i hi => h i (Nat.lt_succ_of_lt hi)) c
      omega
    · have e : k = n := by omega
      have a := hs_nn (fun i hi => h i (Nat.lt_succ_of_lt hi))
      rw [e]; omega
theorem hs_ex {f : Nat → Int} : ∀ {n : Nat}, 0 < hs_s f n → ∃ i, i < n ∧ 0 < f i
  | 0, h => absurd h (by show ¬ (0 : Int) < 0; omega)
  | n + 1, h => by
    rw [hs_s1] at h
    rcases Int.lt_or_le 0 (f n) with c | c
    · exact ⟨n, Nat.lt_succ_self n, c⟩
    · obtain ⟨i, hi, hf⟩ := hs_ex (n := n) (f := f) (by omega)
      exact ⟨i, Nat.lt_succ_of_lt hi, hf⟩
theorem hs_one {f : Nat → Int} {k : Nat} : ∀ {n : Nat}, k < n → (∀ i, i < n → i ≠ k → f i = 0) → hs_s f n = f k
  | 0, hk, _ => absurd hk (Nat.not_lt_zero k)
  | n + 1, hk, h => by
    rw [hs_s1]
    rcases Nat.lt_or_ge k n with c | c
    · rw [hs_one c (fun i hi => h i (Nat.lt_succ_of_lt hi)), h n (Nat.lt_succ_self n) (by omega)]; omega
    · have e : k = n := by omega
      rw [e, hs_0 (fun i hi => h i (Nat.lt_succ_of_lt hi) (by omega))]; omega
theorem hs_swap (f : Nat → Nat → Int) (m : Nat) : ∀ n, hs_s (fun i => hs_s (fun j => f i j) m) n = hs_s (fun j => hs_s (fun i => f i j) n) m
  | 0 => (hs_0 fun _ _ => rfl).symm
  | n + 1 => by
    rw [hs_s1, hs_swap f m n, ← hs_add]
    exact hs_cg fun _ _ => rfl
theorem hs_3 (f : Nat → Int) : ∀ n, hs_s f (3 * n) = hs_s (fun t => f (3 * t) + f (3 * t + 1) + f (3 * t + 2)) n
  | 0 => rfl
  | n + 1 => by
    rw [hs_s1, ← hs_3 f n]
    show hs_s f (3 * n + 1 + 1 + 1) = _
    rw [hs_s1, hs_s1, hs_s1]; omega
/-- sums over a set that an involution keeps -/
theorem hs_inv {n : Nat} {Q : Nat → Prop} {T : Nat → Nat} (hT : ∀ i, i < n → Q i → T i < n ∧ Q (T i) ∧ T (T i) = i)
    (f : Nat → Int) : hs_s (fun i => hs_i (Q i) * f (T i)) n = hs_s (fun i => hs_i (Q i) * f i) n := by
  have h1 : hs_s (fun i => hs_i (Q i) * f (T i)) n
      = hs_s (fun i => hs_s (fun j => hs_i (Q i ∧ j = T i) * f j) n) n := by
    refine hs_cg fun i hi => ?_
    rcases Classical.em (Q i) with q | q
    · rw [hs_one (k := T i) (hT i hi q).1 (fun j _ hj => by rw [hs_if (fun c => hj c.2)]; omega), hs_it q, hs_it ⟨q, rfl⟩]
    · rw [hs_if q, hs_0 (fun j _ => by rw [hs_if (fun c => q c.1)]; omega)]; omega
  rw [h1, hs_swap]
  refine hs_cg fun j hj => ?_
  rcases Classical.em (Q j) with q | q
  · obtain ⟨a, b, c⟩ := hT j hj q
    rw [hs_one (k := T j) a, hs_it q, hs_it ⟨b, c.symm⟩]
    intro i hi hne
    rw [hs_if]
    · omega
    · rintro ⟨qi, e⟩
      obtain ⟨_, _, c'⟩ := hT i hi qi
      exact hne (by rw [e, c'])
  · rw [hs_if q, hs_0]
    · omega
    · intro i hi
      rw [hs_if]
      · omega
      · rintro ⟨qi, e⟩
        exact q (e ▸ (hT i hi qi).2.1)
theorem hs_can {n : Nat} {Q : Nat → Prop} {T : Nat → Nat} (hT : ∀ i, i < n → Q i → T i < n ∧ Q (T i) ∧ T (T i) = i)
    {f : Nat → Int} (hf : ∀ i, i < n → Q i → f (T i) = - f i) : hs_s (fun i => hs_i (Q i) * f i) n = 0 := by
  have h := hs_inv hT f
  have h2 : hs_s (fun i => hs_i (Q i) * f (T i)) n = - hs_s (fun i => hs_i (Q i) * f i) n := by
    rw [← hs_neg]
    refine hs_cg fun i hi => ?_
    rcases Classical.em (Q i) with q | q
    · rw [hf i hi q, Int.mul_neg]
    · rw [hs_if q]; omega
  omega
/-- counts: how many i below n have Q -/
noncomputable def hs_n (Q : Nat → Prop) (n : Nat) : Int := hs_s (fun i => hs_i (Q i)) n
theorem hs_n0 (Q : Nat → Prop) (n : Nat) : 0 ≤ hs_n Q n := hs_nn fun _ _ => hs_i0 _
theorem hs_nle (Q : Nat → Prop) : ∀ n : Nat, hs_n Q n ≤ n
  | 0 => Int.le_refl 0
  | n + 1 => by
    have a := hs_nle Q n
    have b := hs_i1 (Q n)
    unfold hs_n at a ⊢
    rw [hs_s1]; omega
theorem hs_ncg {Q R : Nat → Prop} {n : Nat} (h : ∀ i, i < n → (Q i ↔ R i)) : hs_n Q n = hs_n R n :=
  hs_cg fun i hi => hs_iff (h i hi)
theorem hs_nmono {Q R : Nat → Prop} {n : Nat} (h : ∀ i, i < n → Q i → R i) : hs_n Q n ≤ hs_n R n :=
  hs_le fun i hi => by
    rcases Classical.em (Q i) with q | q
    · rw [hs_it q, hs_it (h i hi q)]; omega
    · rw [hs_if q]; exact hs_i0 _
/-- one more -/
theorem hs_nput {Q R : Nat → Prop} {n k : Nat} (hk : k < n) (hq : ¬ Q k) (h : ∀ i, i < n → (R i ↔ Q i ∨ i = k)) :
    hs_n R n = hs_n Q n + 1 := by
  have e : hs_n R n = hs_s (fun i => hs_i (Q i) + hs_i (i = k)) n := by
    refine hs_cg fun i hi => ?_
    rcases Classical.em (i = k) with c | c
    · rw [hs_it c, hs_it ((h i hi).mpr (Or.inr c)), hs_if (by rw [c]; exact hq)]; rfl
    · rw [hs_if c, hs_iff (h i hi), hs_iff (show Q i ∨ i = k ↔ Q i from ⟨fun x => x.resolve_right c, Or.inl⟩)]; omega
  rw [e, hs_add, hs_one (f := fun i => hs_i (i = k)) hk (fun i _ hi => hs_if hi), hs_it rfl]; rfl
/-- a set that has fewer than n members below n wants one -/
theorem hs_nfree {Q : Nat → Prop} : ∀ {n : Nat}, hs_n Q n < n → ∃ i, i < n ∧ ¬ Q i
  | 0, h => absurd h (by show ¬ (0 : Int) < 0; omega)
  | n + 1, h => by
    rcases Classical.em (Q n) with q | q
    · obtain ⟨i, hi, hq⟩ := hs_nfree (n := n) (Q := Q) (by
        have e : hs_n Q (n + 1) = hs_n Q n + hs_i (Q n) := rfl
        rw [hs_it q] at e; omega)
      exact ⟨i, Nat.lt_succ_of_lt hi, hq⟩
    · exact ⟨n, Nat.lt_succ_self n, q⟩
/-- an injective family of k members -/
theorem hs_ninj {Q : Nat → Prop} {n : Nat} {f : Nat → Nat} : ∀ {k : Nat}, (∀ i, i < k → f i < n ∧ Q (f i)) →
    (∀ i j, i < k → j < k → f i = f j → i = j) → (k : Int) ≤ hs_n Q n := by
  intro k h hi
  have h1 : hs_n (fun j => ∃ i, i < k ∧ f i = j) n ≤ hs_n Q n :=
    hs_nmono fun j hj ⟨i, hk, e⟩ => e ▸ (h i hk).2
  refine Int.le_trans ?_ h1
  clear h1
  induction k with
  | zero => exact hs_n0 _ _
  | succ k ih =>
    have h2 := ih (fun i hi' => h i (Nat.lt_succ_of_lt hi')) (fun i j a b => hi i j (Nat.lt_succ_of_lt a) (Nat.lt_succ_of_lt b))
    have h3 : hs_n (fun j => ∃ i, i < k + 1 ∧ f i = j) n = hs_n (fun j => ∃ i, i < k ∧ f i = j) n + 1 := by
      refine hs_nput (k := f k) (h k (Nat.lt_succ_self k)).1 ?_ ?_
      · rintro ⟨i, a, e⟩
        have := hi i k (Nat.lt_succ_of_lt a) (Nat.lt_succ_self k) e
        omega
      · intro j _
        constructor
        · rintro ⟨i, a, e⟩
          rcases Nat.lt_or_ge i k with c | c
          · exact Or.inl ⟨i, c, e⟩
          · have : i = k := by omega
            exact Or.inr (this ▸ e.symm)
        · rintro (⟨i, a, e⟩ | e)
          · exact ⟨i, Nat.lt_succ_of_lt a, e⟩
          · exact ⟨k, Nat.lt_succ_self k, e.symm⟩
    rw [h3]; omega
/-- two families that a relation pairs off have the same sums -/
theorem hs_pair {m n : Nat} {R : Nat → Nat → Prop} {f g : Nat → Int}
    (h1 : ∀ i, i < m → ∃ j, j < n ∧ R i j) (h2 : ∀ j, j < n → ∃ i, i < m ∧ R i j)
    (u1 : ∀ i j j', i < m → j < n → j' < n → R i j → R i j' → j = j')
    (u2 : ∀ i i' j, i < m → i' < m → j < n → R i j → R i' j → i = i')
    (h : ∀ i j, i < m → j < n → R i j → f i = g j) : hs_s f m = hs_s g n := by
  have e1 : hs_s f m = hs_s (fun i => hs_s (fun j => hs_i (R i j) * f i) n) m := by
    refine hs_cg fun i hi => ?_
    obtain ⟨j, hj, r⟩ := h1 i hi
    rw [hs_one (k := j) hj, hs_it r]
    · omega
    · intro j' hj' hne
      rw [hs_if (fun r' => hne (u1 i j' j hi hj' hj r' r))]; omega
  have e2 : hs_s g n = hs_s (fun j => hs_s (fun i => hs_i (R i j) * f i) m) n := by
    refine hs_cg fun j hj => ?_
    obtain ⟨i, hi, r⟩ := h2 j hj
    rw [hs_one (k := i) hi, hs_it r, h i j hi hj r]
    · omega
    · intro i' hi' hne
      rw [hs_if (fun r' => hne (u2 i' i j hi' hi hj r' r))]; omega
  rw [e1, e2, hs_swap]
/-- a greatest one for a ratio num/den, den above nothing, among those i below n with Q -/
theorem hs_max {Q : Nat → Prop} {num den : Nat → Int} (hd : ∀ i, Q i → 0 < den i) :
    ∀ n : Nat, (∃ i, i < n ∧ Q i) → ∃ i, i < n ∧ Q i ∧ ∀ j, j < n → Q j → num j * den i ≤ num i * den j
  | 0, h => by obtain ⟨i, hi, _⟩ := h; exact absurd hi (Nat.not_lt_zero i)
  | n + 1, h => by
    rcases Classical.em (∃ i, i < n ∧ Q i) with c | c
    · obtain ⟨i, hi, qi, m⟩ := hs_max (num := num) hd n c
      rcases Classical.em (Q n ∧ num i * den n < num n * den i) with ⟨qn, b⟩ | b
      · refine ⟨n, Nat.lt_succ_self n, qn, fun j hj qj => ?_⟩
        rcases Nat.lt_or_ge j n with e | e
        · have h1 := m j e qj
          have h2 := hd i qi
          have h3 := hd j qj
          have h4 := hd n qn
          have h5 := Int.mul_le_mul_of_nonneg_right h1 (Int.le_of_lt h4)
          have h6 := Int.mul_le_mul_of_nonneg_right (Int.le_of_lt b) (Int.le_of_lt h3)
          have h7 : den i * (num n * den j - num j * den n) ≥ 0 := by grind
          have := sg_c0 h2 h7
          omega
        · have : j = n := by omega
          rw [this]; exact Int.le_refl _
      · refine ⟨i, Nat.lt_succ_of_lt hi, qi, fun j hj qj => ?_⟩
        rcases Nat.lt_or_ge j n with e | e
        · exact m j e qj
        · have e' : j = n := by omega
          subst e'
          exact Int.not_lt.mp fun x => b ⟨qj, x⟩
    · obtain ⟨i, hi, qi⟩ := h
      refine ⟨i, hi, qi, fun j hj qj => ?_⟩
      have a : ¬ i < n := fun x => c ⟨i, x, qi⟩
      have b : ¬ j < n := fun x => c ⟨j, x, qj⟩
      have : i = j := by omega
      rw [this]; exact Int.le_refl _
/-- a greatest one for a total and transitive relation -/
theorem hs_top {Q : Nat → Prop} {le : Nat → Nat → Prop} (rf : ∀ i, Q i → le i i) (tot : ∀ i j, Q i → Q j → le i j ∨ le j i)
    (tr : ∀ i j k, Q i → Q j → Q k → le i j → le j k → le i k) :
    ∀ n : Nat, (∃ i, i < n ∧ Q i) → ∃ i, i < n ∧ Q i ∧ ∀ j, j < n → Q j → le j i
  | 0, h => by obtain ⟨i, hi, _⟩ := h; exact absurd hi (Nat.not_lt_zero i)
  | n + 1, h => by
    rcases Classical.em (∃ i, i < n ∧ Q i) with c | c
    · obtain ⟨i, hi, qi, m⟩ := hs_top rf tot tr n c
      rcases Classical.em (Q n ∧ le i n) with ⟨qn, b⟩ | b
      · refine ⟨n, Nat.lt_succ_self n, qn, fun j hj qj => ?_⟩
        rcases Nat.lt_or_ge j n with e | e
        · exact tr j i n qj qi qn (m j e qj) b
        · have : j = n := by omega
          rw [this]; exact rf n qn
      · refine ⟨i, Nat.lt_succ_of_lt hi, qi, fun j hj qj => ?_⟩
        rcases Nat.lt_or_ge j n with e | e
        · exact m j e qj
        · have e' : j = n := by omega
          subst e'
          rcases tot j i qj qi with x | x
          · exact x
          · exact absurd ⟨qj, x⟩ b
    · obtain ⟨i, hi, qi⟩ := h
      refine ⟨i, hi, qi, fun j hj qj => ?_⟩
      have a : ¬ i < n := fun x => c ⟨i, x, qi⟩
      have b : ¬ j < n := fun x => c ⟨j, x, qj⟩
      have : i = j := by omega
      rw [this]; exact rf j qj
end
section
/-! half-edges 3t, 3t+1, 3t+2 -/
def hn_n (h : Nat) : Nat := if h % 3 = 2 then h - 2 else h + 1
theorem hn_0 (t : Nat) : hn_n (3 * t) = 3 * t + 1 := by unfold hn_n; split <;> omega
theorem hn_1 (t : Nat) : hn_n (3 * t + 1) = 3 * t + 2 := by unfold hn_n; split <;> omega
theorem hn_2 (t : Nat) : hn_n (3 * t + 2) = 3 * t := by unfold hn_n; split <;> omega
theorem hn_d (h : Nat) : hn_n h / 3 = h / 3 := by unfold hn_n; split <;> omega
theorem hn_lt {h : Nat} (a : h < 78) : hn_n h < 78 := by unfold hn_n; split <;> omega
theorem hn_3 (h : Nat) : hn_n (hn_n (hn_n h)) = h := by
  unfold hn_n; split <;> split <;> split <;> omega
theorem hn_c (h : Nat) : ∃ t, h / 3 = t ∧ (h = 3 * t ∨ h = 3 * t + 1 ∨ h = 3 * t + 2) :=
  ⟨h / 3, rfl, by omega⟩
theorem hn_inj {h g : Nat} (e : hn_n h = hn_n g) : h = g := by
  rw [← hn_3 h, e, hn_3]

/-! the crossing number -/
def hx_c (D : Nat → Nat → Int) (a i j : Nat) : Int :=
  if D a i ≤ 0 ∧ 0 < D a j ∧ 0 < D i j then 1 else if D a j ≤ 0 ∧ 0 < D a i ∧ D i j < 0 then -1 else 0
theorem hx_an {D : Nat → Nat → Int} (an : ∀ i j, D j i = - D i j) (a i j : Nat) : hx_c D a j i = - hx_c D a i j := by
  unfold hx_c
  rw [an i j]
  split <;> split <;> first | omega | (split <;> omega) | skip
  all_goals (first | omega | (split <;> omega))
theorem hx_A {x y z p q r : Int} (e : x * r + y * p + z * q = 0) (hp : p ≤ 0) (hq : 0 < q) (hr : 0 < r)
    (hx : 0 < x) (hz : 0 ≤ z) : 0 ≤ y := by
  have h1 := sg_pp hx hr
  have h2 := sg_p0 hz (Int.le_of_lt hq)
  exact Int.not_lt.mp fun hy => by
    have := sg_00 (Int.le_of_lt hy) hp
    omega
theorem hx_B {x y z p q r : Int} (e : x * r + y * p + z * q = 0) (hp : p ≤ 0) (hq : q ≤ 0) (hr : 0 < r)
    (hy : 0 < y) (hz : 0 ≤ z) : 0 ≤ x := by
  have h1 := sg_0n (Int.le_of_lt hy) hp
  have h2 := sg_0n hz hq
  exact Int.not_lt.mp fun hx => by
    have := sg_np hx hr
    omega
/-- a triangle that counts holds the middle -/
theorem hx_t {x y z p q r : Int} (e : x * r + y * p + z * q = 0)
    (h : 0 < (if p ≤ 0 ∧ 0 < q ∧ 0 < x then (1 : Int) else if q ≤ 0 ∧ 0 < p ∧ x < 0 then -1 else 0)
      + (if q ≤ 0 ∧ 0 < r ∧ 0 < y then (1 : Int) else if r ≤ 0 ∧ 0 < q ∧ y < 0 then -1 else 0)
      + (if r ≤ 0 ∧ 0 < p ∧ 0 < z then (1 : Int) else if p ≤ 0 ∧ 0 < r ∧ z < 0 then -1 else 0)) :
    0 ≤ x ∧ 0 ≤ y ∧ 0 ≤ z := by
  have e2 : y * p + z * q + x * r = 0 := by omega
  have e3 : z * q + x * r + y * p = 0 := by omega
  rcases Int.lt_or_le 0 p with hp | hp <;> rcases Int.lt_or_le 0 q with hq | hq <;> rcases Int.lt_or_le 0 r with hr | hr
  · exfalso; revert h; repeat' split
    all_goals omega
  · -- r ≤ 0 < p, q : y down, z up
    have hz : 0 < z ∧ 0 ≤ y := by revert h; repeat' split
                                  all_goals omega
    have := hx_A e3 hr hp hq hz.1 hz.2
    omega
  · -- q ≤ 0 < r, p : y up, x down
    have hz : 0 < y ∧ 0 ≤ x := by revert h; repeat' split
                                  all_goals omega
    have := hx_A e2 hq hr hp hz.1 hz.2
    omega
  · -- q, r ≤ 0 < p : z up, x down
    have hz : 0 < z ∧ 0 ≤ x := by revert h; repeat' split
                                  all_goals omega
    have := hx_B e2 hq hr hp hz.1 hz.2
    omega
  · -- p ≤ 0 < q, r : x up, z down
    have hz : 0 < x ∧ 0 ≤ z := by revert h; repeat' split
                                  all_goals omega
    have := hx_A e hp hq hr hz.1 hz.2
    omega
  · -- p, r ≤ 0 < q : x up, y down
    have hz : 0 < x ∧ 0 ≤ y := by revert h; repeat' split
                                  all_goals omega
    have := hx_B e3 hr hp hq hz.1 hz.2
    omega
  · -- p, q ≤ 0 < r : y up, z down
    have hz : 0 < y ∧ 0 ≤ z := by revert h; repeat' split
                                  all_goals omega
    have := hx_B e hp hq hr hz.1 hz.2
    omega
  · exfalso; revert h; repeat' split
    all_goals omega
/-- the sum over the half-edges of G is the sum over its border -/
theorem hx_st {O T : Nat → Nat} {G : Nat → Prop}
    (hT : ∀ h, h < 78 → G (h / 3) → G (T h / 3) → T h < 78 ∧ T (T h) = h ∧ O (T h) = O (hn_n h) ∧ O (hn_n (T h)) = O h)
    {f : Nat → Nat → Int} (an : ∀ i j, f j i = - f i j) :
    hs_s (fun t => hs_i (G t) * (f (O (3 * t)) (O (3 * t + 1)) + f (O (3 * t + 1)) (O (3 * t + 2)) + f (O (3 * t + 2)) (O (3 * t)))) 26
      = hs_s (fun h => hs_i (G (h / 3) ∧ ¬ G (T h / 3)) * f (O h) (O (hn_n h))) 78 := by
  have h1 : hs_s (fun t => hs_i (G t) * (f (O (3 * t)) (O (3 * t + 1)) + f (O (3 * t + 1)) (O (3 * t + 2)) + f (O (3 * t + 2)) (O (3 * t)))) 26
      = hs_s (fun h => hs_i (G (h / 3)) * f (O h) (O (hn_n h))) 78 := by
    rw [show (78 : Nat) = 3 * 26 from rfl, hs_3]
    refine hs_cg fun t _ => ?_
    rw [hn_0, hn_1, hn_2, show 3 * t / 3 = t by omega, show (3 * t + 1) / 3 = t by omega, show (3 * t + 2) / 3 = t by omega]
    rw [Int.mul_add, Int.mul_add]
  have h2 : hs_s (fun h => hs_i (G (h / 3) ∧ G (T h / 3)) * f (O h) (O (hn_n h))) 78 = 0 := by
    refine hs_can (T := T) ?_ ?_
    · intro h hh ⟨a, b⟩
      obtain ⟨t1, t2, _, _⟩ := hT h hh a b
      exact ⟨t1, ⟨b, by rw [t2]; exact a⟩, t2⟩
    · intro h hh ⟨a, b⟩
      obtain ⟨t1, t2, t3, t4⟩ := hT h hh a b
      rw [t3, t4]; exact an _ _
  rw [h1]
  have h3 : hs_s (fun h => hs_i (G (h / 3)) * f (O h) (O (hn_n h))) 78
      = hs_s (fun h => hs_i (G (h / 3) ∧ G (T h / 3)) * f (O h) (O (hn_n h)) + hs_i (G (h / 3) ∧ ¬ G (T h / 3)) * f (O h) (O (hn_n h))) 78 := by
    refine hs_cg fun h _ => ?_
    rcases Classical.em (G (T h / 3)) with c | c
    · rw [hs_iff (show G (h / 3) ∧ G (T h / 3) ↔ G (h / 3) from ⟨fun x => x.1, fun x => ⟨x, c⟩⟩), hs_if (p := G (h / 3) ∧ ¬ G (T h / 3)) (fun x => x.2 c)]; omega
    · rw [hs_iff (show G (h / 3) ∧ ¬ G (T h / 3) ↔ G (h / 3) from ⟨fun x => x.1, fun x => ⟨x, c⟩⟩), hs_if (p := G (h / 3) ∧ G (T h / 3)) (fun x => c x.2)]; omega
  rw [h3, hs_add, h2]; omega
/-- PL: if the middle is at the left of the whole border, then a triangle holds it -/
theorem hx_pl {O T : Nat → Nat} {G : Nat → Prop} {D : Nat → Nat → Int}
    (an : ∀ i j, D j i = - D i j) (pl : ∀ a i j k, D i j * D a k + D j k * D a i + D k i * D a j = 0)
    (hT : ∀ h, h < 78 → G (h / 3) → G (T h / 3) → T h < 78 ∧ T (T h) = h ∧ O (T h) = O (hn_n h) ∧ O (hn_n (T h)) = O h)
    (hp : ∀ t, t < 26 → G t → 0 < D (O (3 * t)) (O (3 * t + 1)) + D (O (3 * t + 1)) (O (3 * t + 2)) + D (O (3 * t + 2)) (O (3 * t)))
    (hb : ∀ h, h < 78 → G (h / 3) → ¬ G (T h / 3) → 0 ≤ D (O h) (O (hn_n h)))
    (h0 : ∃ t, t < 26 ∧ G t) :
    ∃ t, t < 26 ∧ G t ∧ 0 ≤ D (O (3 * t)) (O (3 * t + 1)) ∧ 0 ≤ D (O (3 * t + 1)) (O (3 * t + 2)) ∧ 0 ≤ D (O (3 * t + 2)) (O (3 * t)) := by
  have s1 := hx_st hT an
  have p1 : 0 < hs_s (fun t => hs_i (G t) * (D (O (3 * t)) (O (3 * t + 1)) + D (O (3 * t + 1)) (O (3 * t + 2)) + D (O (3 * t + 2)) (O (3 * t)))) 26 := by
    obtain ⟨t, ht, g⟩ := h0
    refine Int.lt_of_lt_of_le ?_ (hs_ge (k := t) ?_ ht)
    · show 0 < hs_i (G t) * _
      rw [hs_it g, Int.one_mul]; exact hp t ht g
    · intro i hi
      rcases Classical.em (G i) with c | c
      · rw [hs_it c, Int.one_mul]; exact Int.le_of_lt (hp i hi c)
      · rw [hs_if c]; omega
  rw [s1] at p1
  obtain ⟨h, hh, hf⟩ := hs_ex p1
  have gb : G (h / 3) ∧ ¬ G (T h / 3) := by
    rcases Classical.em (G (h / 3) ∧ ¬ G (T h / 3)) with c | c
    · exact c
    · rw [hs_if c] at hf; omega
  rw [hs_it gb, Int.one_mul] at hf
  have s2 := hx_st hT (f := hx_c D (O h)) (hx_an an _)
  have dz : D (O h) (O h) = 0 := by have := an (O h) (O h); omega
  have p2 : 0 < hs_s (fun g => hs_i (G (g / 3) ∧ ¬ G (T g / 3)) * hx_c D (O h) (O g) (O (hn_n g))) 78 := by
    refine Int.lt_of_lt_of_le ?_ (hs_ge (k := h) ?_ hh)
    · show 0 < hs_i (G (h / 3) ∧ ¬ G (T h / 3)) * hx_c D (O h) (O h) (O (hn_n h))
      rw [hs_it gb, Int.one_mul]
      unfold hx_c
      rw [if_pos ⟨Int.le_of_eq dz, hf, hf⟩]; omega
    · intro g hg
      rcases Classical.em (G (g / 3) ∧ ¬ G (T g / 3)) with c | c
      · rw [hs_it c, Int.one_mul]
        have := hb g hg c.1 c.2
        unfold hx_c
        repeat' split
        all_goals omega
      · rw [hs_if c]; omega
  rw [← s2] at p2
  obtain ⟨t, ht, hc⟩ := hs_ex p2
  have gt : G t := by
    rcases Classical.em (G t) with c | c
    · exact c
    · rw [hs_if c] at hc; omega
  rw [hs_it gt, Int.one_mul] at hc
  exact ⟨t, ht, gt, hx_t (pl (O h) (O (3 * t)) (O (3 * t + 1)) (O (3 * t + 2))) hc⟩
end
section
/-! identities of determinants that the mesh wants -/
theorem hu_pl (a b c d p x : hu_V) :
    hu_d a b c d * hu_d a b p x - hu_d a b c p * hu_d a b d x + hu_d a b c x * hu_d a b d p = 0 := by
  have h := hu_F5 (hu_c a b c) a b d p x
  have e : ∀ z, hu_l (hu_c a b c) z = hu_d a b c z := fun _ => rfl
  rw [e, e, e, e, e, hu_z14, hu_z24] at h
  omega
theorem hu_mv (a z p x : hu_V) : hu_d a z p x = hu_d a p x z := by
  rw [hu_d23 a p z x, hu_d34 a p x z, Int.neg_neg]
theorem hu_pp (p x a i j k : hu_V) :
    hu_d i j p x * hu_d a k p x + hu_d j k p x * hu_d a i p x + hu_d k i p x * hu_d a j p x = 0 := by
  have h := hu_F5 (hu_c a p x) i j k p x
  have e : ∀ z, hu_l (hu_c a p x) z = hu_d a z p x := fun z => (hu_mv a z p x).symm
  rw [e, e, e, e, e, hu_z23, hu_z24, hu_d12 k i p x] at h
  rw [Int.mul_comm (hu_d i j p x), Int.mul_comm (hu_d j k p x), Int.mul_comm (hu_d k i p x)]
  have h2 := Int.mul_neg (hu_d a j p x) (hu_d k i p x)
  omega
theorem hu_cv (l a b c p x : hu_V) :
    hu_l l a * -hu_d b c p x + hu_l l b * -hu_d c a p x + hu_l l c * -hu_d a b p x
      = hu_l l x * hu_d a b c p - hu_l l p * hu_d a b c x := by
  have h := hu_F5 l a b c p x
  rw [hu_d12 a c p x, Int.neg_neg, Int.mul_neg, Int.mul_neg]
  omega
theorem hu_ds {a b c p x : hu_V} (ha : a.1 = 1) (hb : b.1 = 1) (hc : c.1 = 1) (hp : p.1 = 1) :
    -hu_d a b p x + -hu_d b c p x + -hu_d c a p x = x.1 * hu_d a b c p - hu_d a b c x := by
  have h := hu_F1 a b c p x
  rw [ha, hb, hc, hp, hu_d12 c a p x] at h
  omega

/-! the mesh -/
def hm_t (P : Nat → hu_V) (O : Nat → Nat) (t : Nat) (x : hu_V) : Int :=
  hu_d (P (O (3 * t))) (P (O (3 * t + 1))) (P (O (3 * t + 2))) x
def hm_sep (P : Nat → hu_V) (O : Nat → Nat) (t u : Nat) : Prop :=
  ∃ l : hu_V, (hu_l l (P (O (3 * t))) ≤ 0 ∧ hu_l l (P (O (3 * t + 1))) ≤ 0 ∧ hu_l l (P (O (3 * t + 2))) ≤ 0)
    ∧ hu_l l (P (O (3 * t))) + hu_l l (P (O (3 * t + 1))) + hu_l l (P (O (3 * t + 2))) < 0
    ∧ (0 ≤ hu_l l (P (O (3 * u))) ∧ 0 ≤ hu_l l (P (O (3 * u + 1))) ∧ 0 ≤ hu_l l (P (O (3 * u + 2))))
/-- the sum of a triangle's corners -/
def hm_x (P : Nat → hu_V) (O : Nat → Nat) (t : Nat) : hu_V :=
  hu_a (hu_a (P (O (3 * t))) (P (O (3 * t + 1)))) (P (O (3 * t + 2)))
def hm_M (P : Nat → hu_V) (S : Nat → Prop) (O T : Nat → Nat) (A : Nat → Prop) : Prop :=
  (∀ x, (P x).1 = 1) ∧
  (∀ h, h < 78 → A (h / 3) → S (O h)) ∧
  (∀ t, t < 26 → A t → ∀ x, S x → hm_t P O t (P x) ≤ 0) ∧
  (∀ t, t < 26 → A t → ∃ x, S x ∧ hm_t P O t (P x) < 0) ∧
  (∀ h, h < 78 → A (h / 3) → T h < 78 ∧ A (T h / 3) ∧ T (T h) = h ∧ O (T h) = O (hn_n h) ∧ O (hn_n (T h)) = O h) ∧
  (∀ t u, t < 26 → u < 26 → A t → A u → t ≠ u → hm_sep P O t u) ∧
  (∃ t, t < 26 ∧ A t) ∧
  (∃ a b c d, S a ∧ S b ∧ S c ∧ S d ∧ hu_d (P a) (P b) (P c) (P d) ≠ 0)
theorem hm_e (P : Nat → hu_V) (O : Nat → Nat) (h : Nat) (x : hu_V) :
    hm_t P O (h / 3) x = hu_d (P (O h)) (P (O (hn_n h))) (P (O (hn_n (hn_n h)))) x := by
  obtain ⟨t, e, c⟩ := hn_c h
  rw [e]; unfold hm_t
  rcases c with c | c | c
  · rw [c, hn_0, hn_1]
  · rw [c, hn_1, hn_2]; exact (hu_dcy _ _ _ _).symm
  · rw [c, hn_2, hn_0]; rw [hu_dcy, hu_dcy]
theorem hm_l (P : Nat → hu_V) (O : Nat → Nat) (t : Nat) (x : hu_V) :
    hm_t P O t x = hu_l (hu_c (P (O (3 * t))) (P (O (3 * t + 1))) (P (O (3 * t + 2)))) x := rfl
theorem hm_lx (P : Nat → hu_V) (O : Nat → Nat) (t : Nat) (l : hu_V) :
    hu_l l (hm_x P O t) = hu_l l (P (O (3 * t))) + hu_l l (P (O (3 * t + 1))) + hu_l l (P (O (3 * t + 2))) := by
  unfold hm_x; rw [hu_la, hu_la]
theorem hm_tx (P : Nat → hu_V) (O : Nat → Nat) (t u : Nat) :
    hm_t P O u (hm_x P O t) = hm_t P O u (P (O (3 * t))) + hm_t P O u (P (O (3 * t + 1))) + hm_t P O u (P (O (3 * t + 2))) :=
  hm_lx P O t _
section
variable {P : Nat → hu_V} {S : Nat → Prop} {O T : Nat → Nat} {A : Nat → Prop}
theorem hm_w (M : hm_M P S O T A) (x : Nat) : (P x).1 = 1 := M.1 x
theorem hm_S (M : hm_M P S O T A) {h : Nat} (hh : h < 78) (a : A (h / 3)) : S (O h) := M.2.1 h hh a
theorem hm_S3 (M : hm_M P S O T A) {t : Nat} (ht : t < 26) (a : A t) : S (O (3 * t)) ∧ S (O (3 * t + 1)) ∧ S (O (3 * t + 2)) :=
  ⟨hm_S M (by omega) (by rw [show 3 * t / 3 = t by omega]; exact a), hm_S M (by omega) (by rw [show (3 * t + 1) / 3 = t by omega]; exact a),
   hm_S M (by omega) (by rw [show (3 * t + 2) / 3 = t by omega]; exact a)⟩
theorem hm_np (M : hm_M P S O T A) {t : Nat} (ht : t < 26) (a : A t) {x : Nat} (s : S x) : hm_t P O t (P x) ≤ 0 := M.2.2.1 t ht a x s
theorem hm_ng (M : hm_M P S O T A) {t : Nat} (ht : t < 26) (a : A t) : ∃ x, S x ∧ hm_t P O t (P x) < 0 := M.2.2.2.1 t ht a
theorem hm_T (M : hm_M P S O T A) {h : Nat} (hh : h < 78) (a : A (h / 3)) :
    T h < 78 ∧ A (T h / 3) ∧ T (T h) = h ∧ O (T h) = O (hn_n h) ∧ O (hn_n (T h)) = O h := M.2.2.2.2.1 h hh a
theorem hm_sp (M : hm_M P S O T A) {t u : Nat} (ht : t < 26) (hu : u < 26) (a : A t) (b : A u) (n : t ≠ u) : hm_sep P O t u :=
  M.2.2.2.2.2.1 t u ht hu a b n
theorem hm_ex (M : hm_M P S O T A) : ∃ t, t < 26 ∧ A t := M.2.2.2.2.2.2.1
theorem hm_4 (M : hm_M P S O T A) : ∃ a b c d, S a ∧ S b ∧ S c ∧ S d ∧ hu_d (P a) (P b) (P c) (P d) ≠ 0 := M.2.2.2.2.2.2.2
theorem hm_xnp (M : hm_M P S O T A) {t u : Nat} (ht : t < 26) (hu : u < 26) (a : A t) (b : A u) : hm_t P O u (hm_x P O t) ≤ 0 := by
  obtain ⟨s0, s1, s2⟩ := hm_S3 M ht a
  rw [hm_tx]
  have h0 := hm_np M hu b s0
  have h1 := hm_np M hu b s1
  have h2 := hm_np M hu b s2
  omega
theorem hm_x1 (M : hm_M P S O T A) (t : Nat) : (hm_x P O t).1 = 3 := by
  have h := hm_lx P O t hu_w
  rw [hu_lw, hu_lw, hu_lw, hu_lw, hm_w M, hm_w M, hm_w M] at h
  exact h
/-- a point strictly inside -/
theorem hm_in (M : hm_M P S O T A) : ∃ o : hu_V, ∀ l, (∀ x, S x → hu_l l (P x) ≤ 0) → (∃ x, S x ∧ hu_l l (P x) < 0) → hu_l l o < 0 := by
  obtain ⟨a, b, c, d, sa, sb, sc, sd, n⟩ := hm_4 M
  refine ⟨hu_a (hu_a (P a) (P b)) (hu_a (P c) (P d)), fun l hl ⟨x, sx, hx⟩ => ?_⟩
  rw [hu_la, hu_la, hu_la]
  have ha := hl a sa
  have hb := hl b sb
  have hc := hl c sc
  have hd := hl d sd
  rcases Int.lt_or_le (hu_l l (P a) + hu_l l (P b) + (hu_l l (P c) + hu_l l (P d))) 0 with h | h
  · exact h
  · exfalso
    have e := hu_prop (l := l) (a := P a) (b := P b) (c := P c) (by omega) (by omega) (by omega) (P d) (P x)
    rw [show hu_l l (P d) = 0 by omega, Int.zero_mul, Int.mul_comm] at e
    have := sg_z n e.symm
    omega
/-- the two triangles at an edge -/
theorem hm_edge (M : hm_M P S O T A) {h : Nat} (hh : h < 78) (a : A (h / 3)) (p x : hu_V) :
    hm_t P O (h / 3) p * hm_t P O (T h / 3) x - hm_t P O (T h / 3) p * hm_t P O (h / 3) x
      = -(hm_t P O (h / 3) (P (O (hn_n (hn_n (T h))))) * hu_d (P (O h)) (P (O (hn_n h))) p x) := by
  obtain ⟨_, _, _, e1, e2⟩ := hm_T M hh a
  rw [hm_e, hm_e, hm_e, hm_e, hm_e, e1, e2]
  have h1 := hu_pl (P (O h)) (P (O (hn_n h))) (P (O (hn_n (hn_n h)))) (P (O (hn_n (hn_n (T h))))) p x
  rw [hu_d12 (P (O h)) (P (O (hn_n h))) (P (O (hn_n (hn_n (T h))))) x, hu_d12 (P (O h)) (P (O (hn_n h))) (P (O (hn_n (hn_n (T h))))) p]
  rw [Int.mul_neg, Int.neg_mul, Int.mul_comm (hu_d (P (O h)) (P (O (hn_n h))) (P (O (hn_n (hn_n (T h))))) p)]
  omega
theorem hm_apex (M : hm_M P S O T A) {h : Nat} (hh : h < 78) (a : A (h / 3)) : S (O (hn_n (hn_n (T h)))) := by
  obtain ⟨l, b, _, _, _⟩ := hm_T M hh a
  exact hm_S M (hn_lt (hn_lt l)) (by rw [hn_d, hn_d]; exact b)
/-- an edge between a triangle that p sees and one that it doesn't: all lies on one side of the plane through the edge and p -/
theorem hm_rim (M : hm_M P S O T A) {h : Nat} (hh : h < 78) (a : A (h / 3)) {p : hu_V} (v : 0 < hm_t P O (h / 3) p) (n : hm_t P O (T h / 3) p ≤ 0) :
    hm_t P O (h / 3) (P (O (hn_n (hn_n (T h))))) < 0 ∧
    ∀ x, hm_t P O (h / 3) x ≤ 0 → hm_t P O (T h / 3) x ≤ 0 → hu_d (P (O h)) (P (O (hn_n h))) p x ≤ 0 := by
  obtain ⟨l, b, _, _, _⟩ := hm_T M hh a
  have hd : hm_t P O (h / 3) (P (O (hn_n (hn_n (T h))))) < 0 := by
    rcases Int.lt_or_le (hm_t P O (h / 3) (P (O (hn_n (hn_n (T h)))))) 0 with c | c
    · exact c
    · exfalso
      have z : hm_t P O (h / 3) (P (O (hn_n (hn_n (T h))))) = 0 := by
        have := hm_np M (show h / 3 < 26 by omega) a (hm_apex M hh a); omega
      obtain ⟨x, sx, hx⟩ := hm_ng M (show T h / 3 < 26 by omega) b
      have e := hm_edge M hh a p (P x)
      rw [z, Int.zero_mul] at e
      have h1 := sg_pn v hx
      have h2 := sg_00 n (hm_np M (show h / 3 < 26 by omega) a sx)
      omega
  refine ⟨hd, fun x h1 h2 => ?_⟩
  have e := hm_edge M hh a p x
  have k1 := sg_0n (Int.le_of_lt v) h2
  have k2 := sg_00 n h1
  exact sg_d0 hd (by omega)
/-- the set that a flood from anywhere reaches is all that p sees -/
theorem hm_flood (M : hm_M P S O T A) {p : hu_V} (hp : p.1 = 1) {R : Nat → Prop}
    (hR : ∀ t, t < 26 → R t → A t ∧ 0 < hm_t P O t p)
    (hc : ∀ h, h < 78 → R (h / 3) → 0 < hm_t P O (T h / 3) p → R (T h / 3))
    (h0 : ∃ t, t < 26 ∧ R t) {t0 : Nat} (ht0 : t0 < 26) (a0 : A t0) (v0 : 0 < hm_t P O t0 p) : R t0 := by
  obtain ⟨s, hs, ⟨_, rs⟩, mx⟩ := hs_max (Q := fun t => t < 26 ∧ R t) (num := fun t => hm_t P O t (hm_x P O t0)) (den := fun t => hm_t P O t p)
    (fun t ht => (hR t ht.1 ht.2).2) 26 (by obtain ⟨t, a, b⟩ := h0; exact ⟨t, a, a, b⟩)
  have hm : ∀ j, j < 26 → R j → hm_t P O j (hm_x P O t0) * hm_t P O s p ≤ hm_t P O s (hm_x P O t0) * hm_t P O j p := fun j a b => mx j a ⟨a, b⟩
  clear mx
  obtain ⟨as, vs⟩ := hR s hs rs
  have key := hx_pl (O := O) (T := T) (G := fun t => R t ∧ t < 26 ∧ hm_t P O t (hm_x P O t0) * hm_t P O s p = hm_t P O s (hm_x P O t0) * hm_t P O t p)
    (D := fun i j => - hu_d (P i) (P j) p (hm_x P O t0))
    (fun i j => by show -hu_d (P j) (P i) p _ = - -hu_d (P i) (P j) p _; rw [hu_d12 (P i) (P j)])
    (fun a i j k => by
      show -hu_d (P i) (P j) p _ * -hu_d (P a) (P k) p _ + -hu_d (P j) (P k) p _ * -hu_d (P a) (P i) p _ + -hu_d (P k) (P i) p _ * -hu_d (P a) (P j) p _ = 0
      rw [Int.neg_mul_neg, Int.neg_mul_neg, Int.neg_mul_neg]; exact hu_pp _ _ _ _ _ _)
    (fun h hh g _ => by
      obtain ⟨x1, _, x3, x4, x5⟩ := hm_T M hh (hR _ g.2.1 g.1).1
      exact ⟨x1, x3, x4, x5⟩)
    (fun t ht g => by
      show 0 < -hu_d (P (O (3 * t))) (P (O (3 * t + 1))) p _ + -hu_d (P (O (3 * t + 1))) (P (O (3 * t + 2))) p _ + -hu_d (P (O (3 * t + 2))) (P (O (3 * t))) p _
      rw [hu_ds (hm_w M _) (hm_w M _) (hm_w M _) hp, hm_x1 M]
      obtain ⟨at', vt⟩ := hR t ht g.1
      have h1 := hm_xnp M ht0 ht a0 at'
      unfold hm_t at vt h1
      omega)
    (fun h hh g ng => by
      show 0 ≤ -hu_d (P (O h)) (P (O (hn_n h))) p _
      obtain ⟨g1, g2, g3⟩ := g
      obtain ⟨ah, vh⟩ := hR _ g2 g1
      obtain ⟨l, au, _, _, _⟩ := hm_T M hh ah
      rcases Int.lt_or_le 0 (hm_t P O (T h / 3) p) with c | c
      · have ru := hc h hh g1 c
        have k1 := hm _ (show T h / 3 < 26 by omega) ru
        have k2 : hm_t P O (T h / 3) (hm_x P O t0) * hm_t P O s p ≠ hm_t P O s (hm_x P O t0) * hm_t P O (T h / 3) p :=
          fun e => ng ⟨ru, by omega, e⟩
        have k3 : hm_t P O s p * (hm_t P O (h / 3) p * hm_t P O (T h / 3) (hm_x P O t0) - hm_t P O (T h / 3) p * hm_t P O (h / 3) (hm_x P O t0)) < 0 := by
          have k4 := sg_pp (show 0 < hm_t P O s (hm_x P O t0) * hm_t P O (T h / 3) p - hm_t P O (T h / 3) (hm_x P O t0) * hm_t P O s p by omega) vh
          revert k4 g3
          generalize hm_t P O (h / 3) p = a1
          generalize hm_t P O (T h / 3) (hm_x P O t0) = a2
          generalize hm_t P O s p = a3
          generalize hm_t P O s (hm_x P O t0) = a4
          generalize hm_t P O (T h / 3) p = a5
          generalize hm_t P O (h / 3) (hm_x P O t0) = a6
          intro g3 k4
          have e1 : (a4 * a5 - a2 * a3) * a1 = (a4 * a1) * a5 - a3 * (a1 * a2) := by grind
          rw [e1, ← g3] at k4
          have e2 : a3 * (a1 * a2 - a5 * a6) = a3 * (a1 * a2) - a6 * a3 * a5 := by grind
          omega
        have k5 := sg_cn vs k3
        rw [hm_edge M hh ah] at k5
        have k6 := hm_np M g2 ah (hm_apex M hh ah)
        exact Int.not_lt.mp fun k7 => by
          have := sg_n0 k6 (show 0 ≤ hu_d (P (O h)) (P (O (hn_n h))) p (hm_x P O t0) by omega)
          omega
      · have := (hm_rim M hh ah vh c).2 (hm_x P O t0) (hm_xnp M ht0 g2 a0 ah) (hm_xnp M ht0 (by omega) a0 au)
        omega)
    ⟨s, hs, rs, hs, rfl⟩
  obtain ⟨t, ht, ⟨rt, _, _⟩, d1, d2, d3⟩ := key
  obtain ⟨at', vt⟩ := hR t ht rt
  have cv : ∀ l, hu_l l (P (O (3 * t))) * -hu_d (P (O (3 * t + 1))) (P (O (3 * t + 2))) p (hm_x P O t0)
      + hu_l l (P (O (3 * t + 1))) * -hu_d (P (O (3 * t + 2))) (P (O (3 * t))) p (hm_x P O t0)
      + hu_l l (P (O (3 * t + 2))) * -hu_d (P (O (3 * t))) (P (O (3 * t + 1))) p (hm_x P O t0)
      = hu_l l (hm_x P O t0) * hm_t P O t p - hu_l l p * hm_t P O t (hm_x P O t0) := fun l => hu_cv l _ _ _ _ _
  obtain ⟨s0, s1, s2⟩ := hm_S3 M ht at'
  have z : hm_t P O t (hm_x P O t0) = 0 := by
    have c1 := cv (hu_c (P (O (3 * t0))) (P (O (3 * t0 + 1))) (P (O (3 * t0 + 2))))
    rw [← hm_l, ← hm_l, ← hm_l, ← hm_l, ← hm_l] at c1
    have x0 : hm_t P O t0 (hm_x P O t0) = 0 := by
      rw [hm_tx]; unfold hm_t; rw [hu_z14, hu_z24, hu_z34]; rfl
    rw [x0, Int.zero_mul] at c1
    have k0 := sg_n0 (hm_np M ht0 a0 s0) d2
    have k1 := sg_n0 (hm_np M ht0 a0 s1) d3
    have k2 := sg_n0 (hm_np M ht0 a0 s2) d1
    have k3 := hm_xnp M ht0 ht a0 at'
    have k4 := sg_0n (Int.le_of_lt v0) k3
    exact sg_cz v0 (by omega)
  rcases Nat.decEq t t0 with ne | e
  · exfalso
    obtain ⟨l, ⟨_, _, _⟩, l2, l3, l4, l5⟩ := hm_sp M ht0 ht a0 at' (fun e => ne e.symm)
    have c1 := cv l
    rw [z, hm_lx] at c1
    have k0 := sg_p0 l3 d2
    have k1 := sg_p0 l4 d3
    have k2 := sg_p0 l5 d1
    have k3 := sg_np l2 vt
    omega
  · exact e ▸ rt
end
end
section
/-! two edges of the rim whose cones from p overlap -/
theorem ho_K {u v u' v' : Int} (h1 : 0 < u) (h2 : 0 < u' ∨ (u' = 0 ∧ 0 < v')) : ∃ K : Int, 0 < K ∧ 0 < K * u + v ∧ 0 < K * u' + v' := by
  have key : ∀ (m w z : Int), 0 < m → 0 < w → -z < m → 0 < m * w + z := by
    intro m w z hm hw hz
    have := sg_p0 (Int.le_of_lt hm) (show 0 ≤ w - 1 by omega)
    have e : m * (w - 1) = m * w - m := by grind
    omega
  refine ⟨1 + (if 0 ≤ v then v else -v) + (if 0 ≤ v' then v' else -v'), ?_, ?_, ?_⟩
  · split <;> split <;> omega
  · refine key _ _ _ ?_ h1 ?_ <;> (split <;> split <;> omega)
  · rcases h2 with h2 | ⟨h2, h3⟩
    · refine key _ _ _ ?_ h2 ?_ <;> (split <;> split <;> omega)
    · rw [h2]; omega
theorem ho_z3 {x y z : Int} (hx : x ≤ 0) (hy : y ≤ 0) (hz : z ≤ 0) (h : x + y + z = 0) : x = 0 ∧ y = 0 ∧ z = 0 := by omega
theorem ho_ov1 {a b c a' b' c' p o : hu_V}
    (Ha : hu_d a b p a' ≤ 0) (Hb : hu_d a b p b' ≤ 0) (Ho : hu_d a b p o < 0)
    (Ha' : hu_d a' b' p a ≤ 0) (Hb' : hu_d a' b' p b ≤ 0) (Ho' : hu_d a' b' p o < 0)
    (fp : 0 < hu_d a b c p) (fa : hu_d a b c a' ≤ 0) (fb : hu_d a b c b' ≤ 0)
    (gp : 0 < hu_d a' b' c' p) (ga : hu_d a' b' c' a ≤ 0) (gb : hu_d a' b' c' b ≤ 0)
    (o1 : hu_d a a' p o ≤ 0) (o2 : hu_d a' b p o < 0) :
    hu_d a b p a' = 0 ∧ hu_d a b p b' = 0 ∧ hu_d a' b' p a = 0 ∧ hu_d a' b' p b = 0 ∧ hu_d a' b' c' a = 0 ∧ hu_d a' b' c' b = 0 ∧
    ∃ K α β δ : Int, 0 < K ∧ 0 < α ∧ 0 < β ∧ 0 < δ ∧ ∀ l : hu_V, δ * (K * hu_l l a' + hu_l l b') = α * hu_l l a + β * hu_l l b := by
  have pp := hu_pp p o a a' b b'
  obtain ⟨K, K0, K1, K2⟩ := ho_K (u := -hu_d a' b p o) (v := -hu_d b' b p o) (u' := -hu_d a a' p o) (v' := -hu_d a b' p o) (by omega) (by
    rcases Int.lt_or_le 0 (-hu_d a a' p o) with h | h
    · exact Or.inl h
    · refine Or.inr ⟨by omega, ?_⟩
      have z : hu_d a a' p o = 0 := by omega
      rw [z] at pp
      have k1 := sg_nn Ho Ho'
      rw [hu_d12 a' b' p o] at pp
      have k2 := Int.neg_mul (hu_d a' b' p o) (hu_d a b p o)
      have k3 := Int.mul_comm (hu_d a' b' p o) (hu_d a b p o)
      have k4 : 0 < hu_d a' b p o * hu_d a b' p o := by omega
      have := sg_dp o2 k4
      omega)
  have rel : ∀ l : hu_V, hu_l l (hu_a (hu_k K a') b') * -hu_d a b p o
      = hu_l l a * (K * -hu_d a' b p o + -hu_d b' b p o) + hu_l l b * (K * -hu_d a a' p o + -hu_d a b' p o)
        + hu_l l p * -hu_d a b (hu_a (hu_k K a') b') o + hu_l l o * (K * -hu_d a b p a' + -hu_d a b p b') := by
    intro l
    have h := hu_F5 l a b (hu_a (hu_k K a') b') p o
    have e1 : hu_d b (hu_a (hu_k K a') b') p o = K * -hu_d a' b p o + -hu_d b' b p o := by
      rw [hu_d2, hu_d2k, hu_d12 a' b p o, hu_d12 b' b p o]
    have e2 : hu_d a (hu_a (hu_k K a') b') p o = -(K * -hu_d a a' p o + -hu_d a b' p o) := by
      rw [hu_d2, hu_d2k, Int.mul_neg]; omega
    have e3 : hu_d a b (hu_a (hu_k K a') b') p = K * -hu_d a b p a' + -hu_d a b p b' := by
      rw [hu_d3, hu_d3k, hu_d34 a b p a', hu_d34 a b p b']
    rw [e1, e2, e3] at h
    generalize (K * -hu_d a' b p o + -hu_d b' b p o) = X at h ⊢
    generalize (K * -hu_d a a' p o + -hu_d a b' p o) = Y at h ⊢
    generalize (K * -hu_d a b p a' + -hu_d a b p b') = Z at h ⊢
    rw [Int.mul_neg] at h
    rw [Int.mul_neg, Int.mul_neg]
    omega
  have mu : 0 ≤ K * -hu_d a b p a' + -hu_d a b p b' := by
    have := sg_p0 (Int.le_of_lt K0) (show 0 ≤ -hu_d a b p a' by omega); omega
  have r1 := rel (hu_c a' b' p)
  have d1 : ∀ z, hu_l (hu_c a' b' p) z = hu_d a' b' p z := fun _ => rfl
  rw [d1, d1, d1, d1, d1, hu_d4, hu_d4k, hu_z14, hu_z24, hu_z34, Int.mul_zero, Int.add_zero, Int.zero_mul, Int.zero_mul, Int.add_zero] at r1
  obtain ⟨z1, z2, z3⟩ := ho_z3 (sg_n0 Ha' (Int.le_of_lt K1)) (sg_n0 Hb' (Int.le_of_lt K2)) (sg_n0 (Int.le_of_lt Ho') mu) r1.symm
  rw [Int.mul_comm] at z1 z2
  have ha0 := sg_cz K1 z1
  have hb0 := sg_cz K2 z2
  have mu0 := sg_dz Ho' z3
  have n1 := sg_p0 (Int.le_of_lt K0) (show 0 ≤ -hu_d a b p a' by omega)
  have q1 : hu_d a b p b' = 0 := by omega
  have q2 : hu_d a b p a' = 0 := by
    have : K * -hu_d a b p a' = 0 := by omega
    have := sg_cz K0 this
    omega
  have r2 := rel (hu_c a b c)
  have d2 : ∀ z, hu_l (hu_c a b c) z = hu_d a b c z := fun _ => rfl
  rw [mu0, d2, d2, d2, d2, d2, hu_d4, hu_d4k, hu_z14, hu_z24, Int.zero_mul, Int.zero_mul, Int.mul_zero, Int.add_zero, Int.zero_add, Int.zero_add] at r2
  have n2 := sg_0n (Int.le_of_lt K0) fa
  have n3 := sg_n0 (show K * hu_d a b c a' + hu_d a b c b' ≤ 0 by omega) (show 0 ≤ -hu_d a b p o by omega)
  have la := sg_cm fp (show hu_d a b c p * -hu_d a b (hu_a (hu_k K a') b') o ≤ 0 by omega)
  have r3 := rel (hu_c a' b' c')
  have d3 : ∀ z, hu_l (hu_c a' b' c') z = hu_d a' b' c' z := fun _ => rfl
  rw [mu0, d3, d3, d3, d3, d3, hu_d4, hu_d4k, hu_z14, hu_z24, Int.mul_zero, Int.mul_zero, Int.add_zero, Int.add_zero, Int.zero_mul] at r3
  obtain ⟨y1, y2, y3⟩ := ho_z3 (sg_n0 ga (Int.le_of_lt K1)) (sg_n0 gb (Int.le_of_lt K2)) (sg_0n (Int.le_of_lt gp) la) r3.symm
  rw [Int.mul_comm] at y1 y2
  have ga0 := sg_cz K1 y1
  have gb0 := sg_cz K2 y2
  have la0 := sg_cz gp y3
  refine ⟨q2, q1, ha0, hb0, ga0, gb0, K, _, _, -hu_d a b p o, K0, K1, K2, by omega, fun l => ?_⟩
  have r := rel l
  rw [mu0, la0, hu_la, hu_lk, Int.mul_zero, Int.mul_zero, Int.add_zero, Int.add_zero, Int.mul_comm] at r
  rw [r, Int.mul_comm (hu_l l a), Int.mul_comm (hu_l l b)]
/-- a functional that is nothing on a', b', p, c' is nothing -/
theorem ho_all {l a b c p : hu_V} (ha : hu_l l a = 0) (hb : hu_l l b = 0) (hc : hu_l l c = 0) (hp : hu_l l p = 0)
    (n : hu_d a b c p ≠ 0) (x : hu_V) : hu_l l x = 0 := by
  have h := hu_prop ha hb hc x p
  rw [hp, Int.zero_mul, Int.mul_comm] at h
  exact sg_z n h
theorem ho_ov {a b c a' b' c' p o l : hu_V}
    (Ha : hu_d a b p a' ≤ 0) (Hb : hu_d a b p b' ≤ 0) (Ho : hu_d a b p o < 0)
    (Ha' : hu_d a' b' p a ≤ 0) (Hb' : hu_d a' b' p b ≤ 0) (Ho' : hu_d a' b' p o < 0)
    (fp : 0 < hu_d a b c p) (fa : hu_d a b c a' ≤ 0) (fb : hu_d a b c b' ≤ 0) (fc : hu_d a b c c' ≤ 0)
    (gp : 0 < hu_d a' b' c' p) (ga : hu_d a' b' c' a ≤ 0) (gb : hu_d a' b' c' b ≤ 0) (gc : hu_d a' b' c' c ≤ 0)
    (o1 : hu_d a a' p o ≤ 0) (o2 : hu_d a' b p o < 0)
    (la : 0 ≤ hu_l l a) (lb : 0 ≤ hu_l l b) (lc : 0 ≤ hu_l l c)
    (la' : hu_l l a' ≤ 0) (lb' : hu_l l b' ≤ 0) (ls : hu_l l a' + hu_l l b' + hu_l l c' < 0) : False := by
  obtain ⟨q1, q2, q3, q4, q5, q6, K, α, β, δ, K0, α0, β0, δ0, rel⟩ := ho_ov1 Ha Hb Ho Ha' Hb' Ho' fp fa fb gp ga gb o1 o2
  have r := rel l
  have k1 := sg_0n (Int.le_of_lt K0) la'
  have k2 := sg_0n (Int.le_of_lt δ0) (show K * hu_l l a' + hu_l l b' ≤ 0 by omega)
  have k3 := sg_p0 (Int.le_of_lt α0) la
  have k4 := sg_p0 (Int.le_of_lt β0) lb
  have la0 := sg_cz α0 (show α * hu_l l a = 0 by omega)
  have lb0 := sg_cz β0 (show β * hu_l l b = 0 by omega)
  have ly0 := sg_cz δ0 (show δ * (K * hu_l l a' + hu_l l b') = 0 by omega)
  have lb'0 : hu_l l b' = 0 := by omega
  have la'0 : hu_l l a' = 0 := sg_cz K0 (show K * hu_l l a' = 0 by omega)
  have lc'0 : hu_l l c' < 0 := by omega
  -- a and b lie in the span of a', b'
  have sa : ∀ z, hu_d a' b' a z = 0 := by
    intro z
    refine ho_all (l := hu_c a' b' a) (a := a') (b := b') (c := c') (p := p) (hu_z14 _ _ _) (hu_z24 _ _ _) ?_ ?_ (by omega) z
    · show hu_d a' b' a c' = 0; rw [hu_d34 a' b' c' a, q5]; rfl
    · show hu_d a' b' a p = 0; rw [hu_d34 a' b' p a, q3]; rfl
  have sb : ∀ z, hu_d a' b' b z = 0 := by
    intro z
    refine ho_all (l := hu_c a' b' b) (a := a') (b := b') (c := c') (p := p) (hu_z14 _ _ _) (hu_z24 _ _ _) ?_ ?_ (by omega) z
    · show hu_d a' b' b c' = 0; rw [hu_d34 a' b' c' b, q6]; rfl
    · show hu_d a' b' b p = 0; rw [hu_d34 a' b' p b, q4]; rfl
  have pr : ∀ x y z, hu_d a' b' y x * hu_d a b y z = hu_d a' b' y z * hu_d a b y x := by
    intro x y z
    refine hu_prop (l := hu_c a' b' y) (a := a) (b := b) (c := y) ?_ ?_ (hu_z34 _ _ _) x z
    · show hu_d a' b' y a = 0; rw [hu_d34 a' b' a y, sa]; rfl
    · show hu_d a' b' y b = 0; rw [hu_d34 a' b' b y, sb]; rfl
  have h1 := pr c p o
  have h2 : hu_d a b p c = - hu_d a b c p := hu_d34 _ _ _ _
  have h3 : hu_d a' b' p c < 0 := by
    have k := sg_nn Ho' (show hu_d a b p c < 0 by omega)
    rw [← h1, Int.mul_comm] at k
    exact sg_dp Ho k
  have h4 := pr c' c p
  have h5 : hu_d a' b' c c' = - hu_d a' b' c' c := hu_d34 _ _ _ _
  have h6 : hu_d a' b' c p = - hu_d a' b' p c := hu_d34 _ _ _ _
  have h7 : hu_d a b c c' = 0 := by
    have k := sg_p0 (show 0 ≤ hu_d a' b' c c' by omega) (Int.le_of_lt fp)
    rw [h4] at k
    have := sg_c0 (show 0 < hu_d a' b' c p by omega) k
    omega
  have h8 := pr c' p o
  have h9 : hu_d a' b' p c' = - hu_d a' b' c' p := hu_d34 _ _ _ _
  have h10 : hu_d a b p c' < 0 := by
    have k := sg_nn (show hu_d a' b' p c' < 0 by omega) Ho
    rw [h8] at k
    exact sg_dp Ho' k
  have h11 := hu_F5 l a b c c' p
  have h12 : hu_d a b c' p = - hu_d a b p c' := hu_d34 _ _ _ _
  rw [la0, lb0, h7] at h11
  have k5 := sg_p0 lc (show 0 ≤ hu_d a b c' p by omega)
  have k6 := sg_np lc'0 fp
  omega

/-! a closed walk round the middle meets every direction -/
theorem ho_cyp {α : Type} {D : α → α → Int} {z : α → Int} (an : ∀ i j, D j i = - D i j) (pl : ∀ i j k, D i j * z k + D j k * z i + D k i * z j = 0)
    {v : Nat → α} {n : Nat} (hn : 0 < n) (hv : v n = v 0) (hD : ∀ i, i < n → 0 < D (v i) (v (i + 1)))
    (hz : ∀ i, i ≤ n → 0 < z (v i)) : False := by
  have key : ∀ i, i < n → 0 < D (v 0) (v (i + 1)) := by
    intro i
    induction i with
    | zero => intro h; exact hD 0 h
    | succ i ih =>
      intro h
      have a := ih (by omega)
      have b := hD (i + 1) h
      have e := pl (v 0) (v (i + 1)) (v (i + 1 + 1))
      have c1 := sg_pp a (hz (i + 1 + 1) (by omega))
      have c2 := sg_pp b (hz 0 (by omega))
      rw [an (v 0) (v (i + 1 + 1))] at e
      have c3 := Int.neg_mul (D (v 0) (v (i + 1 + 1))) (z (v (i + 1)))
      have c4 : 0 < z (v (i + 1)) * D (v 0) (v (i + 1 + 1)) := by
        rw [Int.mul_comm]; omega
      exact sg_cp (hz (i + 1) (by omega)) c4
  have h := key (n - 1) (by omega)
  rw [show n - 1 + 1 = n by omega, hv] at h
  have := an (v 0) (v 0)
  omega
theorem ho_cyc {α : Type} {D : α → α → Int} (an : ∀ i j, D j i = - D i j) (pl : ∀ a i j k, D i j * D a k + D j k * D a i + D k i * D a j = 0)
    {v : Nat → α} {n : Nat} (hn : 0 < n) (hv : v n = v 0) (hD : ∀ i, i < n → 0 < D (v i) (v (i + 1)))
    {a b : α} (hab : 0 < D a b) : ∃ i, i < n ∧ D a (v i) ≤ 0 ∧ 0 < D a (v (i + 1)) := by
  rcases Classical.em (∃ i, i < n ∧ D a (v i) ≤ 0 ∧ 0 < D a (v (i + 1))) with h | h
  · exact h
  exfalso
  have st : ∀ i, i < n → D a (v i) ≤ 0 → D a (v (i + 1)) ≤ 0 := fun i hi h1 => Int.not_lt.mp fun h2 => h ⟨i, hi, h1, h2⟩
  rcases Classical.em (∃ i, i < n ∧ D a (v i) ≤ 0) with ⟨i0, hi0, h1⟩ | h1
  · have up : ∀ k, i0 + k ≤ n → D a (v (i0 + k)) ≤ 0 := by
      intro k
      induction k with
      | zero => intro _; exact h1
      | succ k ih => intro hk; exact st (i0 + k) (by omega) (ih (by omega))
    have z0 : D a (v 0) ≤ 0 := by
      have := up (n - i0) (by omega)
      rw [show i0 + (n - i0) = n by omega, hv] at this
      exact this
    have all : ∀ k, k ≤ n → D a (v k) ≤ 0 := by
      intro k
      induction k with
      | zero => intro _; exact z0
      | succ k ih => intro hk; exact st k (by omega) (ih (by omega))
    have back : ∀ i, i < n → D a (v (i + 1)) = 0 → D a (v i) = 0 := by
      intro i hi e
      have two : ∃ y, 0 < D (v (i + 1)) y ∧ D a y ≤ 0 := by
        rcases Nat.lt_or_ge (i + 1) n with c | c
        · exact ⟨v (i + 1 + 1), hD (i + 1) c, all _ (by omega)⟩
        · refine ⟨v 1, ?_, all 1 (by omega)⟩
          rw [show i + 1 = n by omega, hv]; exact hD 0 hn
      obtain ⟨y, y1, y2⟩ := two
      have e2 := pl a (v i) (v (i + 1)) y
      rw [e, Int.mul_zero] at e2
      have k1 := sg_0n (Int.le_of_lt (hD i hi)) y2
      have k2 := sg_0n (Int.le_of_lt y1) (all i (by omega))
      exact sg_cz y1 (show D (v (i + 1)) y * D a (v i) = 0 by omega)
    rcases Classical.em (∃ i, i ≤ n ∧ D a (v i) = 0) with ⟨i1, hi1, e1⟩ | ne
    · have dn : ∀ k i, i + k ≤ n → D a (v (i + k)) = 0 → D a (v i) = 0 := by
        intro k
        induction k with
        | zero => intro i _ e; exact e
        | succ k ih => intro i hk e; exact ih i (by omega) (back (i + k) (by omega) e)
      have e0 : D a (v 0) = 0 := dn i1 0 (by omega) (by rw [Nat.zero_add]; exact e1)
      have en : D a (v n) = 0 := by rw [hv]; exact e0
      have e2 : D a (v 1) = 0 := dn (n - 1) 1 (by omega) (by rw [show 1 + (n - 1) = n by omega]; exact en)
      have e3 := pl a (v 0) (v 1) b
      rw [e0, e2, Int.mul_zero, Int.mul_zero] at e3
      have := sg_pp (hD 0 hn) hab
      have e4 : D (v 0) (v (0 + 1)) = D (v 0) (v 1) := rfl
      rw [e4] at this
      omega
    · refine ho_cyp (z := fun x => - D a x) an ?_ hn hv hD ?_
      · intro i j k
        have := pl a i j k
        show D i j * - D a k + D j k * - D a i + D k i * - D a j = 0
        rw [Int.mul_neg, Int.mul_neg, Int.mul_neg]; omega
      · intro i hi
        have a1 := all i hi
        have a2 : D a (v i) ≠ 0 := fun e => ne ⟨i, hi, e⟩
        show 0 < - D a (v i)
        omega
  · have pos : ∀ i, i < n → 0 < D a (v i) := fun i hi => Int.not_le.mp fun x => h1 ⟨i, hi, x⟩
    refine ho_cyp (z := fun x => D a x) an (fun i j k => pl a i j k) hn hv hD ?_
    intro i hi
    rcases Nat.lt_or_ge i n with c | c
    · exact pos i c
    · rw [show i = n by omega, hv]; exact pos 0 hn
end
section
/-! the mesh with one more point -/
theorem hm_sep3 {P : Nat → hu_V} {O : Nat → Nat} {t u : Nat} (s : hm_sep P O t u) {h g : Nat} (eh : h / 3 = t) (eg : g / 3 = u) :
    ∃ l : hu_V, (hu_l l (P (O h)) ≤ 0 ∧ hu_l l (P (O (hn_n h))) ≤ 0 ∧ hu_l l (P (O (hn_n (hn_n h)))) ≤ 0)
    ∧ hu_l l (P (O h)) + hu_l l (P (O (hn_n h))) + hu_l l (P (O (hn_n (hn_n h)))) < 0
    ∧ (0 ≤ hu_l l (P (O g)) ∧ 0 ≤ hu_l l (P (O (hn_n g))) ∧ 0 ≤ hu_l l (P (O (hn_n (hn_n g))))) := by
  obtain ⟨l, ⟨a1, a2, a3⟩, b, c1, c2, c3⟩ := s
  refine ⟨l, ?_⟩
  obtain ⟨t', e, c⟩ := hn_c h
  obtain ⟨u', e', c'⟩ := hn_c g
  have et : t' = t := by omega
  have eu : u' = u := by omega
  subst et; subst eu
  have k1 : (hu_l l (P (O h)) ≤ 0 ∧ hu_l l (P (O (hn_n h))) ≤ 0 ∧ hu_l l (P (O (hn_n (hn_n h)))) ≤ 0)
    ∧ hu_l l (P (O h)) + hu_l l (P (O (hn_n h))) + hu_l l (P (O (hn_n (hn_n h)))) < 0 := by
    rcases c with c | c | c
    · rw [c, hn_0, hn_1]; exact ⟨⟨a1, a2, a3⟩, b⟩
    · rw [c, hn_1, hn_2]; exact ⟨⟨a2, a3, a1⟩, by omega⟩
    · rw [c, hn_2, hn_0]; exact ⟨⟨a3, a1, a2⟩, by omega⟩
  refine ⟨k1.1, k1.2, ?_⟩
  rcases c' with c | c | c
  · rw [c, hn_0, hn_1]; exact ⟨c1, c2, c3⟩
  · rw [c, hn_1, hn_2]; exact ⟨c2, c3, c1⟩
  · rw [c, hn_2, hn_0]; exact ⟨c3, c1, c2⟩
/-- a half-edge of the rim, as p sees it -/
def hr_R (P : Nat → hu_V) (O T : Nat → Nat) (A : Nat → Prop) (p : hu_V) (h : Nat) : Prop :=
  h < 78 ∧ A (h / 3) ∧ 0 < hm_t P O (h / 3) p ∧ hm_t P O (T h / 3) p ≤ 0
section
variable {P : Nat → hu_V} {S : Nat → Prop} {O T : Nat → Nat} {A : Nat → Prop}
theorem hr_S (M : hm_M P S O T A) {p : hu_V} {h : Nat} (r : hr_R P O T A p h) {x : Nat} (s : S x) :
    hu_d (P (O h)) (P (O (hn_n h))) p (P x) ≤ 0 := by
  obtain ⟨hh, a, v, n⟩ := r
  obtain ⟨l, b, _, _, _⟩ := hm_T M hh a
  exact (hm_rim M hh a v n).2 (P x) (hm_np M (by omega) a s) (hm_np M (by omega) b s)
theorem hr_a (M : hm_M P S O T A) {p : hu_V} {h : Nat} (r : hr_R P O T A p h) :
    S (O h) ∧ S (O (hn_n h)) ∧ S (O (hn_n (hn_n h))) := by
  obtain ⟨hh, a, v, n⟩ := r
  exact ⟨hm_S M hh a, hm_S M (hn_lt hh) (by rw [hn_d]; exact a), hm_S M (hn_lt (hn_lt hh)) (by rw [hn_d, hn_d]; exact a)⟩
theorem hr_c {p : hu_V} {h : Nat} (r : hr_R P O T A p h) : hu_d (P (O h)) (P (O (hn_n h))) p (P (O (hn_n (hn_n h)))) < 0 := by
  obtain ⟨hh, a, v, n⟩ := r
  rw [hm_e] at v
  rw [hu_d34 (P (O h)) (P (O (hn_n h))) (P (O (hn_n (hn_n h)))) p]
  omega
theorem hr_f (M : hm_M P S O T A) {p : hu_V} {h : Nat} (r : hr_R P O T A p h) {x : Nat} (s : S x) :
    hu_d (P (O h)) (P (O (hn_n h))) (P (O (hn_n (hn_n h)))) (P x) ≤ 0 := by
  obtain ⟨hh, a, v, n⟩ := r
  rw [← hm_e]; exact hm_np M (by omega) a s
theorem hr_p {p : hu_V} {h : Nat} (r : hr_R P O T A p h) : 0 < hu_d (P (O h)) (P (O (hn_n h))) (P (O (hn_n (hn_n h)))) p := by
  obtain ⟨hh, a, v, n⟩ := r
  rw [← hm_e]; exact v
/-- two half-edges of the rim that overlap are one -/
theorem hr_ov (M : hm_M P S O T A) {p o : hu_V} (ho : ∀ l, (∀ x, S x → hu_l l (P x) ≤ 0) → (∃ x, S x ∧ hu_l l (P x) < 0) → hu_l l o < 0)
    {h g : Nat} (rh : hr_R P O T A p h) (rg : hr_R P O T A p g)
    (o1 : hu_d (P (O h)) (P (O g)) p o ≤ 0) (o2 : hu_d (P (O g)) (P (O (hn_n h))) p o < 0) : h = g := by
  obtain ⟨a1, a2, a3⟩ := hr_a M rh
  obtain ⟨b1, b2, b3⟩ := hr_a M rg
  have Ho : hu_d (P (O h)) (P (O (hn_n h))) p o < 0 := ho (hu_c (P (O h)) (P (O (hn_n h))) p) (fun x s => hr_S M rh s) ⟨_, a3, hr_c rh⟩
  have Ho' : hu_d (P (O g)) (P (O (hn_n g))) p o < 0 := ho (hu_c (P (O g)) (P (O (hn_n g))) p) (fun x s => hr_S M rg s) ⟨_, b3, hr_c rg⟩
  rcases Nat.decEq (h / 3) (g / 3) with ne | e
  · exfalso
    obtain ⟨l, ⟨l1, l2, l3⟩, l4, l5, l6, l7⟩ := hm_sep3 (hm_sp M (show g / 3 < 26 by have := rg.1; omega) (show h / 3 < 26 by have := rh.1; omega) rg.2.1 rh.2.1 (fun x => ne x.symm)) rfl rfl
    exact ho_ov (hr_S M rh b1) (hr_S M rh b2) Ho (hr_S M rg a1) (hr_S M rg a2) Ho' (hr_p rh) (hr_f M rh b1) (hr_f M rh b2) (hr_f M rh b3)
      (hr_p rg) (hr_f M rg a1) (hr_f M rg a2) (hr_f M rg a3) o1 o2 l5 l6 l7 l1 l2 l4
  · obtain ⟨q1, q2, _⟩ := ho_ov1 (hr_S M rh b1) (hr_S M rh b2) Ho (hr_S M rg a1) (hr_S M rg a2) Ho' (hr_p rh) (hr_f M rh b1) (hr_f M rh b2)
      (hr_p rg) (hr_f M rg a1) (hr_f M rg a2) o1 o2
    have c := hr_c rh
    obtain ⟨t, e1, c1⟩ := hn_c h
    have e2 : g / 3 = t := by omega
    have c2 : g = 3 * t ∨ g = 3 * t + 1 ∨ g = 3 * t + 2 := by omega
    rcases c1 with c1 | c1 | c1 <;> rcases c2 with c2 | c2 | c2 <;> first | (exact c1.trans c2.symm) | skip
    all_goals
      exfalso
      subst c1; subst c2
      simp only [hn_0, hn_1, hn_2] at q1 q2 c
      omega
/-- the rim is one closed walk -/
theorem hr_one (M : hm_M P S O T A) {p : hu_V} {r : Nat → Nat} {n : Nat} (hn : 0 < n) (rr : ∀ i, i < n → hr_R P O T A p (r i))
    (cy : ∀ i, i < n → O (r (if i + 1 = n then 0 else i + 1)) = O (hn_n (r i))) {g : Nat} (rg : hr_R P O T A p g) : ∃ i, i < n ∧ r i = g := by
  obtain ⟨o, ho⟩ := hm_in M
  have Do : ∀ h, hr_R P O T A p h → 0 < -hu_d (P (O h)) (P (O (hn_n h))) p o := by
    intro h rh
    obtain ⟨_, _, a3⟩ := hr_a M rh
    have : hu_d (P (O h)) (P (O (hn_n h))) p o < 0 := ho (hu_c (P (O h)) (P (O (hn_n h))) p) (fun x s => hr_S M rh s) ⟨_, a3, hr_c rh⟩
    omega
  obtain ⟨i, hi, h1, h2⟩ := ho_cyc (D := fun i j => -hu_d (P i) (P j) p o) (v := fun i => if i = n then O (r 0) else O (r i)) (n := n)
    (fun i j => by show -hu_d (P j) (P i) p _ = - -hu_d (P i) (P j) p _; rw [hu_d12 (P i) (P j)])
    (fun a i j k => by
      show -hu_d (P i) (P j) p _ * -hu_d (P a) (P k) p _ + -hu_d (P j) (P k) p _ * -hu_d (P a) (P i) p _ + -hu_d (P k) (P i) p _ * -hu_d (P a) (P j) p _ = 0
      rw [Int.neg_mul_neg, Int.neg_mul_neg, Int.neg_mul_neg]; exact hu_pp _ _ _ _ _ _)
    hn
    (by show (if n = n then O (r 0) else O (r n)) = (if 0 = n then O (r 0) else O (r 0)); rw [if_pos rfl]; split <;> rfl)
    (by
      intro i hi
      show 0 < -hu_d (P (if i = n then O (r 0) else O (r i))) (P (if i + 1 = n then O (r 0) else O (r (i + 1)))) p o
      have e : (if i + 1 = n then O (r 0) else O (r (i + 1))) = O (hn_n (r i)) := by
        rw [← cy i hi]; split <;> rfl
      rw [e, if_neg (by omega)]; exact Do _ (rr i hi))
    (a := O g) (b := O (hn_n g)) (Do g rg)
  refine ⟨i, hi, ?_⟩
  have e : (if i + 1 = n then O (r 0) else O (r (i + 1))) = O (hn_n (r i)) := by
    rw [← cy i hi]; split <;> rfl
  have h1' : -hu_d (P (O g)) (P (if i = n then O (r 0) else O (r i))) p o ≤ 0 := h1
  have h2' : 0 < -hu_d (P (O g)) (P (if i + 1 = n then O (r 0) else O (r (i + 1)))) p o := h2
  rw [if_neg (by omega)] at h1'
  rw [e] at h2'
  refine hr_ov M ho (rr i hi) rg ?_ (by omega)
  rw [hu_d12 (P (O g)) (P (O (r i)))]; omega
end
/-- what insert leaves: the seen ones gone, one new triangle for each half-edge r i of the rim, in the place f i -/
def hw_N (P : Nat → hu_V) (O T : Nat → Nat) (A : Nat → Prop) (p n : Nat) (r f : Nat → Nat) (O' T' : Nat → Nat) (A' : Nat → Prop) : Prop :=
  0 < n ∧
  (∀ i, i < n → hr_R P O T A (P p) (r i)) ∧
  (∀ i, i < n → O (r (if i + 1 = n then 0 else i + 1)) = O (hn_n (r i))) ∧
  (∀ i j, i < n → j < n → r i = r j → i = j) ∧
  (∀ i, i < n → f i < 26 ∧ ¬ (A (f i) ∧ hm_t P O (f i) (P p) ≤ 0)) ∧
  (∀ i j, i < n → j < n → f i = f j → i = j) ∧
  (∀ t, t < 26 → (A' t ↔ ((A t ∧ hm_t P O t (P p) ≤ 0) ∨ ∃ i, i < n ∧ t = f i))) ∧
  (∀ i, i < n → O' (3 * f i) = O (r i) ∧ O' (3 * f i + 1) = O (hn_n (r i)) ∧ O' (3 * f i + 2) = p) ∧
  (∀ h, h < 78 → A (h / 3) → hm_t P O (h / 3) (P p) ≤ 0 → O' h = O h) ∧
  (∀ i, i < n → T' (3 * f i) = T (r i) ∧ T' (T (r i)) = 3 * f i) ∧
  (∀ i, i < n → T' (3 * f i + 1) = 3 * f (if i + 1 = n then 0 else i + 1) + 2 ∧ T' (3 * f (if i + 1 = n then 0 else i + 1) + 2) = 3 * f i + 1) ∧
  (∀ h, h < 78 → A (h / 3) → hm_t P O (h / 3) (P p) ≤ 0 → hm_t P O (T h / 3) (P p) ≤ 0 → T' h = T h)
section
variable {P : Nat → hu_V} {S : Nat → Prop} {O T : Nat → Nat} {A : Nat → Prop} {p n : Nat} {r f : Nat → Nat} {O' T' : Nat → Nat} {A' : Nat → Prop}
/-- a new triangle's plane -/
theorem hw_t (N : hw_N P O T A p n r f O' T' A') {i : Nat} (hi : i < n) (x : hu_V) :
    hm_t P O' (f i) x = hu_d (P (O (r i))) (P (O (hn_n (r i)))) (P p) x := by
  obtain ⟨_, _, _, _, _, _, _, o, _⟩ := N
  obtain ⟨e1, e2, e3⟩ := o i hi
  unfold hm_t; rw [e1, e2, e3]
/-- an old triangle's corners -/
theorem hw_o (N : hw_N P O T A p n r f O' T' A') {t : Nat} (ht : t < 26) (a : A t) (v : hm_t P O t (P p) ≤ 0) :
    O' (3 * t) = O (3 * t) ∧ O' (3 * t + 1) = O (3 * t + 1) ∧ O' (3 * t + 2) = O (3 * t + 2) := by
  obtain ⟨_, _, _, _, _, _, _, _, o, _⟩ := N
  have e0 : 3 * t / 3 = t := by omega
  have e1 : (3 * t + 1) / 3 = t := by omega
  have e2 : (3 * t + 2) / 3 = t := by omega
  exact ⟨o _ (by omega) (by rw [e0]; exact a) (by rw [e0]; exact v), o _ (by omega) (by rw [e1]; exact a) (by rw [e1]; exact v),
    o _ (by omega) (by rw [e2]; exact a) (by rw [e2]; exact v)⟩
theorem hw_ot (N : hw_N P O T A p n r f O' T' A') {t : Nat} (ht : t < 26) (a : A t) (v : hm_t P O t (P p) ≤ 0) (x : hu_V) :
    hm_t P O' t x = hm_t P O t x := by
  obtain ⟨e1, e2, e3⟩ := hw_o N ht a v
  unfold hm_t; rw [e1, e2, e3]
theorem hw_pr {n i : Nat} (hi : i < n) : ∃ j, j < n ∧ (if j + 1 = n then 0 else j + 1) = i := by
  rcases Nat.eq_zero_or_pos i with e | e
  · exact ⟨n - 1, by omega, by rw [if_pos (by omega), e]⟩
  · exact ⟨i - 1, by omega, by rw [if_neg (by omega)]; omega⟩
theorem hw_nx {n i : Nat} (hi : i < n) : (if i + 1 = n then 0 else i + 1) < n := by split <;> omega
/-- the twins -/
theorem hw_tw (M : hm_M P S O T A) (N : hw_N P O T A p n r f O' T' A') {h : Nat} (hh : h < 78) (a : A' (h / 3)) :
    T' h < 78 ∧ A' (T' h / 3) ∧ T' (T' h) = h ∧ O' (T' h) = O' (hn_n h) ∧ O' (hn_n (T' h)) = O' h := by
  have N' := N
  obtain ⟨n0, rr, cy, ri, ff, fi, aa, oo, ok, t1, t2, tk⟩ := N
  rcases (aa _ (by omega)).mp a with ⟨ao, vo⟩ | ⟨i, hi, e⟩
  · -- an old one
    obtain ⟨m1, m2, m3, m4, m5⟩ := hm_T M hh ao
    rcases Int.lt_or_le 0 (hm_t P O (T h / 3) (P p)) with c | c
    · -- its neighbour is gone
      obtain ⟨i, hi, ei⟩ := hr_one M n0 rr cy (g := T h) ⟨m1, m2, c, by rw [m3]; exact vo⟩
      have e1 := t1 i hi
      rw [ei, m3] at e1
      obtain ⟨f1, f2⟩ := ff i hi
      obtain ⟨o1, o2, o3⟩ := oo i hi
      rw [e1.2]
      refine ⟨by omega, ?_, e1.1, ?_, ?_⟩
      · rw [show 3 * f i / 3 = f i by omega]
        exact (aa _ f1).mpr (Or.inr ⟨i, hi, rfl⟩)
      · rw [o1, ei, m4, ok _ (hn_lt hh) (by rw [hn_d]; exact ao) (by rw [hn_d]; exact vo)]
      · rw [hn_0, o2, ei, m5, ok _ hh ao vo]
    · rw [tk h hh ao vo c]
      refine ⟨m1, ?_, ?_, ?_, ?_⟩
      · exact (aa _ (by omega)).mpr (Or.inl ⟨m2, c⟩)
      · rw [tk (T h) m1 m2 c (by rw [m3]; exact vo), m3]
      · rw [ok _ m1 m2 c, m4, ok _ (hn_lt hh) (by rw [hn_d]; exact ao) (by rw [hn_d]; exact vo)]
      · rw [ok _ (hn_lt m1) (by rw [hn_d]; exact m2) (by rw [hn_d]; exact c), m5, ok _ hh ao vo]
  · obtain ⟨f1, f2⟩ := ff i hi
    obtain ⟨o1, o2, o3⟩ := oo i hi
    have c : h = 3 * f i ∨ h = 3 * f i + 1 ∨ h = 3 * f i + 2 := by omega
    rcases c with c | c | c
    · obtain ⟨e1, e2⟩ := t1 i hi
      obtain ⟨rh, ra, rv, rn⟩ := rr i hi
      obtain ⟨m1, m2, m3, m4, m5⟩ := hm_T M rh ra
      rw [c, e1]
      refine ⟨m1, ?_, e2, ?_, ?_⟩
      · exact (aa _ (by omega)).mpr (Or.inl ⟨m2, rn⟩)
      · rw [hn_0, o2, ok _ m1 m2 rn, m4]
      · rw [o1, ok _ (hn_lt m1) (by rw [hn_d]; exact m2) (by rw [hn_d]; exact rn), m5]
    · obtain ⟨e1, e2⟩ := t2 i hi
      obtain ⟨p1, p2, p3⟩ := oo _ (hw_nx hi)
      rw [c, e1]
      have k := (ff _ (hw_nx hi)).1
      refine ⟨by omega, ?_, e2, ?_, ?_⟩
      · rw [show (3 * f (if i + 1 = n then 0 else i + 1) + 2) / 3 = f (if i + 1 = n then 0 else i + 1) by omega]
        exact (aa _ k).mpr (Or.inr ⟨_, hw_nx hi, rfl⟩)
      · rw [hn_1, p3, o3]
      · rw [hn_2, p1, o2, cy i hi]
    · obtain ⟨j, hj, ej⟩ := hw_pr hi
      obtain ⟨e1, e2⟩ := t2 j hj
      rw [ej] at e1 e2
      obtain ⟨p1, p2, p3⟩ := oo j hj
      rw [c, e2]
      have k := (ff j hj).1
      refine ⟨by omega, ?_, e1, ?_, ?_⟩
      · rw [show (3 * f j + 1) / 3 = f j by omega]
        exact (aa _ k).mpr (Or.inr ⟨_, hj, rfl⟩)
      · rw [hn_2, o1, p2, ← cy j hj, ej]
      · rw [hn_1, p3, o3]
/-- planes that meet in a triangle -/
theorem hw_cop (M : hm_M P S O T A) {t u : Nat} (ht : t < 26) (hu : u < 26) (a : A t) (b : A u)
    (z : hm_t P O u (P (O (3 * t))) + hm_t P O u (P (O (3 * t + 1))) + hm_t P O u (P (O (3 * t + 2))) = 0) (x : hu_V) :
    (0 < hm_t P O u x → 0 < hm_t P O t x) ∧ (hm_t P O u x = 0 → hm_t P O t x = 0) := by
  obtain ⟨s0, s1, s2⟩ := hm_S3 M ht a
  have h0 := hm_np M hu b s0
  have h1 := hm_np M hu b s1
  have h2 := hm_np M hu b s2
  obtain ⟨y, sy, hy⟩ := hm_ng M hu b
  have e : hm_t P O u x * hm_t P O t (P y) = hm_t P O u (P y) * hm_t P O t x :=
    hu_prop (l := hu_c (P (O (3 * u))) (P (O (3 * u + 1))) (P (O (3 * u + 2)))) (show hm_t P O u _ = 0 by omega) (show hm_t P O u _ = 0 by omega)
      (show hm_t P O u _ = 0 by omega) x (P y)
  have h3 := hm_np M ht a sy
  have h4 : hm_t P O t (P y) < 0 := by
    rcases Int.lt_or_le (hm_t P O t (P y)) 0 with c | c
    · exact c
    · exfalso
      obtain ⟨y', sy', hy'⟩ := hm_ng M ht a
      have e2 : hm_t P O u (P y') * hm_t P O t (P y) = hm_t P O u (P y) * hm_t P O t (P y') :=
        hu_prop (l := hu_c (P (O (3 * u))) (P (O (3 * u + 1))) (P (O (3 * u + 2)))) (show hm_t P O u _ = 0 by omega) (show hm_t P O u _ = 0 by omega)
          (show hm_t P O u _ = 0 by omega) (P y') (P y)
      rw [show hm_t P O t (P y) = 0 by omega, Int.mul_zero] at e2
      have := sg_nn hy hy'
      omega
  constructor
  · intro k
    have k2 := sg_pn k h4
    rw [e] at k2
    exact sg_dn hy k2
  · intro k
    rw [k, Int.zero_mul] at e
    exact sg_dz hy e.symm
/-- no two of the new mesh overlap -/
theorem hw_sp (M : hm_M P S O T A) (N : hw_N P O T A p n r f O' T' A') {t u : Nat} (ht : t < 26) (hu : u < 26) (a : A' t) (b : A' u) (ne : t ≠ u) :
    hm_sep P O' t u := by
  have N' := N
  obtain ⟨n0, rr, cy, ri, ff, fi, aa, oo, ok, t1, t2, tk⟩ := N
  rcases (aa _ ht).mp a with ⟨at', vt⟩ | ⟨i, hi, ei⟩ <;> rcases (aa _ hu).mp b with ⟨au, vu⟩ | ⟨j, hj, ej⟩
  · obtain ⟨e1, e2, e3⟩ := hw_o N' ht at' vt
    obtain ⟨e4, e5, e6⟩ := hw_o N' hu au vu
    have s := hm_sp M ht hu at' au ne
    unfold hm_sep at s ⊢
    rw [e1, e2, e3, e4, e5, e6]; exact s
  · -- old, new: the plane of the triangle that was seen there
    obtain ⟨rh, ra, rv, rn⟩ := rr j hj
    obtain ⟨e1, e2, e3⟩ := hw_o N' ht at' vt
    obtain ⟨o1, o2, o3⟩ := oo j hj
    obtain ⟨s0, s1, s2⟩ := hm_S3 M ht at'
    have k : r j / 3 < 26 := by omega
    have h0 := hm_np M k ra s0
    have h1 := hm_np M k ra s1
    have h2 := hm_np M k ra s2
    have neg : hm_t P O (r j / 3) (P (O (3 * t))) + hm_t P O (r j / 3) (P (O (3 * t + 1))) + hm_t P O (r j / 3) (P (O (3 * t + 2))) < 0 := by
      rcases Int.lt_or_le (hm_t P O (r j / 3) (P (O (3 * t))) + hm_t P O (r j / 3) (P (O (3 * t + 1))) + hm_t P O (r j / 3) (P (O (3 * t + 2)))) 0 with c | c
      · exact c
      · have := (hw_cop M ht k at' ra (by omega) (P p)).1 rv
        omega
    refine ⟨hu_c (P (O (3 * (r j / 3)))) (P (O (3 * (r j / 3) + 1))) (P (O (3 * (r j / 3) + 2))), ?_, ?_, ?_⟩
    · rw [e1, e2, e3]; exact ⟨h0, h1, h2⟩
    · rw [e1, e2, e3]; exact neg
    · rw [ej, o1, o2, o3]
      refine ⟨Int.le_of_eq ?_, Int.le_of_eq ?_, Int.le_of_lt rv⟩
      · show 0 = hm_t P O (r j / 3) _; rw [hm_e, hu_z14]
      · show 0 = hm_t P O (r j / 3) _; rw [hm_e, hu_z24]
  · -- new, old
    obtain ⟨rh, ra, rv, rn⟩ := rr i hi
    obtain ⟨e1, e2, e3⟩ := hw_o N' hu au vu
    obtain ⟨o1, o2, o3⟩ := oo i hi
    obtain ⟨s0, s1, s2⟩ := hm_S3 M hu au
    have k : r i / 3 < 26 := by omega
    have h0 := hm_np M k ra s0
    have h1 := hm_np M k ra s1
    have h2 := hm_np M k ra s2
    have z1 : hm_t P O (r i / 3) (P (O (r i))) = 0 := by rw [hm_e, hu_z14]
    have z2 : hm_t P O (r i / 3) (P (O (hn_n (r i)))) = 0 := by rw [hm_e, hu_z24]
    refine ⟨hu_k (-1) (hu_c (P (O (3 * (r i / 3)))) (P (O (3 * (r i / 3) + 1))) (P (O (3 * (r i / 3) + 2)))), ?_, ?_, ?_⟩
    · rw [ei, o1, o2, o3, hu_kl, hu_kl, hu_kl, ← hm_l, ← hm_l, ← hm_l]; omega
    · rw [ei, o1, o2, o3, hu_kl, hu_kl, hu_kl, ← hm_l, ← hm_l, ← hm_l]; omega
    · rw [e1, e2, e3, hu_kl, hu_kl, hu_kl, ← hm_l, ← hm_l, ← hm_l]; omega
  · -- new, new
    have nij : r i ≠ r j := fun e => ne (by rw [ei, ej, ri i j hi hj e])
    obtain ⟨o1, o2, o3⟩ := oo i hi
    obtain ⟨o4, o5, o6⟩ := oo j hj
    have Ri := rr i hi
    have Rj := rr j hj
    obtain ⟨a1, a2, a3⟩ := hr_a M Ri
    obtain ⟨b1, b2, b3⟩ := hr_a M Rj
    unfold hm_sep
    rw [ei, ej, o1, o2, o3, o4, o5, o6]
    have H1 := hr_S M Rj a1
    have H2 := hr_S M Rj a2
    rcases Int.lt_or_le (hu_d (P (O (r j))) (P (O (hn_n (r j)))) (P p) (P (O (r i))) + hu_d (P (O (r j))) (P (O (hn_n (r j)))) (P p) (P (O (hn_n (r i))))) 0 with c | c
    · refine ⟨hu_c (P (O (r j))) (P (O (hn_n (r j)))) (P p), ⟨H1, H2, Int.le_of_eq (hu_z34 _ _ _)⟩, ?_, Int.le_of_eq (hu_z14 _ _ _).symm, Int.le_of_eq (hu_z24 _ _ _).symm, Int.le_of_eq (hu_z34 _ _ _).symm⟩
      show hu_d _ _ _ _ + hu_d _ _ _ _ + hu_d _ _ _ _ < 0
      rw [hu_z34]; omega
    · -- all in one plane with p
      have z1 : hu_d (P (O (r j))) (P (O (hn_n (r j)))) (P p) (P (O (r i))) = 0 := by omega
      have z2 : hu_d (P (O (r j))) (P (O (hn_n (r j)))) (P p) (P (O (hn_n (r i)))) = 0 := by omega
      obtain ⟨o, ho⟩ := hm_in M
      have Doi : hu_d (P (O (r i))) (P (O (hn_n (r i)))) (P p) o < 0 := ho (hu_c (P (O (r i))) (P (O (hn_n (r i)))) (P p)) (fun x s => hr_S M Ri s) ⟨_, a3, hr_c Ri⟩
      have Doj : hu_d (P (O (r j))) (P (O (hn_n (r j)))) (P p) o < 0 := ho (hu_c (P (O (r j))) (P (O (hn_n (r j)))) (P p)) (fun x s => hr_S M Rj s) ⟨_, b3, hr_c Rj⟩
      -- the depth as p sees it
      have kp : ∀ x, S x → 0 < hm_t P O (r i / 3) (P p) * (P x).1 - hm_t P O (r i / 3) (P x) := by
        intro x s
        rw [hm_w M, Int.mul_one]
        have := hm_np M (show r i / 3 < 26 by have := Ri.1; omega) Ri.2.1 s
        have := Ri.2.2.1
        omega
      have tr : ∀ x y z, hu_d x y z (P p) = 0 →
          hu_d x y (P p) o * (hm_t P O (r i / 3) (P p) * z.1 - hm_t P O (r i / 3) z) + hu_d y z (P p) o * (hm_t P O (r i / 3) (P p) * x.1 - hm_t P O (r i / 3) x)
          = hu_d x z (P p) o * (hm_t P O (r i / 3) (P p) * y.1 - hm_t P O (r i / 3) y) := by
        intro x y z e
        have h1 := hu_F5 (hu_a (hu_k (hm_t P O (r i / 3) (P p)) hu_w) (hu_k (-1) (hu_c (P (O (3 * (r i / 3)))) (P (O (3 * (r i / 3) + 1))) (P (O (3 * (r i / 3) + 2)))))) x y z (P p) o
        have e1 : ∀ q, hu_l (hu_a (hu_k (hm_t P O (r i / 3) (P p)) hu_w) (hu_k (-1) (hu_c (P (O (3 * (r i / 3)))) (P (O (3 * (r i / 3) + 1))) (P (O (3 * (r i / 3) + 2)))))) q
            = hm_t P O (r i / 3) (P p) * q.1 - hm_t P O (r i / 3) q := by
          intro q
          rw [hu_al, hu_kl, hu_kl, hu_lw, ← hm_l]; omega
        rw [e1, e1, e1, e1, e1, hm_w M, e, Int.mul_one, Int.mul_zero, Int.sub_self, Int.zero_mul] at h1
        rw [Int.mul_comm (hu_d x y (P p) o), Int.mul_comm (hu_d y z (P p) o), Int.mul_comm (hu_d x z (P p) o)]
        omega
      -- four points in the plane of r j and p
      have inp : ∀ x y z : hu_V, hu_d (P (O (r j))) (P (O (hn_n (r j)))) (P p) x = 0 → hu_d (P (O (r j))) (P (O (hn_n (r j)))) (P p) y = 0 →
          hu_d (P (O (r j))) (P (O (hn_n (r j)))) (P p) z = 0 → hu_d x y z (P p) = 0 := by
        intro x y z e1 e2 e3
        have h1 := hu_prop (l := hu_c (P (O (r j))) (P (O (hn_n (r j)))) (P p)) e1 e2 e3 o (P p)
        have h2 : hu_l (hu_c (P (O (r j))) (P (O (hn_n (r j)))) (P p)) (P p) = 0 := hu_z34 _ _ _
        rw [h2, Int.zero_mul] at h1
        exact sg_dz Doj h1
      rcases Int.lt_or_le 0 (hu_d (P (O (r i))) (P (O (r j))) (P p) o) with c1 | c1
      · -- r j begins before r i
        rcases Int.lt_or_le (hu_d (P (O (r i))) (P (O (hn_n (r j)))) (P p) o) 0 with c2 | c2
        · exact absurd (hr_ov M ho Rj Ri (by rw [hu_d12 (P (O (r i))) (P (O (r j)))]; omega) c2).symm nij
        · -- b' at or before a: D(., b')
          have e := tr (P (O (hn_n (r j)))) (P (O (r i))) (P (O (hn_n (r i)))) (inp _ _ _ (hu_z24 _ _ _) z1 z2)
          have k1 := kp _ b2
          have k2 := kp _ a1
          have k3 := kp _ a2
          have d1 : hu_d (P (O (hn_n (r j)))) (P (O (r i))) (P p) o ≤ 0 := by rw [hu_d12 (P (O (r i))) (P (O (hn_n (r j))))]; omega
          have q1 := sg_n0 d1 (Int.le_of_lt k3)
          have q2 := sg_np Doi k1
          have q3 : hu_d (P (O (hn_n (r j)))) (P (O (hn_n (r i)))) (P p) o < 0 := by
            refine sg_cn k2 ?_
            rw [Int.mul_comm, ← e]; omega
          -- l x = d b' x p o up to sign
          refine ⟨hu_c (P (O (hn_n (r j)))) (P p) o, ?_, ?_, ?_⟩
          · refine ⟨?_, ?_, ?_⟩
            · show hu_d (P (O (hn_n (r j)))) (P p) o (P (O (r i))) ≤ 0; rw [← hu_mv]; exact d1
            · show hu_d (P (O (hn_n (r j)))) (P p) o (P (O (hn_n (r i)))) ≤ 0; rw [← hu_mv]; omega
            · exact Int.le_of_eq (hu_z24 _ _ _)
          · show hu_d (P (O (hn_n (r j)))) (P p) o (P (O (r i))) + hu_d (P (O (hn_n (r j)))) (P p) o (P (O (hn_n (r i)))) + hu_d (P (O (hn_n (r j)))) (P p) o (P p) < 0
            rw [← hu_mv (P (O (hn_n (r j)))) (P (O (r i))) (P p) o, ← hu_mv (P (O (hn_n (r j)))) (P (O (hn_n (r i)))) (P p) o, hu_z24]; omega
          · refine ⟨?_, Int.le_of_eq (hu_z14 _ _ _).symm, Int.le_of_eq (hu_z24 _ _ _).symm⟩
            show 0 ≤ hu_d (P (O (hn_n (r j)))) (P p) o (P (O (r j)))
            rw [← hu_mv, hu_d12 (P (O (r j))) (P (O (hn_n (r j))))]; omega
      · rcases Int.lt_or_le (hu_d (P (O (r j))) (P (O (hn_n (r i)))) (P p) o) 0 with c2 | c2
        · exact absurd (hr_ov M ho Ri Rj c1 c2) nij
        · -- b at or before a': D(b, .)
          have e := tr (P (O (hn_n (r i)))) (P (O (r j))) (P (O (hn_n (r j)))) (inp _ _ _ z2 (hu_z14 _ _ _) (hu_z24 _ _ _))
          have k1 := kp _ a2
          have k2 := kp _ b1
          have k3 := kp _ b2
          have d1 : hu_d (P (O (hn_n (r i)))) (P (O (r j))) (P p) o ≤ 0 := by rw [hu_d12 (P (O (r j))) (P (O (hn_n (r i))))]; omega
          have q1 := sg_n0 d1 (Int.le_of_lt k3)
          have q2 := sg_np Doj k1
          have q3 : hu_d (P (O (hn_n (r i)))) (P (O (hn_n (r j)))) (P p) o < 0 := by
            refine sg_cn k2 ?_
            rw [Int.mul_comm, ← e]; omega
          refine ⟨hu_k (-1) (hu_c (P (O (hn_n (r i)))) (P p) o), ?_, ?_, ?_⟩
          · rw [hu_kl, hu_kl, hu_kl]
            have y1 : hu_l (hu_c (P (O (hn_n (r i)))) (P p) o) (P (O (r i))) = - hu_d (P (O (r i))) (P (O (hn_n (r i)))) (P p) o := by
              show hu_d (P (O (hn_n (r i)))) (P p) o (P (O (r i))) = _
              rw [← hu_mv, hu_d12 (P (O (r i))) (P (O (hn_n (r i))))]
            have y2 : hu_l (hu_c (P (O (hn_n (r i)))) (P p) o) (P (O (hn_n (r i)))) = 0 := hu_z14 _ _ _
            have y3 : hu_l (hu_c (P (O (hn_n (r i)))) (P p) o) (P p) = 0 := hu_z24 _ _ _
            rw [y1, y2, y3]; omega
          · rw [hu_kl, hu_kl, hu_kl]
            have y1 : hu_l (hu_c (P (O (hn_n (r i)))) (P p) o) (P (O (r i))) = - hu_d (P (O (r i))) (P (O (hn_n (r i)))) (P p) o := by
              show hu_d (P (O (hn_n (r i)))) (P p) o (P (O (r i))) = _
              rw [← hu_mv, hu_d12 (P (O (r i))) (P (O (hn_n (r i))))]
            have y2 : hu_l (hu_c (P (O (hn_n (r i)))) (P p) o) (P (O (hn_n (r i)))) = 0 := hu_z14 _ _ _
            have y3 : hu_l (hu_c (P (O (hn_n (r i)))) (P p) o) (P p) = 0 := hu_z24 _ _ _
            rw [y1, y2, y3]; omega
          · rw [hu_kl, hu_kl, hu_kl]
            have y1 : hu_l (hu_c (P (O (hn_n (r i)))) (P p) o) (P (O (r j))) = hu_d (P (O (hn_n (r i)))) (P (O (r j))) (P p) o := (hu_mv _ _ _ _).symm
            have y2 : hu_l (hu_c (P (O (hn_n (r i)))) (P p) o) (P (O (hn_n (r j)))) = hu_d (P (O (hn_n (r i)))) (P (O (hn_n (r j)))) (P p) o := (hu_mv _ _ _ _).symm
            have y3 : hu_l (hu_c (P (O (hn_n (r i)))) (P p) o) (P p) = 0 := hu_z24 _ _ _
            rw [y1, y2, y3]; omega
theorem hw_M (M : hm_M P S O T A) (N : hw_N P O T A p n r f O' T' A') : hm_M P (fun x => S x ∨ x = p) O' T' A' := by
  have N' := N
  obtain ⟨n0, rr, cy, ri, ff, fi, aa, oo, ok, t1, t2, tk⟩ := N
  refine ⟨M.1, ?_, ?_, ?_, fun h hh a => hw_tw M N' hh a, fun t u ht hu a b ne => hw_sp M N' ht hu a b ne, ?_, ?_⟩
  · intro h hh a
    rcases (aa _ (by omega)).mp a with ⟨ao, vo⟩ | ⟨i, hi, e⟩
    · rw [ok h hh ao vo]; exact Or.inl (hm_S M hh ao)
    · obtain ⟨o1, o2, o3⟩ := oo i hi
      obtain ⟨a1, a2, a3⟩ := hr_a M (rr i hi)
      have c : h = 3 * f i ∨ h = 3 * f i + 1 ∨ h = 3 * f i + 2 := by omega
      rcases c with c | c | c
      · rw [c, o1]; exact Or.inl a1
      · rw [c, o2]; exact Or.inl a2
      · rw [c, o3]; exact Or.inr rfl
  · intro t ht a x s
    rcases (aa _ ht).mp a with ⟨ao, vo⟩ | ⟨i, hi, e⟩
    · rw [hw_ot N' ht ao vo]
      rcases s with s | s
      · exact hm_np M ht ao s
      · rw [s]; exact vo
    · rw [e, hw_t N' hi]
      rcases s with s | s
      · exact hr_S M (rr i hi) s
      · rw [s, hu_z34]; exact Int.le_refl 0
  · intro t ht a
    rcases (aa _ ht).mp a with ⟨ao, vo⟩ | ⟨i, hi, e⟩
    · obtain ⟨x, sx, hx⟩ := hm_ng M ht ao
      exact ⟨x, Or.inl sx, by rw [hw_ot N' ht ao vo]; exact hx⟩
    · obtain ⟨a1, a2, a3⟩ := hr_a M (rr i hi)
      exact ⟨_, Or.inl a3, by rw [e, hw_t N' hi]; exact hr_c (rr i hi)⟩
  · obtain ⟨f1, _⟩ := ff 0 n0
    exact ⟨f 0, f1, (aa _ f1).mpr (Or.inr ⟨0, n0, rfl⟩)⟩
  · obtain ⟨a, b, c, d, sa, sb, sc, sd, ne⟩ := hm_4 M
    exact ⟨a, b, c, d, Or.inl sa, Or.inl sb, Or.inl sc, Or.inl sd, ne⟩
/-- a point that no triangle sees -/
theorem hw_no (M : hm_M P S O T A) (h : ∀ t, t < 26 → A t → hm_t P O t (P p) ≤ 0) : hm_M P (fun x => S x ∨ x = p) O T A := by
  refine ⟨M.1, fun h hh a => Or.inl (hm_S M hh a), ?_, ?_, fun h hh a => hm_T M hh a, fun t u ht hu a b ne => hm_sp M ht hu a b ne, hm_ex M, ?_⟩
  · intro t ht a x s
    rcases s with s | s
    · exact hm_np M ht a s
    · rw [s]; exact h t ht a
  · intro t ht a
    obtain ⟨x, sx, hx⟩ := hm_ng M ht a
    exact ⟨x, Or.inl sx, hx⟩
  · obtain ⟨a, b, c, d, sa, sb, sc, sd, ne⟩ := hm_4 M
    exact ⟨a, b, c, d, Or.inl sa, Or.inl sb, Or.inl sc, Or.inl sd, ne⟩
end
end
section
/-! turning round a corner -/
def hi_t (f : Nat → Nat) : Nat → Nat → Nat
  | 0, g => g
  | n + 1, g => f (hi_t f n g)
theorem hi_add (f : Nat → Nat) (a : Nat) : ∀ b g, hi_t f (a + b) g = hi_t f b (hi_t f a g)
  | 0, _ => rfl
  | b + 1, g => by show f (hi_t f (a + b) g) = f (hi_t f b (hi_t f a g)); rw [hi_add f a b g]
theorem hi_q {f : Nat → Nat} {Q : Nat → Prop} (h : ∀ i, Q i → Q (f i)) {g : Nat} (q : Q g) : ∀ n, Q (hi_t f n g)
  | 0 => q
  | n + 1 => h _ (hi_q h q n)
theorem hi_inj {f : Nat → Nat} {Q : Nat → Prop} (h : ∀ i, Q i → Q (f i)) (inj : ∀ i j, Q i → Q j → f i = f j → i = j) :
    ∀ n g k, Q g → Q k → hi_t f n g = hi_t f n k → g = k
  | 0, _, _, _, _, e => e
  | n + 1, g, k, qg, qk, e => hi_inj h inj n g k qg qk (inj _ _ (hi_q h qg n) (hi_q h qk n) e)
/-- an injective step on a finite set comes back -/
theorem hi_ret {f : Nat → Nat} {Q : Nat → Prop} {N : Nat} (h : ∀ i, Q i → Q (f i)) (lt : ∀ i, Q i → i < N) (inj : ∀ i j, Q i → Q j → f i = f j → i = j)
    {g : Nat} (q : Q g) : ∃ n, 0 < n ∧ n ≤ N ∧ hi_t f n g = g := by
  rcases Classical.em (∃ i j, i < j ∧ j ≤ N ∧ hi_t f i g = hi_t f j g) with ⟨i, j, hij, hj, e⟩ | hno
  · refine ⟨j - i, by omega, by omega, ?_⟩
    have e2 : hi_t f j g = hi_t f i (hi_t f (j - i) g) := by
      rw [← hi_add, show j - i + i = j by omega]
    rw [e2] at e
    exact (hi_inj h inj i g _ q (hi_q h q (j - i)) e).symm
  · exfalso
    have := hs_ninj (Q := Q) (n := N) (f := fun i => hi_t f i g) (k := N + 1) (fun i _ => ⟨lt _ (hi_q h q i), hi_q h q i⟩) (by
      intro i j hi hj e
      rcases Nat.lt_trichotomy i j with c | c | c
      · exact absurd ⟨i, j, c, by omega, e⟩ hno
      · exact c
      · exact absurd ⟨j, i, c, by omega, e.symm⟩ hno)
    have := hs_nle Q N
    omega
/-- a sum of vectors -/
def hu_s (f : Nat → hu_V) (n : Nat) : hu_V :=
  (hs_s (fun i => (f i).1) n, hs_s (fun i => (f i).2.1) n, hs_s (fun i => (f i).2.2.1) n, hs_s (fun i => (f i).2.2.2) n)
theorem hu_ls (l : hu_V) (f : Nat → hu_V) : ∀ n, hu_l l (hu_s f n) = hs_s (fun i => hu_l l (f i)) n
  | 0 => by simp only [hu_s, hs_s, hu_l]; omega
  | n + 1 => by
    rw [hs_s1, ← hu_ls l f n, ← hu_la]
    rfl
section
variable {P : Nat → hu_V} {S : Nat → Prop} {O T : Nat → Nat} {A : Nat → Prop}
/-- the surface isn't flat -/
theorem hm_flat (M : hm_M P S O T A) {t : Nat} (ht : t < 26) (a : A t) : ∃ h, h < 78 ∧ A (h / 3) ∧ hm_t P O t (P (O h)) < 0 := by
  rcases Classical.em (∃ h, h < 78 ∧ A (h / 3) ∧ hm_t P O t (P (O h)) < 0) with c | c
  · exact c
  exfalso
  have z : ∀ h, h < 78 → A (h / 3) → hm_t P O t (P (O h)) = 0 := by
    intro h hh b
    have h1 := hm_np M ht a (hm_S M hh b)
    rcases Int.lt_or_le (hm_t P O t (P (O h))) 0 with d | d
    · exact absurd ⟨h, hh, b, d⟩ c
    · omega
  obtain ⟨y, sy, hy⟩ := hm_ng M ht a
  have s1 := hx_st (O := O) (T := T) (G := A) (fun h hh g _ => by
      obtain ⟨x1, _, x3, x4, x5⟩ := hm_T M hh g
      exact ⟨x1, x3, x4, x5⟩) (f := fun i j => - hu_d (P i) (P j) (P (O (3 * t))) (P y))
    (fun i j => by show -hu_d (P j) (P i) _ _ = - -hu_d (P i) (P j) _ _; rw [hu_d12 (P i) (P j)])
  have e2 : hs_s (fun h => hs_i (A (h / 3) ∧ ¬ A (T h / 3)) * - hu_d (P (O h)) (P (O (hn_n h))) (P (O (3 * t))) (P y)) 78 = 0 := by
    refine hs_0 fun h hh => ?_
    rw [hs_if (fun k => k.2 (hm_T M hh k.1).2.1)]; omega
  rw [e2] at s1
  have neg : ∀ u, u < 26 → A u → hm_t P O u (P y) < 0 ∧ hm_t P O u (P (O (3 * t))) = 0 := by
    intro u hu b
    have z0 := z (3 * u) (by omega) (by rw [show 3 * u / 3 = u by omega]; exact b)
    have z1 := z (3 * u + 1) (by omega) (by rw [show (3 * u + 1) / 3 = u by omega]; exact b)
    have z2 := z (3 * u + 2) (by omega) (by rw [show (3 * u + 2) / 3 = u by omega]; exact b)
    have cp := fun x => hw_cop M hu ht b a (by omega) x
    refine ⟨?_, (cp _).2 (by unfold hm_t; rw [hu_z14])⟩
    have h1 := hm_np M hu b sy
    rcases Int.lt_or_le (hm_t P O u (P y)) 0 with d | d
    · exact d
    · exfalso
      obtain ⟨y', sy', hy'⟩ := hm_ng M hu b
      have h2 := hm_np M ht a sy'
      have e3 : hm_t P O t (P y') * hm_t P O u (P y) = hm_t P O t (P y) * hm_t P O u (P y') :=
        hu_prop (l := hu_c (P (O (3 * t))) (P (O (3 * t + 1))) (P (O (3 * t + 2)))) z0 z1 z2 (P y') (P y)
      rw [show hm_t P O u (P y) = 0 by omega, Int.mul_zero] at e3
      have := sg_nn hy hy'
      omega
  have p1 : 0 < hs_s (fun u => hs_i (A u) * (-hu_d (P (O (3 * u))) (P (O (3 * u + 1))) (P (O (3 * t))) (P y) + -hu_d (P (O (3 * u + 1))) (P (O (3 * u + 2))) (P (O (3 * t))) (P y)
      + -hu_d (P (O (3 * u + 2))) (P (O (3 * u))) (P (O (3 * t))) (P y))) 26 := by
    have val : ∀ u, u < 26 → A u → 0 < -hu_d (P (O (3 * u))) (P (O (3 * u + 1))) (P (O (3 * t))) (P y) + -hu_d (P (O (3 * u + 1))) (P (O (3 * u + 2))) (P (O (3 * t))) (P y)
      + -hu_d (P (O (3 * u + 2))) (P (O (3 * u))) (P (O (3 * t))) (P y) := by
      intro u hu b
      obtain ⟨n1, n2⟩ := neg u hu b
      rw [hu_ds (hm_w M _) (hm_w M _) (hm_w M _) (hm_w M _), hm_w M]
      unfold hm_t at n1 n2
      omega
    refine Int.lt_of_lt_of_le ?_ (hs_ge (k := t) ?_ ht)
    · show 0 < hs_i (A t) * _
      rw [hs_it a, Int.one_mul]; exact val t ht a
    · intro u hu
      rcases Classical.em (A u) with d | d
      · rw [hs_it d, Int.one_mul]; exact Int.le_of_lt (val u hu d)
      · rw [hs_if d]; omega
  omega
/-- the sum of all corners of the surface -/
noncomputable def hm_z (P : Nat → hu_V) (O : Nat → Nat) (A : Nat → Prop) : hu_V := hu_s (fun h => hu_k (hs_i (A (h / 3))) (P (O h))) 78
theorem hm_zl (l : hu_V) : hu_l l (hm_z P O A) = hs_s (fun h => hs_i (A (h / 3)) * hu_l l (P (O h))) 78 := by
  unfold hm_z
  rw [hu_ls]
  exact hs_cg fun h _ => hu_lk _ _ _
theorem hm_z0 {l : hu_V} (hl : ∀ h, h < 78 → A (h / 3) → hu_l l (P (O h)) ≤ 0) : hu_l l (hm_z P O A) ≤ 0 := by
  rw [hm_zl]
  have : 0 ≤ hs_s (fun h => - (hs_i (A (h / 3)) * hu_l l (P (O h)))) 78 := hs_nn fun h hh => by
    rcases Classical.em (A (h / 3)) with c | c
    · rw [hs_it c]; have := hl h hh c; omega
    · rw [hs_if c]; omega
  rw [hs_neg] at this
  omega
theorem hm_zn {l : hu_V} (hl : ∀ h, h < 78 → A (h / 3) → hu_l l (P (O h)) ≤ 0) (hx : ∃ h, h < 78 ∧ A (h / 3) ∧ hu_l l (P (O h)) < 0) : hu_l l (hm_z P O A) < 0 := by
  rw [hm_zl]
  obtain ⟨k, hk, ak, nk⟩ := hx
  have := hs_ge (f := fun h => - (hs_i (A (h / 3)) * hu_l l (P (O h)))) (k := k) (n := 78) (fun h hh => by
    rcases Classical.em (A (h / 3)) with c | c
    · rw [hs_it c]; have := hl h hh c; omega
    · rw [hs_if c]; omega) hk
  rw [hs_neg, hs_it ak] at this
  omega
/-- what no triangle sees lies in the hull -/
theorem hm_hull (M : hm_M P S O T A) {q : hu_V} (hq : 0 ≤ q.1) (nq : ∀ t, t < 26 → A t → hm_t P O t q ≤ 0) {l : hu_V}
    (hl : ∀ x, S x → hu_l l (P x) ≤ 0) : hu_l l q ≤ 0 := by
  -- a corner where l is greatest
  obtain ⟨g, hg, ag, mg⟩ := hs_max (Q := fun h => h < 78 ∧ A (h / 3)) (num := fun h => hu_l l (P (O h))) (den := fun _ => 1) (fun _ _ => by omega) 78 (by
    obtain ⟨t, ht, a⟩ := hm_ex M
    exact ⟨3 * t, by omega, by omega, by rw [show 3 * t / 3 = t by omega]; exact a⟩)
  have mx : ∀ h, h < 78 → A (h / 3) → hu_l l (P (O h)) ≤ hu_l l (P (O g)) := by
    intro h hh a
    have : hu_l l (P (O h)) * 1 ≤ hu_l l (P (O g)) * 1 := mg h hh ⟨hh, a⟩
    omega
  clear mg
  obtain ⟨_, ag⟩ := ag
  -- the turn
  have st : ∀ h, (h < 78 ∧ A (h / 3) ∧ O h = O g) → (T (hn_n (hn_n h)) < 78 ∧ A (T (hn_n (hn_n h)) / 3) ∧ O (T (hn_n (hn_n h))) = O g) := by
    intro h ⟨hh, a, e⟩
    obtain ⟨m1, m2, m3, m4, m5⟩ := hm_T M (hn_lt (hn_lt hh)) (by rw [hn_d, hn_d]; exact a)
    exact ⟨m1, m2, by rw [m4, hn_3, e]⟩
  obtain ⟨n, n0, _, en⟩ := hi_ret (f := fun h => T (hn_n (hn_n h))) (Q := fun h => h < 78 ∧ A (h / 3) ∧ O h = O g) (N := 78) st (fun _ h => h.1) (by
    intro h k ⟨h1, h2, _⟩ ⟨k1, k2, _⟩ e
    obtain ⟨_, _, m3, _, _⟩ := hm_T M (hn_lt (hn_lt h1)) (by rw [hn_d, hn_d]; exact h2)
    obtain ⟨_, _, m3', _, _⟩ := hm_T M (hn_lt (hn_lt k1)) (by rw [hn_d, hn_d]; exact k2)
    have e' : T (hn_n (hn_n h)) = T (hn_n (hn_n k)) := e
    rw [e', m3'] at m3
    exact hn_inj (hn_inj m3.symm)) (g := g) ⟨hg, ag, rfl⟩
  have qs := hi_q (f := fun h => T (hn_n (hn_n h))) (Q := fun h => h < 78 ∧ A (h / 3) ∧ O h = O g) st (g := g) ⟨hg, ag, rfl⟩
  have no : ∀ h, h < 78 → A (h / 3) → hm_t P O (h / 3) (hm_z P O A) < 0 := fun h hh a =>
    hm_zn (l := hu_c _ _ _) (fun k hk b => hm_np M (show h / 3 < 26 by omega) a (hm_S M hk b)) (hm_flat M (show h / 3 < 26 by omega) a)
  have el : ∀ x : hu_V, hu_l (hu_a l (hu_k (- hu_l l (P (O g))) hu_w)) x = hu_l l x - hu_l l (P (O g)) * x.1 := by
    intro x
    rw [hu_al, hu_kl, hu_lw, Int.neg_mul]; omega
  have lo : hu_l l (hm_z P O A) - hu_l l (P (O g)) * (hm_z P O A).1 ≤ 0 := by
    rw [← el]
    refine hm_z0 fun h hh a => ?_
    rw [el, hm_w M, Int.mul_one]
    have := mx h hh a
    omega
  generalize hm_z P O A = o at no lo
  -- the sector that holds q
  have sec : ∃ h, h < 78 ∧ A (h / 3) ∧ O h = O g ∧ 0 ≤ hu_d q (P (O (hn_n h))) (P (O g)) o ∧ hu_d q (P (O (hn_n (hn_n h)))) (P (O g)) o ≤ 0 := by
    rcases Classical.em (∃ b, 0 < -hu_d q b (P (O g)) o) with ⟨b, hb⟩ | hb
    · obtain ⟨i, hi, h1, h2⟩ := ho_cyc (D := fun x y : hu_V => -hu_d x y (P (O g)) o) (v := fun i => P (O (hn_n (hi_t (fun h => T (hn_n (hn_n h))) i g)))) (n := n)
        (fun x y => by show -hu_d y x _ _ = - -hu_d x y _ _; rw [hu_d12 x y])
        (fun a i j k => by
          show -hu_d i j _ _ * -hu_d a k _ _ + -hu_d j k _ _ * -hu_d a i _ _ + -hu_d k i _ _ * -hu_d a j _ _ = 0
          rw [Int.neg_mul_neg, Int.neg_mul_neg, Int.neg_mul_neg]; exact hu_pp _ _ _ _ _ _)
        n0 (by show P (O (hn_n (hi_t _ n g))) = P (O (hn_n g)); rw [en])
        (by
          intro i _
          obtain ⟨q1, q2, q3⟩ := qs i
          show 0 < -hu_d (P (O (hn_n (hi_t (fun h => T (hn_n (hn_n h))) i g)))) (P (O (hn_n (T (hn_n (hn_n (hi_t (fun h => T (hn_n (hn_n h))) i g))))))) (P (O g)) o
          obtain ⟨_, _, _, _, m5⟩ := hm_T M (hn_lt (hn_lt q1)) (by rw [hn_d, hn_d]; exact q2)
          have := no _ q1 q2
          rw [hm_e, q3] at this
          rw [m5, hu_dcy]
          omega) (a := q) (b := b) hb
      obtain ⟨q1, q2, q3⟩ := qs i
      obtain ⟨_, _, _, _, m5⟩ := hm_T M (hn_lt (hn_lt q1)) (by rw [hn_d, hn_d]; exact q2)
      refine ⟨hi_t (fun h => T (hn_n (hn_n h))) i g, q1, q2, q3, ?_, ?_⟩
      · have h1' : -hu_d q (P (O (hn_n (hi_t (fun h => T (hn_n (hn_n h))) i g)))) (P (O g)) o ≤ 0 := h1
        omega
      · have h2' : 0 < -hu_d q (P (O (hn_n (T (hn_n (hn_n (hi_t (fun h => T (hn_n (hn_n h))) i g))))))) (P (O g)) o := h2
        rw [m5] at h2'
        omega
    · have z : ∀ b, hu_d q b (P (O g)) o = 0 := by
        intro b
        have h1 : ¬ 0 < -hu_d q b (P (O g)) o := fun x => hb ⟨b, x⟩
        have h2 : ¬ 0 < -hu_d q (hu_k (-1) b) (P (O g)) o := fun x => hb ⟨_, x⟩
        rw [hu_d2k] at h2
        omega
      exact ⟨g, hg, ag, rfl, by rw [z]; exact Int.le_refl 0, by rw [z]; exact Int.le_refl 0⟩
  obtain ⟨h, hh, a, eo, s1, s2⟩ := sec
  -- the relation of b, c, q, the corner and o
  have rel := hu_F5 (hu_a l (hu_k (- hu_l l (P (O g))) hu_w)) (P (O (hn_n h))) (P (O (hn_n (hn_n h)))) q (P (O g)) o
  have re2 := hu_F5 (hu_c (P (O (3 * (h / 3)))) (P (O (3 * (h / 3) + 1))) (P (O (3 * (h / 3) + 2)))) (P (O (hn_n h))) (P (O (hn_n (hn_n h)))) q (P (O g)) o
  rw [el, el, el, el, el, hm_w M, hm_w M, hm_w M, Int.mul_one, Int.sub_self, Int.zero_mul] at rel
  rw [← hm_l, ← hm_l, ← hm_l, ← hm_l, ← hm_l] at re2
  have z1 : hm_t P O (h / 3) (P (O (hn_n h))) = 0 := by rw [hm_e, hu_z24]
  have z2 : hm_t P O (h / 3) (P (O (hn_n (hn_n h)))) = 0 := by rw [hm_e, hu_z34]
  have z3 : hm_t P O (h / 3) (P (O g)) = 0 := by rw [← eo, hm_e, hu_z14]
  rw [z1, z2, z3, Int.zero_mul, Int.zero_mul, Int.zero_mul] at re2
  have no' := no h hh a
  have dbc : hu_d (P (O (hn_n h))) (P (O (hn_n (hn_n h)))) (P (O g)) o < 0 := by
    rw [hu_dcy, ← eo, ← hm_e]; exact no'
  have mq := nq (h / 3) (by omega) a
  have l1 := mx _ (hn_lt hh) (by rw [hn_d]; exact a)
  have l2 := mx _ (hn_lt (hn_lt hh)) (by rw [hn_d, hn_d]; exact a)
  have lg := hl _ (hm_S M hg ag)
  have k1 := sg_00 mq (Int.le_of_lt dbc)
  have mu := sg_dm no' (show hm_t P O (h / 3) o * hu_d (P (O (hn_n h))) (P (O (hn_n (hn_n h)))) q (P (O g)) ≤ 0 by omega)
  have e1 := hu_d12 q (P (O (hn_n (hn_n h)))) (P (O g)) o
  have e2 := hu_d12 q (P (O (hn_n h))) (P (O g)) o
  have c1 := sg_n0 (show hu_l l (P (O (hn_n h))) - hu_l l (P (O g)) ≤ 0 by omega) (show 0 ≤ hu_d (P (O (hn_n (hn_n h)))) q (P (O g)) o by omega)
  have c2 := sg_00 (show hu_l l (P (O (hn_n (hn_n h)))) - hu_l l (P (O g)) ≤ 0 by omega) (show hu_d (P (O (hn_n h))) q (P (O g)) o ≤ 0 by omega)
  have c3 := sg_n0 lo mu
  have c4 : 0 ≤ hu_d (P (O (hn_n h))) (P (O (hn_n (hn_n h)))) (P (O g)) o * (hu_l l q - hu_l l (P (O g)) * q.1) := by
    rw [Int.mul_comm]; omega
  have c5 := sg_d0 dbc c4
  have c6 := sg_n0 lg hq
  omega
/-- a plane through three points that all of S lies under holds a triangle -/
theorem hm_cov (M : hm_M P S O T A) {l : hu_V} (hl : ∀ x, S x → hu_l l (P x) ≤ 0) (ng : ∃ x, S x ∧ hu_l l (P x) < 0) {x : hu_V} (x1 : 0 < x.1)
    (lx : hu_l l x = 0) (tx : ∀ t, t < 26 → A t → hm_t P O t x ≤ 0) : ∃ t, t < 26 ∧ A t ∧ hm_t P O t x = 0 := by
  obtain ⟨o, ho⟩ := hm_in M
  rcases Classical.em (∃ t, t < 26 ∧ A t ∧ hm_t P O t x = 0) with c | c
  · exact c
  exfalso
  have lo := ho l hl ng
  have no : ∀ t, t < 26 → A t → hm_t P O t o < 0 := fun t ht a =>
    ho (hu_c _ _ _) (fun x s => hm_np M ht a s) (hm_ng M ht a)
  -- so far out on the ray from o that a plane is met
  have big : ∀ t, t < 26 → A t → - hm_t P O t o ≤ hs_s (fun t => hs_i (A t) * - hm_t P O t o) 26 := by
    intro t ht a
    have := hs_ge (f := fun t => hs_i (A t) * - hm_t P O t o) (k := t) (n := 26) (fun u hu => by
      rcases Classical.em (A u) with d | d
      · rw [hs_it d]; have := no u hu d; omega
      · rw [hs_if d]; omega) ht
    rw [hs_it a] at this
    omega
  have b0 : 0 ≤ hs_s (fun t => hs_i (A t) * - hm_t P O t o) 26 := hs_nn fun u hu => by
    rcases Classical.em (A u) with d | d
    · rw [hs_it d]; have := no u hu d; omega
    · rw [hs_if d]; omega
  generalize hs_s (fun t => hs_i (A t) * - hm_t P O t o) 26 = B at big b0
  have hK : ∃ K : Int, B ≤ K ∧ o.1 ≤ K := ⟨B + (if 0 ≤ o.1 then o.1 else 0), by split <;> omega, by split <;> omega⟩
  obtain ⟨K, K1, K2⟩ := hK
  have h := hm_hull M (q := hu_a (hu_k K x) (hu_k (-1) o)) (by
      show 0 ≤ K * x.1 + -1 * o.1
      have := sg_p0 (show 0 ≤ K by omega) (show 0 ≤ x.1 - 1 by omega)
      have e : K * (x.1 - 1) = K * x.1 - K := by grind
      omega) (by
      intro t ht a
      rw [hm_l, hu_la, hu_lk, hu_lk, ← hm_l, ← hm_l]
      have h1 := tx t ht a
      have h2 : hm_t P O t x ≠ 0 := fun e => c ⟨t, ht, a, e⟩
      have h3 := big t ht a
      have h4 := sg_0n (show 0 ≤ K by omega) (show hm_t P O t x + 1 ≤ 0 by omega)
      have e : K * (hm_t P O t x + 1) = K * hm_t P O t x + K := by grind
      omega) hl
  rw [hu_la, hu_lk, hu_lk, lx] at h
  omega
/-- two triangles in one plane: the same signs -/
theorem hm_sg (M : hm_M P S O T A) {t u : Nat} (ht : t < 26) (hu : u < 26) (a : A t) (b : A u)
    (z : ∀ k, k < 3 → hm_t P O u (P (O (3 * t + k))) = 0) (x : hu_V) :
    (0 < hm_t P O u x ↔ 0 < hm_t P O t x) ∧ (hm_t P O u x = 0 ↔ hm_t P O t x = 0) := by
  obtain ⟨y, sy, hy⟩ := hm_ng M hu b
  have e : ∀ x y, hm_t P O u x * hm_t P O t y = hm_t P O u y * hm_t P O t x := fun x y =>
    hu_prop (l := hu_c (P (O (3 * u))) (P (O (3 * u + 1))) (P (O (3 * u + 2)))) (z 0 (by omega)) (z 1 (by omega)) (z 2 (by omega)) x y
  have h4 : hm_t P O t (P y) < 0 := by
    have h3 := hm_np M ht a sy
    rcases Int.lt_or_le (hm_t P O t (P y)) 0 with c | c
    · exact c
    · exfalso
      obtain ⟨y', sy', hy'⟩ := hm_ng M ht a
      have e2 := e (P y') (P y)
      rw [show hm_t P O t (P y) = 0 by omega, Int.mul_zero] at e2
      have := sg_nn hy hy'
      omega
  have e1 := e x (P y)
  refine ⟨⟨fun k => ?_, fun k => ?_⟩, fun k => ?_, fun k => ?_⟩
  · have := sg_pn k h4
    rw [e1] at this
    exact sg_dn hy this
  · have := sg_np hy k
    rw [← e1, Int.mul_comm] at this
    exact sg_dn h4 this
  · rw [k, Int.zero_mul] at e1
    exact sg_dz hy e1.symm
  · rw [k, Int.mul_zero, Int.mul_comm] at e1
    exact sg_dz h4 e1
/-- t lies in the plane of s -/
def hm_C (P : Nat → hu_V) (O : Nat → Nat) (s t : Nat) : Prop := ∀ k, k < 3 → hm_t P O s (P (O (3 * t + k))) = 0
theorem hm_Cr (s : Nat) : hm_C P O s s := by
  intro k hk
  have c : k = 0 ∨ k = 1 ∨ k = 2 := by omega
  unfold hm_t
  rcases c with c | c | c
  · rw [c]; exact hu_z14 _ _ _
  · rw [c]; exact hu_z24 _ _ _
  · rw [c]; exact hu_z34 _ _ _
theorem hm_Cs (M : hm_M P S O T A) {t u : Nat} (ht : t < 26) (hu : u < 26) (a : A t) (b : A u) (c : hm_C P O u t) : hm_C P O t u :=
  fun k hk => (hm_sg M ht hu a b c _).2.mp (hm_Cr u k hk)
theorem hm_Ct (M : hm_M P S O T A) {s t u : Nat} (hs : s < 26) (ht : t < 26) (d : A s) (a : A t)
    (c1 : hm_C P O s t) (c2 : hm_C P O t u) : hm_C P O s u :=
  fun k hk => (hm_sg M ht hs a d c1 _).2.mpr (c2 k hk)
/-- the flood of a facet reaches all of its plane -/
theorem hm_ff (M : hm_M P S O T A) {s : Nat} (hs : s < 26) (as : A s) {R : Nat → Prop}
    (hR : ∀ t, t < 26 → R t → A t ∧ hm_C P O s t)
    (hc : ∀ h, h < 78 → R (h / 3) → hm_C P O s (T h / 3) → R (T h / 3))
    (h0 : ∃ t, t < 26 ∧ R t) {t0 : Nat} (ht0 : t0 < 26) (a0 : A t0) (v0 : hm_C P O s t0) : R t0 := by
  obtain ⟨y, sy, hy⟩ := hm_ng M hs as
  have pos : ∀ t, t < 26 → R t → hm_t P O t (P y) < 0 ∧ hm_t P O t (hm_x P O t0) = 0 := by
    intro t ht r
    obtain ⟨a, c⟩ := hR t ht r
    have g := hm_sg M ht hs a as c
    refine ⟨?_, ?_⟩
    · have h1 := hm_np M ht a sy
      have h2 := (g (P y)).2
      rcases Int.lt_or_le (hm_t P O t (P y)) 0 with d | d
      · exact d
      · have := h2.mpr (by omega)
        omega
    · have w := fun k hk => (g (P (O (3 * t0 + k)))).2.mp (v0 k hk)
      rw [hm_tx]
      have w0 := w 0 (by omega)
      have w1 := w 1 (by omega)
      have w2 := w 2 (by omega)
      rw [Nat.add_zero] at w0
      omega
  have key := hx_pl (O := O) (T := T) (G := fun t => R t ∧ t < 26)
    (D := fun i j => hu_d (P i) (P j) (P y) (hm_x P O t0))
    (fun i j => by show hu_d (P j) (P i) _ _ = -hu_d (P i) (P j) _ _; rw [hu_d12 (P i) (P j)])
    (fun a i j k => hu_pp _ _ _ _ _ _)
    (fun h hh g _ => by
      obtain ⟨x1, _, x3, x4, x5⟩ := hm_T M hh (hR _ g.2 g.1).1
      exact ⟨x1, x3, x4, x5⟩)
    (fun t ht g => by
      show 0 < hu_d (P (O (3 * t))) (P (O (3 * t + 1))) (P y) _ + hu_d (P (O (3 * t + 1))) (P (O (3 * t + 2))) (P y) _ + hu_d (P (O (3 * t + 2))) (P (O (3 * t))) (P y) _
      have e := hu_ds (x := hm_x P O t0) (hm_w M (O (3 * t))) (hm_w M (O (3 * t + 1))) (hm_w M (O (3 * t + 2))) (hm_w M y)
      rw [hm_x1 M] at e
      obtain ⟨p1, p2⟩ := pos t ht g.1
      unfold hm_t at p1 p2
      omega)
    (fun h hh g ng => by
      show 0 ≤ hu_d (P (O h)) (P (O (hn_n h))) (P y) _
      obtain ⟨g1, g2⟩ := g
      obtain ⟨ah, ch⟩ := hR _ g2 g1
      obtain ⟨l, au, _, m4, m5⟩ := hm_T M hh ah
      obtain ⟨p1, p2⟩ := pos _ g2 g1
      have nc : ¬ hm_C P O s (T h / 3) := fun c => ng ⟨hc h hh g1 c, by omega⟩
      have ap := hm_np M g2 ah (hm_apex M hh ah)
      have nz : hm_t P O (h / 3) (P (O (hn_n (hn_n (T h))))) < 0 := by
        rcases Int.lt_or_le (hm_t P O (h / 3) (P (O (hn_n (hn_n (T h)))))) 0 with d | d
        · exact d
        · exfalso
          refine nc (hm_Ct M hs g2 as ah ch ?_)
          -- the three corners of the neighbour
          have y1 : hm_t P O (h / 3) (P (O (T h))) = 0 := by rw [m4, hm_e, hu_z24]
          have y2 : hm_t P O (h / 3) (P (O (hn_n (T h)))) = 0 := by rw [m5, hm_e, hu_z14]
          have y3 : hm_t P O (h / 3) (P (O (hn_n (hn_n (T h))))) = 0 := by omega
          obtain ⟨u, eu, cu⟩ := hn_c (T h)
          rw [eu]
          intro k hk
          have ck : k = 0 ∨ k = 1 ∨ k = 2 := by omega
          rcases cu with cu | cu | cu
          · rw [cu, hn_0] at y2; rw [cu, hn_0, hn_1] at y3; rw [cu] at y1
            rcases ck with ck | ck | ck
            · rw [ck]; exact y1
            · rw [ck]; exact y2
            · rw [ck]; exact y3
          · rw [cu, hn_1] at y2; rw [cu, hn_1, hn_2] at y3; rw [cu] at y1
            rcases ck with ck | ck | ck
            · rw [ck]; exact y3
            · rw [ck]; exact y1
            · rw [ck]; exact y2
          · rw [cu, hn_2] at y2; rw [cu, hn_2, hn_0] at y3; rw [cu] at y1
            rcases ck with ck | ck | ck
            · rw [ck]; exact y2
            · rw [ck]; exact y3
            · rw [ck]; exact y1
      have e := hm_edge M hh ah (P y) (hm_x P O t0)
      rw [p2, Int.mul_zero] at e
      have k1 := sg_00 (Int.le_of_lt p1) (hm_xnp M ht0 (show T h / 3 < 26 by omega) a0 au)
      exact sg_dm nz (by omega))
    (by obtain ⟨t, a, b⟩ := h0; exact ⟨t, a, b, a⟩)
  obtain ⟨t, ht, ⟨rt, _⟩, d1, d2, d3⟩ := key
  obtain ⟨at', ct⟩ := hR t ht rt
  obtain ⟨p1, p2⟩ := pos t ht rt
  rcases Nat.decEq t t0 with ne | e
  · exfalso
    obtain ⟨l, ⟨_, _, _⟩, l2, l3, l4, l5⟩ := hm_sp M ht0 ht a0 at' (fun e => ne e.symm)
    have c1 := hu_cv l (P (O (3 * t))) (P (O (3 * t + 1))) (P (O (3 * t + 2))) (P y) (hm_x P O t0)
    have p2' : hu_d (P (O (3 * t))) (P (O (3 * t + 1))) (P (O (3 * t + 2))) (hm_x P O t0) = 0 := p2
    rw [p2', hm_lx, Int.mul_zero, Int.mul_neg, Int.mul_neg, Int.mul_neg] at c1
    have k0 := sg_p0 l3 d2
    have k1 := sg_p0 l4 d3
    have k2 := sg_p0 l5 d1
    have k3 := sg_nn l2 p1
    unfold hm_t at k3
    omega
  · exact e ▸ rt
end
end
section
/-! corners and edges, by the facets' planes alone -/
theorem hf_big (f : Nat → Int) (n : Nat) : ∃ K : Int, 0 < K ∧ ∀ i, i < n → f i < K := by
  induction n with
  | zero => exact ⟨1, by omega, fun i hi => absurd hi (Nat.not_lt_zero i)⟩
  | succ n ih =>
    obtain ⟨K, K0, h⟩ := ih
    refine ⟨K + (if 0 ≤ f n then f n else 0) + 1, by split <;> omega, fun i hi => ?_⟩
    rcases Nat.lt_or_ge i n with c | c
    · have := h i c
      split <;> omega
    · rw [show i = n by omega]
      split <;> omega
/-- the greatest of e/(-q) on the zeros of m -/
theorem hf_rat {P : Nat → hu_V} {n : Nat} {B : Nat → Prop} {v q m e : hu_V} (qv : hu_l q v = 0) (mv : hu_l m v = 0) (ev : hu_l e v = 0)
    (qB : ∀ x, x < n → B x → hu_l q (P x) < 0) (mB : ∀ x, x < n → B x → hu_l m (P x) ≤ 0) (ex : ∃ x, x < n ∧ B x ∧ hu_l m (P x) = 0) :
    ∃ s, s < n ∧ B s ∧ hu_l m (P s) = 0 ∧
      (∀ x, x < n → B x → hu_l m (P x) = 0 → hu_l e (P x) * -hu_l q (P s) ≤ hu_l e (P s) * -hu_l q (P x)) ∧
      ∃ m' : hu_V, hu_l m' v = 0 ∧ (∀ x, x < n → B x → hu_l m' (P x) ≤ 0) ∧
        ∀ x, x < n → B x → (hu_l m' (P x) = 0 ↔ (hu_l m (P x) = 0 ∧ hu_l e (P x) * hu_l q (P s) = hu_l e (P s) * hu_l q (P x))) := by
  obtain ⟨s, hs, ⟨_, bs, zs⟩, mx⟩ := hs_max (Q := fun x => x < n ∧ B x ∧ hu_l m (P x) = 0) (num := fun x => hu_l e (P x)) (den := fun x => -hu_l q (P x))
    (fun x h => by have := qB x h.1 h.2.1; omega) n (by obtain ⟨x, a, b, c⟩ := ex; exact ⟨x, a, a, b, c⟩)
  have mx' : ∀ x, x < n → B x → hu_l m (P x) = 0 → hu_l e (P x) * -hu_l q (P s) ≤ hu_l e (P s) * -hu_l q (P x) := fun x a b c => mx x a ⟨a, b, c⟩
  clear mx
  refine ⟨s, hs, bs, zs, mx', ?_⟩
  obtain ⟨K, K0, hK⟩ := hf_big (fun x => hu_l e (P x) * -hu_l q (P s) + hu_l e (P s) * hu_l q (P x)) n
  refine ⟨hu_a (hu_k K m) (hu_a (hu_k (-hu_l q (P s)) e) (hu_k (hu_l e (P s)) q)), ?_, ?_, ?_⟩
  · rw [hu_al, hu_al, hu_kl, hu_kl, hu_kl, qv, mv, ev]; omega
  · intro x hx bx
    rw [hu_al, hu_al, hu_kl, hu_kl, hu_kl]
    have k1 := hK x hx
    have k2 := Int.mul_comm (hu_l e (P x)) (-hu_l q (P s))
    rcases Int.lt_or_le (hu_l m (P x)) 0 with c | c
    · have := sg_0n (Int.le_of_lt K0) (show hu_l m (P x) + 1 ≤ 0 by omega)
      have e1 : K * (hu_l m (P x) + 1) = K * hu_l m (P x) + K := by grind
      omega
    · have z : hu_l m (P x) = 0 := by have := mB x hx bx; omega
      have := mx' x hx bx z
      rw [Int.mul_neg (hu_l e (P s))] at this
      rw [z]; omega
  · intro x hx bx
    rw [hu_al, hu_al, hu_kl, hu_kl, hu_kl]
    have k1 := hK x hx
    have k2 := Int.mul_comm (hu_l e (P x)) (-hu_l q (P s))
    have k3 := Int.mul_neg (hu_l e (P x)) (hu_l q (P s))
    rcases Int.lt_or_le (hu_l m (P x)) 0 with c | c
    · have := sg_0n (Int.le_of_lt K0) (show hu_l m (P x) + 1 ≤ 0 by omega)
      have e1 : K * (hu_l m (P x) + 1) = K * hu_l m (P x) + K := by grind
      constructor
      · intro h; omega
      · intro h; omega
    · have z : hu_l m (P x) = 0 := by have := mB x hx bx; omega
      rw [z]
      constructor
      · intro h; exact ⟨rfl, by omega⟩
      · intro h; have := h.2; omega
/-- the zeros of m hold one ray -/
theorem hf_ray {P : Nat → hu_V} {n : Nat} {B : Nat → Prop} {v q : hu_V} (qv : hu_l q v = 0) (qB : ∀ x, x < n → B x → hu_l q (P x) < 0) :
    ∀ (N : Nat) (m : hu_V), hu_l m v = 0 → (∀ x, x < n → B x → hu_l m (P x) ≤ 0) → (∃ x, x < n ∧ B x ∧ hu_l m (P x) = 0) →
      hs_n (fun x => B x ∧ hu_l m (P x) = 0) n ≤ N →
      ∃ m' : hu_V, hu_l m' v = 0 ∧ (∀ x, x < n → B x → hu_l m' (P x) ≤ 0) ∧ (∃ x, x < n ∧ B x ∧ hu_l m' (P x) = 0) ∧
        (∀ x, x < n → B x → hu_l m' (P x) = 0 → hu_l m (P x) = 0) ∧
        ∀ x y, x < n → y < n → B x → B y → hu_l m' (P x) = 0 → hu_l m' (P y) = 0 → ∀ e : hu_V, hu_l e v = 0 → hu_l e (P x) * hu_l q (P y) = hu_l e (P y) * hu_l q (P x) := by
  intro N
  induction N with
  | zero =>
    intro m _ _ ⟨x, hx, bx, zx⟩ hN
    exfalso
    have := hs_ge (f := fun x => hs_i (B x ∧ hu_l m (P x) = 0)) (k := x) (n := n) (fun i _ => hs_i0 _) hx
    rw [hs_it ⟨bx, zx⟩] at this
    have hN' : hs_s (fun x => hs_i (B x ∧ hu_l m (P x) = 0)) n ≤ ((0 : Nat) : Int) := hN
    omega
  | succ N ih =>
    intro m mv mB ex hN
    rcases Classical.em (∀ x y, x < n → y < n → B x → B y → hu_l m (P x) = 0 → hu_l m (P y) = 0 → ∀ e : hu_V, hu_l e v = 0 → hu_l e (P x) * hu_l q (P y) = hu_l e (P y) * hu_l q (P x)) with c | c
    · exact ⟨m, mv, mB, ex, fun _ _ _ h => h, c⟩
    · have c' : ∃ x y, x < n ∧ y < n ∧ B x ∧ B y ∧ hu_l m (P x) = 0 ∧ hu_l m (P y) = 0 ∧ ∃ e : hu_V, hu_l e v = 0 ∧ hu_l e (P x) * hu_l q (P y) ≠ hu_l e (P y) * hu_l q (P x) := by
        refine Classical.byContradiction fun k => c ?_
        intro x y hx hy bx yb zx zy e ev
        refine Classical.byContradiction fun k2 => k ⟨x, y, hx, hy, bx, yb, zx, zy, e, ev, k2⟩
      obtain ⟨x, y, hx, hy, bx, yb, zx, zy, e, ev, ne⟩ := c'
      obtain ⟨s, hs, bs, zs, mx, m', m1, m2, m3⟩ := hf_rat (e := e) qv mv ev qB mB ex
      have less : hs_n (fun x => B x ∧ hu_l m' (P x) = 0) n + 1 ≤ hs_n (fun x => B x ∧ hu_l m (P x) = 0) n := by
        -- one of x, y is gone
        have gone : ∃ z, z < n ∧ B z ∧ hu_l m (P z) = 0 ∧ ¬ hu_l m' (P z) = 0 := by
          refine Classical.byContradiction fun k => ne ?_
          have kx : hu_l m' (P x) = 0 := Classical.byContradiction fun h => k ⟨x, hx, bx, zx, h⟩
          have ky : hu_l m' (P y) = 0 := Classical.byContradiction fun h => k ⟨y, hy, yb, zy, h⟩
          have ex := ((m3 x hx bx).mp kx).2
          have ey := ((m3 y hy yb).mp ky).2
          have qs := qB s hs bs
          have : hu_l q (P s) * (hu_l e (P x) * hu_l q (P y) - hu_l e (P y) * hu_l q (P x)) = 0 := by
            have e1 : hu_l q (P s) * (hu_l e (P x) * hu_l q (P y) - hu_l e (P y) * hu_l q (P x))
              = (hu_l e (P x) * hu_l q (P s)) * hu_l q (P y) - (hu_l e (P y) * hu_l q (P s)) * hu_l q (P x) := by grind
            rw [e1, ex, ey]
            grind
          have := sg_dz qs this
          omega
        obtain ⟨z, hz, bz, z1, z2⟩ := gone
        have h1 := hs_nput (Q := fun x => B x ∧ hu_l m' (P x) = 0) (R := fun x => (B x ∧ hu_l m' (P x) = 0) ∨ x = z) hz (fun k => z2 k.2) (fun i _ => Iff.rfl)
        have h2 : hs_n (fun x => (B x ∧ hu_l m' (P x) = 0) ∨ x = z) n ≤ hs_n (fun x => B x ∧ hu_l m (P x) = 0) n := by
          refine hs_nmono fun i hi k => ?_
          rcases k with k | k
          · exact ⟨k.1, ((m3 i hi k.1).mp k.2).1⟩
          · rw [k]; exact ⟨bz, z1⟩
        omega
      obtain ⟨m'', a1, a2, a3, a4, a5⟩ := ih m' m1 m2 ⟨s, hs, bs, (m3 s hs bs).mpr ⟨zs, rfl⟩⟩ (by omega)
      exact ⟨m'', a1, a2, a3, fun x hx bx h => ((m3 x hx bx).mp (a4 x hx bx h)).1, a5⟩
/-- two points: a determinant that isn't nothing -/
theorem hf_ne {v w : hu_V} (hv : v.1 = 1) (hw : w.1 = 1) (ne : v ≠ w) : ∃ y y', hu_d v w y y' ≠ 0 := by
  obtain ⟨v0, v1, v2, v3⟩ := v
  obtain ⟨w0, w1, w2, w3⟩ := w
  simp only at hv hw
  subst hv; subst hw
  rcases Classical.em (v1 = w1) with c1 | c1
  · rcases Classical.em (v2 = w2) with c2 | c2
    · have c3 : v3 ≠ w3 := fun c3 => ne (by rw [c1, c2, c3])
      refine ⟨(0, 1, 0, 0), (0, 0, 1, 0), ?_⟩
      simp only [hu_d, hu_l, hu_c, hu_3]
      omega
    · refine ⟨(0, 1, 0, 0), (0, 0, 0, 1), ?_⟩
      simp only [hu_d, hu_l, hu_c, hu_3]
      omega
  · refine ⟨(0, 0, 1, 0), (0, 0, 0, 1), ?_⟩
    simp only [hu_d, hu_l, hu_c, hu_3]
    omega
/-- on the line of v, w: every functional is reckoned from v and w -/
theorem hf_on {v w x : hu_V} (h : ∀ z, hu_d v w x z = 0) {l : hu_V} (lv : hu_l l v = 0) (lw : hu_l l w = 0) (i : ∃ y y', hu_d v w y y' ≠ 0) : hu_l l x = 0 := by
  obtain ⟨y, y', ne⟩ := i
  have e := hu_F5 l v w x y y'
  rw [lv, lw, h, h] at e
  have : hu_d v w y y' * hu_l l x = 0 := by rw [Int.mul_comm]; omega
  exact sg_z ne this
theorem hf_ln {v w i j k : hu_V} (ind : ∃ y y', hu_d v w y y' ≠ 0) (hi : ∀ z, hu_d v w i z = 0) (hj : ∀ z, hu_d v w j z = 0) (hk : ∀ z, hu_d v w k z = 0)
    (z : hu_V) : hu_d i j k z = 0 := by
  -- d i j k z as a functional of i
  have cyc : ∀ a, hu_d a j k z = -hu_d j k z a := by
    intro a
    rw [← hu_dcy a j k z, hu_d34 j k z a]
  have f1 : ∀ a, (∀ z, hu_d v w a z = 0) → hu_d a v k z = 0 ∧ hu_d a w k z = 0 := by
    intro a ha
    refine ⟨?_, ?_⟩
    · have : hu_l (hu_c v k z) a = 0 := by
        refine hf_on ha (hu_z14 _ _ _) ?_ ind
        show hu_d v k z w = 0
        rw [← hu_mv]; exact hk z
      rw [hu_d12 v a k z, hu_mv]
      have h2 : hu_d v k z a = 0 := this
      omega
    · have : hu_l (hu_c w k z) a = 0 := by
        refine hf_on ha ?_ (hu_z14 _ _ _) ind
        show hu_d w k z v = 0
        rw [← hu_mv, hu_d12 v w k z]
        have := hk z
        omega
      rw [hu_d12 w a k z, hu_mv]
      have h2 : hu_d w k z a = 0 := this
      omega
  have : hu_l (hu_c j k z) i = 0 := by
    refine hf_on hi ?_ ?_ ind
    · show hu_d j k z v = 0
      rw [← hu_mv]; exact (f1 j hj).1
    · show hu_d j k z w = 0
      rw [← hu_mv]; exact (f1 j hj).2
  have h2 : hu_d j k z i = 0 := this
  rw [cyc]; omega

/-- a list of planes L g, g < m, that is the list of the facets of the points P x, x < n -/
def hf_F (P : Nat → hu_V) (n m : Nat) (L : Nat → hu_V) : Prop :=
  (∀ x, (P x).1 = 1) ∧
  (∀ x y, x < n → y < n → P x = P y → x = y) ∧
  (∃ a b c d, a < n ∧ b < n ∧ c < n ∧ d < n ∧ hu_d (P a) (P b) (P c) (P d) ≠ 0) ∧
  (∀ g, g < m → ∀ x, x < n → hu_l (L g) (P x) ≤ 0) ∧
  (∀ g, g < m → ∃ x, x < n ∧ hu_l (L g) (P x) < 0) ∧
  (∀ g, g < m → ∃ i j k, i < n ∧ j < n ∧ k < n ∧ hu_l (L g) (P i) = 0 ∧ hu_l (L g) (P j) = 0 ∧ hu_l (L g) (P k) = 0 ∧ ∃ z, hu_d (P i) (P j) (P k) z ≠ 0) ∧
  (∀ g g', g < m → g' < m → (∀ x, x < n → (hu_l (L g) (P x) = 0 ↔ hu_l (L g') (P x) = 0)) → g = g') ∧
  (∀ (l : hu_V) i j k, i < n → j < n → k < n → hu_l l (P i) = 0 → hu_l l (P j) = 0 → hu_l l (P k) = 0 → (∃ z, hu_d (P i) (P j) (P k) z ≠ 0) →
    (∀ x, x < n → hu_l l (P x) ≤ 0) → (∃ x, x < n ∧ hu_l l (P x) < 0) → ∃ g, g < m ∧ ∀ x, x < n → (hu_l (L g) (P x) = 0 ↔ hu_l l (P x) = 0))
section
variable {P : Nat → hu_V} {n m : Nat} {L : Nat → hu_V}
/-- a functional that is nothing at all points is nothing -/
theorem hf_sp (F : hf_F P n m L) {l : hu_V} (h : ∀ x, x < n → hu_l l (P x) = 0) (z : hu_V) : hu_l l z = 0 := by
  obtain ⟨a, b, c, d, ha, hb, hc, hd, ne⟩ := F.2.2.1
  exact ho_all (h a ha) (h b hb) (h c hc) (h d hd) ne z
theorem hf_nl (F : hf_F P n m L) {v w : Nat} (hv : v < n) (hw : w < n) (ne : v ≠ w) : ∃ y y', hu_d (P v) (P w) y y' ≠ 0 :=
  hf_ne (F.1 v) (F.1 w) (fun e => ne (F.2.1 v w hv hw e))
/-- the facets through a line: the third point and the side -/
theorem hf_th (F : hf_F P n m L) {v w g : Nat} (hv : v < n) (hw : w < n) (ne : v ≠ w) (hg : g < m) (gv : hu_l (L g) (P v) = 0) (gw : hu_l (L g) (P w) = 0) :
    ∃ c, c < n ∧ hu_l (L g) (P c) = 0 ∧
      ((∀ y, y < n → hu_d (P v) (P w) (P c) (P y) ≤ 0) ∨ (∀ y, y < n → 0 ≤ hu_d (P v) (P w) (P c) (P y))) ∧
      (∀ y, y < n → (hu_d (P v) (P w) (P c) (P y) = 0 ↔ hu_l (L g) (P y) = 0)) := by
  obtain ⟨i, j, k, hi, hj, hk, gi, gj, gk, z, nz⟩ := F.2.2.2.2.2.1 g hg
  have ind := hf_nl F hv hw ne
  have off : ∃ c, c < n ∧ hu_l (L g) (P c) = 0 ∧ ∃ z, hu_d (P v) (P w) (P c) z ≠ 0 := by
    refine Classical.byContradiction fun k0 => nz (hf_ln ind ?_ ?_ ?_ z)
    · intro z'; exact Classical.byContradiction fun h => k0 ⟨i, hi, gi, z', h⟩
    · intro z'; exact Classical.byContradiction fun h => k0 ⟨j, hj, gj, z', h⟩
    · intro z'; exact Classical.byContradiction fun h => k0 ⟨k, hk, gk, z', h⟩
  obtain ⟨c, hc, gc, z', nz'⟩ := off
  have pr : ∀ x y, hu_l (L g) x * hu_d (P v) (P w) (P c) y = hu_l (L g) y * hu_d (P v) (P w) (P c) x := fun x y => hu_prop gv gw gc x y
  obtain ⟨s, hs, ns⟩ := F.2.2.2.2.1 g hg
  have ds : hu_d (P v) (P w) (P c) (P s) ≠ 0 := by
    intro e
    have := pr (P s) z'
    rw [e, Int.mul_zero] at this
    have := sg_dz ns this
    exact nz' this
  have np := F.2.2.2.1 g hg
  refine ⟨c, hc, gc, ?_, ?_⟩
  · rcases Int.lt_or_gt_of_ne ds with d | d
    · left
      intro y hy
      have e := pr (P s) (P y)
      have k1 := sg_00 (np y hy) (Int.le_of_lt d)
      rw [← e] at k1
      exact sg_d0 ns k1
    · right
      intro y hy
      have e := pr (P s) (P y)
      have k1 := sg_n0 (np y hy) (Int.le_of_lt d)
      rw [← e] at k1
      exact sg_dm ns k1
  · intro y hy
    have e := pr (P s) (P y)
    constructor
    · intro h
      rw [h, Int.mul_zero, Int.mul_comm] at e
      exact sg_z ds e.symm
    · intro h
      rw [h, Int.zero_mul] at e
      exact sg_dz ns e
/-- no three facets share two points -/
theorem hf_3 (F : hf_F P n m L) {v w g1 g2 g3 : Nat} (hv : v < n) (hw : w < n) (ne : v ≠ w) (h1 : g1 < m) (h2 : g2 < m) (h3 : g3 < m)
    (n12 : g1 ≠ g2) (n13 : g1 ≠ g3) (n23 : g2 ≠ g3)
    (v1 : hu_l (L g1) (P v) = 0) (v2 : hu_l (L g2) (P v) = 0) (v3 : hu_l (L g3) (P v) = 0)
    (w1 : hu_l (L g1) (P w) = 0) (w2 : hu_l (L g2) (P w) = 0) (w3 : hu_l (L g3) (P w) = 0) : False := by
  -- two with the same side are one
  have same : ∀ g g' c c', g < m → g' < m → c < n → c' < n → hu_d (P v) (P w) (P c) (P c') = 0 →
      (∀ y, y < n → (hu_d (P v) (P w) (P c) (P y) = 0 ↔ hu_l (L g) (P y) = 0)) →
      (∀ y, y < n → (hu_d (P v) (P w) (P c') (P y) = 0 ↔ hu_l (L g') (P y) = 0)) → g = g' := by
    intro g g' c c' hg hg' hc hc' e z z'
    refine F.2.2.2.2.2.2.1 g g' hg hg' ?_
    have pr : ∀ x y, hu_d (P v) (P w) (P c) x * hu_d (P v) (P w) (P c') y = hu_d (P v) (P w) (P c) y * hu_d (P v) (P w) (P c') x := fun x y =>
      hu_prop (l := hu_c (P v) (P w) (P c)) (hu_z14 _ _ _) (hu_z24 _ _ _) e x y
    obtain ⟨s, hs, ns⟩ := F.2.2.2.2.1 g hg
    obtain ⟨s', hs', ns'⟩ := F.2.2.2.2.1 g' hg'
    have d1 : hu_d (P v) (P w) (P c) (P s) ≠ 0 := fun k => by have := (z s hs).mp k; omega
    have d2 : hu_d (P v) (P w) (P c') (P s') ≠ 0 := fun k => by have := (z' s' hs').mp k; omega
    intro x hx
    rw [← z x hx, ← z' x hx]
    constructor
    · intro k
      have := pr (P x) (P s)
      rw [k, Int.zero_mul] at this
      exact sg_z d1 this.symm
    · intro k
      have := pr (P x) (P s')
      rw [k, Int.mul_zero, Int.mul_comm] at this
      exact sg_z d2 this
  obtain ⟨c1, hc1, _, s1, z1⟩ := hf_th F hv hw ne h1 v1 w1
  obtain ⟨c2, hc2, _, s2, z2⟩ := hf_th F hv hw ne h2 v2 w2
  obtain ⟨c3, hc3, _, s3, z3⟩ := hf_th F hv hw ne h3 v3 w3
  have a12 := hu_d34 (P v) (P w) (P c1) (P c2)
  have a13 := hu_d34 (P v) (P w) (P c1) (P c3)
  have a23 := hu_d34 (P v) (P w) (P c2) (P c3)
  rcases s1 with s1 | s1 <;> rcases s2 with s2 | s2 <;> rcases s3 with s3 | s3
  · exact n12 (same g1 g2 c1 c2 h1 h2 hc1 hc2 (by have := s1 c2 hc2; have := s2 c1 hc1; omega) z1 z2)
  · exact n12 (same g1 g2 c1 c2 h1 h2 hc1 hc2 (by have := s1 c2 hc2; have := s2 c1 hc1; omega) z1 z2)
  · exact n13 (same g1 g3 c1 c3 h1 h3 hc1 hc3 (by have := s1 c3 hc3; have := s3 c1 hc1; omega) z1 z3)
  · exact n23 (same g2 g3 c2 c3 h2 h3 hc2 hc3 (by have := s2 c3 hc3; have := s3 c2 hc2; omega) z2 z3)
  · exact n23 (same g2 g3 c2 c3 h2 h3 hc2 hc3 (by have := s2 c3 hc3; have := s3 c2 hc2; omega) z2 z3)
  · exact n13 (same g1 g3 c1 c3 h1 h3 hc1 hc3 (by have := s1 c3 hc3; have := s3 c1 hc1; omega) z1 z3)
  · exact n12 (same g1 g2 c1 c2 h1 h2 hc1 hc2 (by have := s1 c2 hc2; have := s2 c1 hc1; omega) z1 z2)
  · exact n12 (same g1 g2 c1 c2 h1 h2 hc1 hc2 (by have := s1 c2 hc2; have := s2 c1 hc1; omega) z1 z2)
/-- a corner: three facets hold it -/
def hf_K (P : Nat → hu_V) (m : Nat) (L : Nat → hu_V) (v : Nat) : Prop :=
  ∃ g1 g2 g3, g1 < m ∧ g2 < m ∧ g3 < m ∧ g1 ≠ g2 ∧ g1 ≠ g3 ∧ g2 ≠ g3 ∧ hu_l (L g1) (P v) = 0 ∧ hu_l (L g2) (P v) = 0 ∧ hu_l (L g3) (P v) = 0
/-- two facets hold both -/
def hf_E (P : Nat → hu_V) (m : Nat) (L : Nat → hu_V) (v w : Nat) : Prop :=
  ∃ g1 g2, g1 < m ∧ g2 < m ∧ g1 ≠ g2 ∧ hu_l (L g1) (P v) = 0 ∧ hu_l (L g2) (P v) = 0 ∧ hu_l (L g1) (P w) = 0 ∧ hu_l (L g2) (P w) = 0
/-- a corner is exposed -/
theorem hf_ce (F : hf_F P n m L) {v : Nat} (hv : v < n) (K : hf_K P m L v) : ∃ q : hu_V, hu_l q (P v) = 0 ∧ ∀ x, x < n → x ≠ v → hu_l q (P x) < 0 := by
  obtain ⟨g1, g2, g3, h1, h2, h3, n12, n13, n23, v1, v2, v3⟩ := K
  refine ⟨hu_a (hu_a (L g1) (L g2)) (L g3), by rw [hu_al, hu_al, v1, v2, v3]; rfl, fun x hx ne => ?_⟩
  rw [hu_al, hu_al]
  have np := F.2.2.2.1
  have k1 := np g1 h1 x hx
  have k2 := np g2 h2 x hx
  have k3 := np g3 h3 x hx
  rcases Int.lt_or_le (hu_l (L g1) (P x) + hu_l (L g2) (P x) + hu_l (L g3) (P x)) 0 with c | c
  · exact c
  · exfalso
    exact hf_3 F hv hx (fun e => ne e.symm) h1 h2 h3 n12 n13 n23 v1 v2 v3 (by omega) (by omega) (by omega)
/-- two facets hold an exposed line -/
theorem hf_pen (F : hf_F P n m L) {v w : Nat} (hv : v < n) (hw : w < n) (ne : v ≠ w) {l : hu_V} (np : ∀ x, x < n → hu_l l (P x) ≤ 0)
    (lv : hu_l l (P v) = 0) (lw : hu_l l (P w) = 0) (ln : ∀ x, x < n → hu_l l (P x) = 0 → ∀ z, hu_d (P v) (P w) (P x) z = 0) : hf_E P m L v w := by
  have ind := hf_nl F hv hw ne
  have lx : ∃ x, x < n ∧ hu_l l (P x) < 0 := by
    refine Classical.byContradiction fun k => ?_
    obtain ⟨a, b, c, d, ha, hb, hc, hd, nz⟩ := F.2.2.1
    have z : ∀ x, x < n → hu_l l (P x) = 0 := by
      intro x hx
      have := np x hx
      rcases Int.lt_or_le (hu_l l (P x)) 0 with c | c
      · exact absurd ⟨x, hx, c⟩ k
      · omega
    exact nz (hf_ln ind (ln a ha (z a ha)) (ln b hb (z b hb)) (ln c hc (z c hc)) _)
  have id : ∀ x y z, hu_l l x * hu_d (P v) (P w) y z - hu_l l y * hu_d (P v) (P w) x z + hu_l l z * hu_d (P v) (P w) x y = 0 := by
    intro x y z
    have e := hu_F5 l (P v) (P w) x y z
    rw [lv, lw] at e
    omega
  -- the outermost on either side
  obtain ⟨x1, hx1, ⟨n1, m1⟩, t1⟩ := hs_top (Q := fun x => x < n ∧ hu_l l (P x) < 0) (le := fun j i => hu_d (P v) (P w) (P i) (P j) ≤ 0)
    (fun i _ => Int.le_of_eq (hu_z34 _ _ _))
    (fun i j _ _ => by
      have := hu_d34 (P v) (P w) (P i) (P j)
      show hu_d (P v) (P w) (P j) (P i) ≤ 0 ∨ hu_d (P v) (P w) (P i) (P j) ≤ 0
      omega)
    (fun i j k qi qj qk a b => by
      show hu_d (P v) (P w) (P k) (P i) ≤ 0
      have e := id (P k) (P j) (P i)
      have k1 := sg_00 (Int.le_of_lt qk.2) a
      have k2 := sg_00 (Int.le_of_lt qi.2) b
      exact sg_d0 qj.2 (by omega)) n (by obtain ⟨x, a, b⟩ := lx; exact ⟨x, a, a, b⟩)
  obtain ⟨x2, hx2, ⟨n2, m2⟩, t2⟩ := hs_top (Q := fun x => x < n ∧ hu_l l (P x) < 0) (le := fun j i => 0 ≤ hu_d (P v) (P w) (P i) (P j))
    (fun i _ => Int.le_of_eq (hu_z34 _ _ _).symm)
    (fun i j _ _ => by
      have := hu_d34 (P v) (P w) (P i) (P j)
      show 0 ≤ hu_d (P v) (P w) (P j) (P i) ∨ 0 ≤ hu_d (P v) (P w) (P i) (P j)
      omega)
    (fun i j k qi qj qk a b => by
      show 0 ≤ hu_d (P v) (P w) (P k) (P i)
      have e := id (P k) (P j) (P i)
      have k1 := sg_n0 (Int.le_of_lt qk.2) a
      have k2 := sg_n0 (Int.le_of_lt qi.2) b
      exact sg_dm qj.2 (by omega)) n (by obtain ⟨x, a, b⟩ := lx; exact ⟨x, a, a, b⟩)
  have all1 : ∀ y, y < n → hu_d (P v) (P w) (P x1) (P y) ≤ 0 := by
    intro y hy
    rcases Int.lt_or_le (hu_l l (P y)) 0 with c | c
    · exact t1 y hy ⟨hy, c⟩
    · rw [hu_d34 (P v) (P w) (P y) (P x1), ln y hy (by have := np y hy; omega)]; exact Int.le_refl 0
  have all2 : ∀ y, y < n → 0 ≤ hu_d (P v) (P w) (P x2) (P y) := by
    intro y hy
    rcases Int.lt_or_le (hu_l l (P y)) 0 with c | c
    · exact t2 y hy ⟨hy, c⟩
    · rw [hu_d34 (P v) (P w) (P y) (P x2), ln y hy (by have := np y hy; omega)]; exact Int.le_refl 0
  have nz : ∀ x, hu_l l (P x) < 0 → ∃ z, hu_d (P v) (P w) (P x) z ≠ 0 := by
    intro x hx
    refine Classical.byContradiction fun k => ?_
    have : hu_l l (P x) = 0 := hf_on (fun z => Classical.byContradiction fun h => k ⟨z, h⟩) lv lw ind
    omega
  have st : ∀ x, hu_l l (P x) < 0 → ∃ y, y < n ∧ hu_d (P v) (P w) (P x) (P y) ≠ 0 := by
    intro x hx
    refine Classical.byContradiction fun k => ?_
    obtain ⟨z, hz⟩ := nz x hx
    exact hz (hf_sp F (l := hu_c (P v) (P w) (P x)) (fun y hy => Classical.byContradiction fun h => k ⟨y, hy, h⟩) z)
  obtain ⟨y1, hy1, k1⟩ := st x1 m1
  obtain ⟨y2, hy2, k2⟩ := st x2 m2
  obtain ⟨g1, hg1, z1⟩ := F.2.2.2.2.2.2.2 (hu_c (P v) (P w) (P x1)) v w x1 hv hw hx1 (hu_z14 _ _ _) (hu_z24 _ _ _) (hu_z34 _ _ _) (nz x1 m1)
    all1 ⟨y1, hy1, by have := all1 y1 hy1; show hu_d (P v) (P w) (P x1) (P y1) < 0; omega⟩
  have neg : ∀ z, hu_l (hu_k (-1) (hu_c (P v) (P w) (P x2))) z = - hu_d (P v) (P w) (P x2) z := by
    intro z
    rw [hu_kl]
    show -1 * hu_d (P v) (P w) (P x2) z = _
    omega
  obtain ⟨g2, hg2, z2⟩ := F.2.2.2.2.2.2.2 (hu_k (-1) (hu_c (P v) (P w) (P x2))) v w x2 hv hw hx2 (by rw [neg, hu_z14]; rfl) (by rw [neg, hu_z24]; rfl) (by rw [neg, hu_z34]; rfl) (nz x2 m2)
    (fun y hy => by rw [neg]; have := all2 y hy; omega) ⟨y2, hy2, by rw [neg]; have := all2 y2 hy2; omega⟩
  refine ⟨g1, g2, hg1, hg2, ?_, (z1 v hv).mpr (hu_z14 _ _ _), (z2 v hv).mpr (by rw [neg, hu_z14]; rfl), (z1 w hw).mpr (hu_z24 _ _ _), (z2 w hw).mpr (by rw [neg, hu_z24]; rfl)⟩
  intro e
  subst e
  have c1 : hu_l (L g1) (P x1) = 0 := (z1 x1 hx1).mpr (hu_z34 _ _ _)
  have c2 := (z2 x1 hx1).mp c1
  rw [neg] at c2
  have e := id (P x1) (P x2) (P y1)
  have c3 : hu_d (P v) (P w) (P x1) (P x2) = 0 := by rw [hu_d34 (P v) (P w) (P x2) (P x1)]; omega
  rw [c3, Int.mul_zero] at e
  have k3 := sg_n0 (Int.le_of_lt m1) (all2 y1 hy1)
  have k4 := sg_00 (Int.le_of_lt m2) (all1 y1 hy1)
  exact k1 (sg_dz m2 (by omega))
end
end
section
section
variable {P : Nat → hu_V} {n m : Nat} {L : Nat → hu_V}
/-- a ray from v: exposed, so two facets hold it -/
theorem hf_rp (F : hf_F P n m L) {v w : Nat} (hv : v < n) (hw : w < n) (ne : v ≠ w) {q l : hu_V} (qx : ∀ x, x < n → x ≠ v → hu_l q (P x) < 0)
    (lv : hu_l l (P v) = 0) (np : ∀ x, x < n → x ≠ v → hu_l l (P x) ≤ 0) (lw : hu_l l (P w) = 0)
    (ray : ∀ x y, x < n → y < n → x ≠ v → y ≠ v → hu_l l (P x) = 0 → hu_l l (P y) = 0 → ∀ e : hu_V, hu_l e (P v) = 0 → hu_l e (P x) * hu_l q (P y) = hu_l e (P y) * hu_l q (P x)) :
    hf_E P m L v w := by
  refine hf_pen F hv hw ne ?_ lv lw ?_
  · intro x hx
    rcases Nat.decEq x v with c | c
    · exact np x hx c
    · rw [c, lv]; exact Int.le_refl 0
  · intro x hx z z'
    rcases Nat.decEq x v with c | c
    · have e := ray x w hx hw c (fun k => ne k.symm) z lw (hu_c (P v) (P w) z') (hu_z14 _ _ _)
      have d1 : hu_l (hu_c (P v) (P w) z') (P w) = 0 := hu_z24 _ _ _
      rw [d1, Int.zero_mul, Int.mul_comm] at e
      have := sg_dz (qx w hw (fun k => ne k.symm)) e
      have d2 : hu_d (P v) (P w) z' (P x) = 0 := this
      rw [hu_d34 (P v) (P w) z' (P x), d2]; rfl
    · rw [c, hu_z13]
/-- an exposed point is a corner -/
theorem hf_ec (F : hf_F P n m L) {v : Nat} (hv : v < n) {q : hu_V} (qv : hu_l q (P v) = 0) (qx : ∀ x, x < n → x ≠ v → hu_l q (P x) < 0) : hf_K P m L v := by
  have two : ∃ x, x < n ∧ x ≠ v := by
    refine Classical.byContradiction fun k => ?_
    obtain ⟨a, b, c, d, ha, hb, hc, hd, nz⟩ := F.2.2.1
    have ea : a = v := Classical.byContradiction fun h => k ⟨a, ha, h⟩
    have eb : b = v := Classical.byContradiction fun h => k ⟨b, hb, h⟩
    exact nz (by rw [ea, eb, hu_z12])
  have z0 : ∀ x, hu_l (0, 0, 0, 0) x = 0 := by intro x; simp only [hu_l]; omega
  obtain ⟨l, l1, l2, ⟨w, hw, wv, lw⟩, _, l5⟩ := hf_ray (P := P) (n := n) (B := fun x => x ≠ v) (v := P v) qv qx n (0, 0, 0, 0) (z0 _) (fun x _ _ => Int.le_of_eq (z0 _))
    (by obtain ⟨x, a, b⟩ := two; exact ⟨x, a, b, z0 _⟩) (hs_nle _ _)
  obtain ⟨g1, g2, hg1, hg2, n12, v1, v2, w1, w2⟩ := hf_rp F hv hw (fun k => wv k.symm) qx l1 l2 lw (fun x y a b c d => l5 x y a b c d)
  -- a point of the first that the second doesn't hold
  have off : ∃ c, c < n ∧ hu_l (L g1) (P c) = 0 ∧ hu_l (L g2) (P c) < 0 := by
    refine Classical.byContradiction fun k => n12 ?_
    obtain ⟨i, j, h, hi, hj, hh, gi, gj, gh, z, nz⟩ := F.2.2.2.2.2.1 g1 hg1
    have zz : ∀ x, x < n → hu_l (L g1) (P x) = 0 → hu_l (L g2) (P x) = 0 := by
      intro x hx zx
      have := F.2.2.2.1 g2 hg2 x hx
      rcases Int.lt_or_le (hu_l (L g2) (P x)) 0 with c | c
      · exact absurd ⟨x, hx, zx, c⟩ k
      · omega
    refine F.2.2.2.2.2.2.1 g1 g2 hg1 hg2 fun x hx => ⟨zz x hx, fun zx => ?_⟩
    obtain ⟨s, hs, ns⟩ := F.2.2.2.2.1 g2 hg2
    have p1 := hu_prop gi gj gh (P x) z
    have p2 := hu_prop (zz i hi gi) (zz j hj gj) (zz h hh gh) (P x) z
    have p3 := hu_prop (zz i hi gi) (zz j hj gj) (zz h hh gh) (P s) z
    rw [zx, Int.zero_mul] at p2
    -- L g2 z isn't nothing, so d x is
    have nz2 : hu_l (L g2) z ≠ 0 := by
      intro e
      rw [e, Int.zero_mul, Int.mul_comm] at p3
      have := sg_z nz p3
      omega
    have dx := sg_z nz2 p2.symm
    rw [dx, Int.mul_zero, Int.mul_comm] at p1
    exact sg_z nz p1
  obtain ⟨c, hc, c1, c2⟩ := off
  have cv : c ≠ v := fun e => by rw [e] at c2; omega
  have neg : ∀ z, hu_l (hu_k (-1) (L g2)) z = - hu_l (L g2) z := by intro z; rw [hu_kl]; omega
  obtain ⟨s, hs, sv, sz, mx, m2, a1, a2, a3⟩ := hf_rat (P := P) (n := n) (B := fun x => x ≠ v) (e := hu_k (-1) (L g2)) qv v1 (by rw [neg, v2]; rfl) qx
    (fun x hx _ => F.2.2.2.1 g1 hg1 x hx) ⟨c, hc, cv, c1⟩
  have es : hu_l (L g2) (P s) < 0 := by
    have h := mx c hc cv c1
    rw [neg, neg] at h
    have k1 := sg_pp (show 0 < -hu_l (L g2) (P c) by omega) (show 0 < -hu_l q (P s) by have := qx s hs sv; omega)
    have k2 := qx c hc cv
    rcases Int.lt_or_le (hu_l (L g2) (P s)) 0 with d | d
    · exact d
    · have := sg_n0 (show -hu_l (L g2) (P s) ≤ 0 by omega) (show 0 ≤ -hu_l q (P c) by omega)
      omega
  obtain ⟨l', b1, b2, ⟨z, hz, zv, lz⟩, b4, b5⟩ := hf_ray (P := P) (n := n) (B := fun x => x ≠ v) (v := P v) qv qx n m2 a1 a2 ⟨s, hs, sv, (a3 s hs sv).mpr ⟨sz, rfl⟩⟩ (hs_nle _ _)
  have z2 : hu_l (L g2) (P z) < 0 := by
    have e := ((a3 z hz zv).mp (b4 z hz zv lz)).2
    rw [neg, neg] at e
    have k1 := sg_pn (show 0 < -hu_l (L g2) (P s) by omega) (qx z hz zv)
    rw [← e, Int.mul_comm] at k1
    have := sg_dn (qx s hs sv) k1
    omega
  obtain ⟨h1, h2, hh1, hh2, nh, u1, u2, u3, u4⟩ := hf_rp F hv hz (fun k => zv k.symm) qx b1 b2 lz (fun x y a b c d => b5 x y a b c d)
  rcases Nat.decEq h1 g1 with c3 | c3
  · exact ⟨g1, g2, h1, hg1, hg2, hh1, n12, fun k => c3 k.symm, fun k => by rw [← k] at u3; omega, v1, v2, u1⟩
  · exact ⟨g1, g2, h2, hg1, hg2, hh2, n12, fun k => nh (c3.trans k), fun k => by rw [← k] at u4; omega, v1, v2, u2⟩
/-- there is a corner -/
theorem hf_cx (F : hf_F P n m L) : ∃ v, v < n ∧ hf_K P m L v := by
  have z0 : ∀ x, hu_l (0, 0, 0, 0) x = 0 := by intro x; simp only [hu_l]; omega
  have z1 : ∀ l : hu_V, hu_l l (0, 0, 0, 0) = 0 := by intro x; simp only [hu_l]; omega
  have nw : ∀ x, hu_l (hu_k (-1) hu_w) (P x) = -1 := by intro x; rw [hu_kl, hu_lw, F.1]; rfl
  obtain ⟨l, _, l2, ⟨v, hv, _, lv⟩, _, l5⟩ := hf_ray (P := P) (n := n) (B := fun _ => True) (v := (0, 0, 0, 0)) (q := hu_k (-1) hu_w) (z1 _) (fun x _ _ => by rw [nw]; omega)
    n (0, 0, 0, 0) (z1 _) (fun x _ _ => Int.le_of_eq (z0 _)) (by obtain ⟨a, _, _, _, ha, _⟩ := F.2.2.1; exact ⟨a, ha, trivial, z0 _⟩) (hs_nle _ _)
  refine ⟨v, hv, hf_ec F hv lv fun x hx ne => ?_⟩
  have h1 := l2 x hx trivial
  rcases Int.lt_or_le (hu_l l (P x)) 0 with c | c
  · exact c
  · exfalso
    have k : ∀ e : hu_V, hu_l e (P x) = hu_l e (P v) := by
      intro e
      have := l5 x v hx hv trivial trivial (by omega) lv e (z1 _)
      rw [nw, nw] at this
      omega
    have k1 := k (1, 0, 0, 0)
    have k2 := k (0, 1, 0, 0)
    have k3 := k (0, 0, 1, 0)
    have k4 := k (0, 0, 0, 1)
    simp only [hu_l] at k1 k2 k3 k4
    refine ne (F.2.1 x v hx hv ?_)
    refine Prod.ext (by omega) (Prod.ext (by omega) (Prod.ext (by omega) (by omega)))
/-- from a corner that isn't highest an edge leads up -/
theorem hf_c1 (F : hf_F P n m L) {v : Nat} (hv : v < n) (K : hf_K P m L v) {d : hu_V} {x : Nat} (hx : x < n) (up : hu_l d (P v) < hu_l d (P x)) :
    ∃ w, w < n ∧ w ≠ v ∧ hf_K P m L w ∧ hf_E P m L v w ∧ hu_l d (P v) < hu_l d (P w) := by
  obtain ⟨q, qv, qx⟩ := hf_ce F hv K
  have z0 : ∀ x, hu_l (0, 0, 0, 0) x = 0 := by intro x; simp only [hu_l]; omega
  have el : ∀ z : Nat, hu_l (hu_a d (hu_k (- hu_l d (P v)) hu_w)) (P z) = hu_l d (P z) - hu_l d (P v) := by
    intro z; rw [hu_al, hu_kl, hu_lw, F.1]; omega
  have xv : x ≠ v := fun e => by rw [e] at up; omega
  obtain ⟨s, hs, sv, _, mx, m2, a1, a2, a3⟩ := hf_rat (P := P) (n := n) (B := fun x => x ≠ v) (e := hu_a d (hu_k (- hu_l d (P v)) hu_w)) (m := (0, 0, 0, 0)) qv (z0 _) (by rw [el]; omega) qx
    (fun x _ _ => Int.le_of_eq (z0 _)) ⟨x, hx, xv, z0 _⟩
  have es : 0 < hu_l d (P s) - hu_l d (P v) := by
    have h := mx x hx xv (z0 _)
    rw [el, el] at h
    have k1 := sg_pp (show 0 < hu_l d (P x) - hu_l d (P v) by omega) (show 0 < -hu_l q (P s) by have := qx s hs sv; omega)
    have k2 := qx x hx xv
    rcases Int.lt_or_le 0 (hu_l d (P s) - hu_l d (P v)) with c | c
    · exact c
    · have := sg_n0 c (show 0 ≤ -hu_l q (P x) by omega)
      omega
  obtain ⟨l, b1, b2, b3, b4, b5⟩ := hf_ray (P := P) (n := n) (B := fun x => x ≠ v) (v := P v) qv qx n m2 a1 a2 ⟨s, hs, sv, (a3 s hs sv).mpr ⟨z0 _, rfl⟩⟩ (hs_nle _ _)
  -- the farthest on the ray
  obtain ⟨w, hw, ⟨_, wv, lw⟩, far⟩ := hs_max (Q := fun x => x < n ∧ x ≠ v ∧ hu_l l (P x) = 0) (num := fun x => -hu_l q (P x)) (den := fun _ => 1) (fun _ _ => by omega) n
    (by obtain ⟨y, a, b, c⟩ := b3; exact ⟨y, a, a, b, c⟩)
  have far' : ∀ y, y < n → y ≠ v → hu_l l (P y) = 0 → hu_l q (P w) ≤ hu_l q (P y) := by
    intro y hy yv ly
    have : -hu_l q (P y) * 1 ≤ -hu_l q (P w) * 1 := far y hy ⟨hy, yv, ly⟩
    omega
  have dw : hu_l d (P v) < hu_l d (P w) := by
    have e := ((a3 w hw wv).mp (b4 w hw wv lw)).2
    rw [el, el] at e
    have k1 := sg_pn es (qx w hw wv)
    rw [← e, Int.mul_comm] at k1
    have := sg_dn (qx s hs sv) k1
    omega
  refine ⟨w, hw, wv, ?_, hf_rp F hv hw (fun k => wv k.symm) qx b1 b2 lw (fun x y a b c d => b5 x y a b c d), dw⟩
  -- w is exposed
  obtain ⟨B, B0, hB⟩ := hf_big (fun y => hu_l q (P w) - hu_l q (P y)) n
  have ew : ∀ z : Nat, hu_l (hu_a (hu_k B l) (hu_a (hu_k (hu_l q (P w)) hu_w) (hu_k (-1) q))) (P z) = B * hu_l l (P z) + (hu_l q (P w) - hu_l q (P z)) := by
    intro z; rw [hu_al, hu_al, hu_kl, hu_kl, hu_kl, hu_lw, F.1]; omega
  refine hf_ec F hw (q := hu_a (hu_k B l) (hu_a (hu_k (hu_l q (P w)) hu_w) (hu_k (-1) q))) (by rw [ew, lw]; omega) fun y hy yw => ?_
  rw [ew]
  rcases Nat.decEq y v with c | c
  · have h1 := b2 y hy c
    rcases Int.lt_or_le (hu_l l (P y)) 0 with c2 | c2
    · have := hB y hy
      have k := sg_0n (Int.le_of_lt B0) (show hu_l l (P y) + 1 ≤ 0 by omega)
      have e1 : B * (hu_l l (P y) + 1) = B * hu_l l (P y) + B := by grind
      omega
    · have ly : hu_l l (P y) = 0 := by omega
      have h2 := far' y hy c ly
      rw [ly]
      have ne : hu_l q (P w) ≠ hu_l q (P y) := by
        intro e
        have qn := qx w hw wv
        have k : ∀ f : hu_V, hu_l f (P v) = 0 → hu_l f (P y) = hu_l f (P w) := by
          intro f fv
          have := b5 y w hy hw c wv ly lw f fv
          rw [← e, Int.mul_comm, Int.mul_comm (hu_l f (P w))] at this
          have h3 : hu_l q (P w) * (hu_l f (P y) - hu_l f (P w)) = 0 := by rw [Int.mul_sub]; omega
          have := sg_dz qn h3
          omega
        have kc : ∀ f : hu_V, hu_l f (P y) = hu_l f (P w) := by
          intro f
          have := k (hu_a f (hu_k (- hu_l f (P v)) hu_w)) (by rw [hu_al, hu_kl, hu_lw, F.1]; omega)
          rw [hu_al, hu_al, hu_kl, hu_kl, hu_lw, hu_lw, F.1, F.1] at this
          omega
        have k1 := kc (1, 0, 0, 0)
        have k2 := kc (0, 1, 0, 0)
        have k3 := kc (0, 0, 1, 0)
        have k4 := kc (0, 0, 0, 1)
        simp only [hu_l] at k1 k2 k3 k4
        refine yw (F.2.1 y w hy hw ?_)
        refine Prod.ext (by omega) (Prod.ext (by omega) (Prod.ext (by omega) (by omega)))
      omega
  · rw [c, b1, qv]
    have := qx w hw wv
    omega
/-- the highest corners hang together by edges -/
theorem hf_pt (F : hf_F P n m L) {d : hu_V} {R : Nat → Prop} {M : Int} (top : ∀ x, x < n → hu_l d (P x) ≤ M)
    (hR : ∀ x, R x → x < n ∧ hf_K P m L x ∧ hu_l d (P x) = M)
    (cl : ∀ x y, R x → y < n → hf_K P m L y → hf_E P m L x y → x ≠ y → hu_l d (P y) = M → R y) (ex : ∃ x, R x)
    {z : Nat} (hz : z < n) (kz : hf_K P m L z) (dz : hu_l d (P z) = M) : R z := by
  obtain ⟨q, qz, qx⟩ := hf_ce F hz kz
  -- the one of R nearest to z as q says
  obtain ⟨v, hv, rv, mx⟩ := hs_max (Q := R) (num := fun x => hu_l q (P x)) (den := fun _ => 1) (fun _ _ => by omega) n
    (by obtain ⟨x, r⟩ := ex; exact ⟨x, (hR x r).1, r⟩)
  rcases Nat.decEq v z with c | c
  · exfalso
    obtain ⟨_, kv, dv⟩ := hR v rv
    obtain ⟨B, B0, hB⟩ := hf_big (fun y => hu_l q (P y) - hu_l q (P v)) n
    have ed : ∀ y : Nat, hu_l (hu_a (hu_k B d) q) (P y) = B * hu_l d (P y) + hu_l q (P y) := by
      intro y; rw [hu_al, hu_kl]
    obtain ⟨w, hw, wv, kw, e, up⟩ := hf_c1 F hv kv (d := hu_a (hu_k B d) q) hz (by
      rw [ed, ed, dv, dz, qz]; have := qx v hv c; omega)
    rw [ed, ed, dv] at up
    have h1 := top w hw
    have dw : hu_l d (P w) = M := by
      rcases Int.lt_or_le (hu_l d (P w)) M with c2 | c2
      · have k := sg_0n (Int.le_of_lt B0) (show hu_l d (P w) - M + 1 ≤ 0 by omega)
        have e1 : B * (hu_l d (P w) - M + 1) = B * hu_l d (P w) - B * M + B := by grind
        have := hB w hw
        omega
      · omega
    rw [dw] at up
    have rw' := cl v w rv hw kw e (fun k => wv k.symm) dw
    have : hu_l q (P w) * 1 ≤ hu_l q (P v) * 1 := mx w hw rw'
    omega
  · exact c ▸ rv
end
end
section
section
variable {P : Nat → hu_V} {S : Nat → Prop} {O T : Nat → Nat} {A : Nat → Prop}
/-- a point of the surface lies in a triangle -/
theorem hm_loc (M : hm_M P S O T A) {l : hu_V} (hl : ∀ x, S x → hu_l l (P x) ≤ 0) (ng : ∃ x, S x ∧ hu_l l (P x) < 0) {x : hu_V} (x1 : 0 < x.1)
    (lx : hu_l l x = 0) (tx : ∀ t, t < 26 → A t → hm_t P O t x ≤ 0) :
    ∃ t δ D1 D2 D3, t < 26 ∧ A t ∧ 0 < δ ∧ 0 ≤ D1 ∧ 0 ≤ D2 ∧ 0 ≤ D3 ∧
      ∀ f : hu_V, hu_l f (P (O (3 * t))) * D1 + hu_l f (P (O (3 * t + 1))) * D2 + hu_l f (P (O (3 * t + 2))) * D3 = hu_l f x * δ := by
  obtain ⟨s, hs, as, zs⟩ := hm_cov M hl ng x1 lx tx
  obtain ⟨o, ho⟩ := hm_in M
  have no : ∀ t, t < 26 → A t → hm_t P O t o < 0 := fun t ht a =>
    ho (hu_c _ _ _) (fun x s => hm_np M ht a s) (hm_ng M ht a)
  obtain ⟨K, K0, hK⟩ := hf_big (fun t => hs_i (A t) * - hm_t P O t o) 26
  have hp : ∀ t, t < 26 → A t → hm_t P O t (hu_a (hu_k K x) (hu_k (-1) o)) = K * hm_t P O t x - hm_t P O t o := by
    intro t _ _
    rw [hm_l, hu_la, hu_lk, hu_lk, ← hm_l, ← hm_l]; omega
  have vis : ∀ t, t < 26 → A t → hm_t P O t x < 0 → hm_t P O t (hu_a (hu_k K x) (hu_k (-1) o)) ≤ 0 := by
    intro t ht a h
    rw [hp t ht a]
    have h3 := hK t ht
    rw [hs_it a] at h3
    have h4 := sg_0n (Int.le_of_lt K0) (show hm_t P O t x + 1 ≤ 0 by omega)
    have e : K * (hm_t P O t x + 1) = K * hm_t P O t x + K := by grind
    omega
  have vis' : ∀ t, t < 26 → A t → hm_t P O t x = 0 → 0 < hm_t P O t (hu_a (hu_k K x) (hu_k (-1) o)) := by
    intro t ht a h
    rw [hp t ht a, h]
    have := no t ht a
    omega
  generalize hu_a (hu_k K x) (hu_k (-1) o) = p at vis vis'
  have key := hx_pl (O := O) (T := T) (G := fun t => t < 26 ∧ A t ∧ hm_t P O t x = 0)
    (D := fun i j => - hu_d (P i) (P j) p x)
    (fun i j => by show -hu_d (P j) (P i) p _ = - -hu_d (P i) (P j) p _; rw [hu_d12 (P i) (P j)])
    (fun a i j k => by
      show -hu_d (P i) (P j) p _ * -hu_d (P a) (P k) p _ + -hu_d (P j) (P k) p _ * -hu_d (P a) (P i) p _ + -hu_d (P k) (P i) p _ * -hu_d (P a) (P j) p _ = 0
      rw [Int.neg_mul_neg, Int.neg_mul_neg, Int.neg_mul_neg]; exact hu_pp _ _ _ _ _ _)
    (fun h hh g _ => by
      obtain ⟨y1, _, y3, y4, y5⟩ := hm_T M hh g.2.1
      exact ⟨y1, y3, y4, y5⟩)
    (fun t ht g => by
      show 0 < -hu_d (P (O (3 * t))) (P (O (3 * t + 1))) p _ + -hu_d (P (O (3 * t + 1))) (P (O (3 * t + 2))) p _ + -hu_d (P (O (3 * t + 2))) (P (O (3 * t))) p _
      have h := hu_F1 (P (O (3 * t))) (P (O (3 * t + 1))) (P (O (3 * t + 2))) p x
      have g2 : hu_d (P (O (3 * t))) (P (O (3 * t + 1))) (P (O (3 * t + 2))) x = 0 := g.2.2
      rw [hm_w M, hm_w M, hm_w M, g2, hu_d12 (P (O (3 * t + 2))) (P (O (3 * t)))] at h
      have v : 0 < hu_d (P (O (3 * t))) (P (O (3 * t + 1))) (P (O (3 * t + 2))) p := vis' t ht g.2.1 g.2.2
      have := sg_pp x1 v
      omega)
    (fun h hh g ngg => by
      show 0 ≤ -hu_d (P (O h)) (P (O (hn_n h))) p _
      obtain ⟨g1, g2, g3⟩ := g
      obtain ⟨m1, m2, _, _, _⟩ := hm_T M hh g2
      have ht' : T h / 3 < 26 := by omega
      have k1 := tx _ ht' m2
      have k2 : hm_t P O (T h / 3) x ≠ 0 := fun e => ngg ⟨ht', m2, e⟩
      have := (hm_rim M hh g2 (vis' _ g1 g2 g3) (vis _ ht' m2 (by omega))).2 x (Int.le_of_eq g3) k1
      omega)
    ⟨s, hs, hs, as, zs⟩
  obtain ⟨t, ht, ⟨_, at', zt⟩, d1, d2, d3⟩ := key
  refine ⟨t, hm_t P O t p, _, _, _, ht, at', vis' t ht at' zt, d2, d3, d1, fun f => ?_⟩
  have e := hu_cv f (P (O (3 * t))) (P (O (3 * t + 1))) (P (O (3 * t + 2))) p x
  have zt' : hu_d (P (O (3 * t))) (P (O (3 * t + 1))) (P (O (3 * t + 2))) x = 0 := zt
  rw [zt', Int.mul_zero, Int.sub_zero] at e
  exact e
end
section
variable {P : Nat → hu_V} {n m : Nat} {L : Nat → hu_V}
/-- what two facets share lies on a line -/
theorem hf_col (F : hf_F P n m L) {g g' i j k : Nat} (hg : g < m) (hg' : g' < m) (ne : g ≠ g')
    (i1 : hu_l (L g) (P i) = 0) (j1 : hu_l (L g) (P j) = 0) (k1 : hu_l (L g) (P k) = 0)
    (i2 : hu_l (L g') (P i) = 0) (j2 : hu_l (L g') (P j) = 0) (k2 : hu_l (L g') (P k) = 0) (z : hu_V) : hu_d (P i) (P j) (P k) z = 0 := by
  refine Classical.byContradiction fun nz => ne (F.2.2.2.2.2.2.1 g g' hg hg' fun x hx => ?_)
  obtain ⟨s, hs, ns⟩ := F.2.2.2.2.1 g hg
  obtain ⟨s', hs', ns'⟩ := F.2.2.2.2.1 g' hg'
  have p1 := hu_prop i1 j1 k1
  have p2 := hu_prop i2 j2 k2
  have d1 : hu_d (P i) (P j) (P k) (P s) ≠ 0 := fun e => by
    have := p1 (P s) z
    rw [e, Int.mul_zero] at this
    exact nz (sg_dz ns this)
  have d2 : hu_d (P i) (P j) (P k) (P s') ≠ 0 := fun e => by
    have := p2 (P s') z
    rw [e, Int.mul_zero] at this
    exact nz (sg_dz ns' this)
  have q1 := p1 (P s) (P x)
  have q2 := p2 (P s') (P x)
  constructor
  · intro e
    rw [e, Int.zero_mul] at q1
    have dx := sg_dz ns q1
    rw [dx, Int.mul_zero, Int.mul_comm] at q2
    exact sg_z d2 q2.symm
  · intro e
    rw [e, Int.zero_mul] at q2
    have dx := sg_dz ns' q2
    rw [dx, Int.mul_zero, Int.mul_comm] at q1
    exact sg_z d1 q1.symm
/-- two that a functional tells apart -/
theorem hf_cd (F : hf_F P n m L) {a b : Nat} (ha : a < n) (hb : b < n) (ne : a ≠ b) : ∃ e : hu_V, hu_l e (P a) < hu_l e (P b) := by
  have pn : P a ≠ P b := fun e => ne (F.2.1 a b ha hb e)
  refine Classical.byContradiction fun k => pn ?_
  have kk : ∀ e : hu_V, hu_l e (P a) = hu_l e (P b) := by
    intro e
    rcases Int.lt_trichotomy (hu_l e (P a)) (hu_l e (P b)) with c | c | c
    · exact absurd ⟨e, c⟩ k
    · exact c
    · exact absurd ⟨hu_k (-1) e, by rw [hu_kl, hu_kl]; omega⟩ k
  have k1 := kk (1, 0, 0, 0)
  have k2 := kk (0, 1, 0, 0)
  have k3 := kk (0, 0, 1, 0)
  have k4 := kk (0, 0, 0, 1)
  simp only [hu_l] at k1 k2 k3 k4
  exact Prod.ext (by omega) (Prod.ext (by omega) (Prod.ext (by omega) (by omega)))
/-- on a line through a: functionals that are nothing at a go together -/
theorem hf_tog (F : hf_F P n m L) {a y z : Nat} (ha : a < n) (hy : y < n) (ne : a ≠ y) (on : ∀ w, hu_d (P a) (P y) (P z) w = 0) {f q : hu_V}
    (fa : hu_l f (P a) = 0) (qa : hu_l q (P a) = 0) : hu_l f (P y) * hu_l q (P z) = hu_l q (P y) * hu_l f (P z) := by
  have h := hf_on (l := hu_a (hu_k (hu_l f (P y)) q) (hu_k (- hu_l q (P y)) f)) on (by rw [hu_al, hu_kl, hu_kl, fa, qa]; omega)
    (by rw [hu_al, hu_kl, hu_kl, Int.neg_mul, Int.mul_comm]; omega) (hf_nl F ha hy ne)
  rw [hu_al, hu_kl, hu_kl, Int.neg_mul] at h
  omega
/-- a line holds two corners at most -/
theorem hf_2 (F : hf_F P n m L) {a b c : Nat} (ha : a < n) (hb : b < n) (hc : c < n) (ab : a ≠ b) (ac : a ≠ c) (bc : b ≠ c)
    (ka : hf_K P m L a) (kb : hf_K P m L b) (kc : hf_K P m L c) (on : ∀ z, hu_d (P a) (P b) (P c) z = 0) : False := by
  obtain ⟨e, lt⟩ := hf_cd F ha hb ab
  have el : ∀ v z : Nat, hu_l (hu_a e (hu_k (- hu_l e (P v)) hu_w)) (P z) = hu_l e (P z) - hu_l e (P v) := by
    intro v z; rw [hu_al, hu_kl, hu_lw, F.1]; omega
  obtain ⟨qa, qa0, qa1⟩ := hf_ce F ha ka
  obtain ⟨qb, qb0, qb1⟩ := hf_ce F hb kb
  obtain ⟨qc, qc0, qc1⟩ := hf_ce F hc kc
  have t1 := hf_tog F ha hb ab on (f := hu_a e (hu_k (- hu_l e (P a)) hu_w)) (q := qa) (by rw [el]; omega) qa0
  have t2 := hf_tog F hb ha (fun k => ab k.symm) (z := c) (fun w => by rw [hu_d12 (P a) (P b)]; have := on w; omega) (f := hu_a e (hu_k (- hu_l e (P b)) hu_w)) (q := qb) (by rw [el]; omega) qb0
  have t3 := hf_tog F hc ha (fun k => ac k.symm) (z := b) (fun w => by
    have := on w
    rw [← hu_dcy (P a) (P b) (P c) w, ← hu_dcy (P b) (P c) (P a) w] at this
    exact this) (f := hu_a e (hu_k (- hu_l e (P c)) hu_w)) (q := qc) (by rw [el]; omega) qc0
  rw [el, el] at t1 t2 t3
  have a1 := qa1 b hb (fun k => ab k.symm)
  have a2 := qa1 c hc (fun k => ac k.symm)
  have b1 := qb1 a ha ab
  have b2 := qb1 c hc (fun k => bc k.symm)
  have c1 := qc1 a ha ac
  have c2 := qc1 b hb bc
  -- e c > e a
  have k1 : 0 < hu_l e (P c) - hu_l e (P a) := by
    have := sg_pn (show 0 < hu_l e (P b) - hu_l e (P a) by omega) a2
    rw [t1] at this
    exact sg_dn a1 this
  have k2 : hu_l e (P c) - hu_l e (P b) < 0 := by
    have := sg_nn (show hu_l e (P a) - hu_l e (P b) < 0 by omega) b2
    rw [t2] at this
    exact sg_dp b1 this
  have := sg_nn (show hu_l e (P a) - hu_l e (P c) < 0 by omega) c2
  rw [t3] at this
  have := sg_dp c1 this
  omega
end
end
section
/-! the volume -/
def hv_G (P : Nat → hu_V) (L : Nat → hu_V) (O : Nat → Nat) (A : Nat → Prop) (g t : Nat) : Prop :=
  t < 26 ∧ A t ∧ ∀ k, k < 3 → hu_l (L g) (P (O (3 * t + k))) = 0
section
variable {P : Nat → hu_V} {n m : Nat} {L : Nat → hu_V} {O T : Nat → Nat} {A : Nat → Prop}
theorem hv_h {g h : Nat} (G : hv_G P L O A g (h / 3)) : hu_l (L g) (P (O h)) = 0 ∧ hu_l (L g) (P (O (hn_n h))) = 0 ∧ hu_l (L g) (P (O (hn_n (hn_n h)))) = 0 := by
  obtain ⟨_, _, z⟩ := G
  obtain ⟨t, e, c⟩ := hn_c h
  rw [e] at z
  have z0 := z 0 (by omega)
  have z1 := z 1 (by omega)
  have z2 := z 2 (by omega)
  rw [Nat.add_zero] at z0
  rcases c with c | c | c
  · rw [c, hn_0, hn_1]; exact ⟨z0, z1, z2⟩
  · rw [c, hn_1, hn_2]; exact ⟨z1, z2, z0⟩
  · rw [c, hn_2, hn_0]; exact ⟨z2, z0, z1⟩
theorem hv_hi {g h : Nat} (hh : h < 78) (a : A (h / 3)) (z1 : hu_l (L g) (P (O h)) = 0) (z2 : hu_l (L g) (P (O (hn_n h))) = 0) (z3 : hu_l (L g) (P (O (hn_n (hn_n h)))) = 0) :
    hv_G P L O A g (h / 3) := by
  refine ⟨by omega, a, fun k hk => ?_⟩
  obtain ⟨t, e, c⟩ := hn_c h
  rw [e]
  have ck : k = 0 ∨ k = 1 ∨ k = 2 := by omega
  rcases c with c | c | c
  · rw [c, hn_0] at z2; rw [c, hn_0, hn_1] at z3; rw [c] at z1
    rcases ck with ck | ck | ck
    · rw [ck]; exact z1
    · rw [ck]; exact z2
    · rw [ck]; exact z3
  · rw [c, hn_1] at z2; rw [c, hn_1, hn_2] at z3; rw [c] at z1
    rcases ck with ck | ck | ck
    · rw [ck]; exact z3
    · rw [ck]; exact z1
    · rw [ck]; exact z2
  · rw [c, hn_2] at z2; rw [c, hn_2, hn_0] at z3; rw [c] at z1
    rcases ck with ck | ck | ck
    · rw [ck]; exact z2
    · rw [ck]; exact z3
    · rw [ck]; exact z1
/-- each triangle lies in one facet -/
theorem hv_ex (M : hm_M P (fun x => x < n) O T A) (F : hf_F P n m L) {t : Nat} (ht : t < 26) (a : A t) :
    ∃ g, g < m ∧ hv_G P L O A g t ∧ ∀ x, x < n → (hu_l (L g) (P x) = 0 ↔ hm_t P O t (P x) = 0) := by
  obtain ⟨s0, s1, s2⟩ := hm_S3 M ht a
  obtain ⟨y, hy, ny⟩ := hm_ng M ht a
  obtain ⟨g, hg, z⟩ := F.2.2.2.2.2.2.2 (hu_c (P (O (3 * t))) (P (O (3 * t + 1))) (P (O (3 * t + 2)))) _ _ _ s0 s1 s2 (hu_z14 _ _ _) (hu_z24 _ _ _) (hu_z34 _ _ _)
    ⟨P y, fun e => by unfold hm_t at ny; omega⟩ (fun x hx => hm_np M ht a hx) ⟨y, hy, ny⟩
  refine ⟨g, hg, ⟨ht, a, fun k hk => ?_⟩, z⟩
  have ck : k = 0 ∨ k = 1 ∨ k = 2 := by omega
  rcases ck with ck | ck | ck
  · rw [ck]; exact (z _ s0).mpr (hu_z14 _ _ _)
  · rw [ck]; exact (z _ s1).mpr (hu_z24 _ _ _)
  · rw [ck]; exact (z _ s2).mpr (hu_z34 _ _ _)
theorem hv_un (M : hm_M P (fun x => x < n) O T A) (F : hf_F P n m L) {g g' t : Nat} (hg : g < m) (hg' : g' < m) (G : hv_G P L O A g t) (G' : hv_G P L O A g' t) : g = g' := by
  refine Classical.byContradiction fun ne => ?_
  obtain ⟨ht, a, z⟩ := G
  obtain ⟨_, _, z'⟩ := G'
  obtain ⟨y, hy, ny⟩ := hm_ng M ht a
  have := hf_col F hg hg' ne (z 0 (by omega)) (z 1 (by omega)) (z 2 (by omega)) (z' 0 (by omega)) (z' 1 (by omega)) (z' 2 (by omega)) (P y)
  rw [Nat.add_zero] at this
  unfold hm_t at ny
  omega
/-- a half-edge of the border of g -/
def hv_B (P : Nat → hu_V) (L : Nat → hu_V) (O T : Nat → Nat) (A : Nat → Prop) (g h : Nat) : Prop :=
  hv_G P L O A g (h / 3) ∧ ¬ hv_G P L O A g (T h / 3)
theorem hv_b (M : hm_M P (fun x => x < n) O T A) (F : hf_F P n m L) {g h : Nat} (hh : h < 78) (B : hv_B P L O T A g h) :
    ∃ g', g' < m ∧ g' ≠ g ∧ hv_G P L O A g' (T h / 3) ∧ hu_l (L g') (P (O h)) = 0 ∧ hu_l (L g') (P (O (hn_n h))) = 0 := by
  obtain ⟨m1, m2, _, m4, m5⟩ := hm_T M hh B.1.2.1
  obtain ⟨g', hg', G', _⟩ := hv_ex M F (show T h / 3 < 26 by omega) m2
  obtain ⟨y1, y2, _⟩ := hv_h G'
  exact ⟨g', hg', fun e => B.2 (e ▸ G'), G', by rw [← m5]; exact y2, by rw [← m4]; exact y1⟩
theorem hv_lt (M : hm_M P (fun x => x < n) O T A) {g h : Nat} (hh : h < 78) (G : hv_G P L O A g (h / 3)) : O h < n ∧ O (hn_n h) < n ∧ O (hn_n (hn_n h)) < n :=
  ⟨hm_S M hh G.2.1, hm_S M (hn_lt hh) (by rw [hn_d]; exact G.2.1), hm_S M (hn_lt (hn_lt hh)) (by rw [hn_d, hn_d]; exact G.2.1)⟩
theorem hv_nz (M : hm_M P (fun x => x < n) O T A) {h : Nat} (hh : h < 78) (a : A (h / 3)) :
    ∃ y, y < n ∧ hu_d (P (O h)) (P (O (hn_n h))) (P (O (hn_n (hn_n h)))) (P y) < 0 := by
  obtain ⟨y, hy, ny⟩ := hm_ng M (show h / 3 < 26 by omega) a
  exact ⟨y, hy, by rw [← hm_e]; exact ny⟩
theorem hv_ne (M : hm_M P (fun x => x < n) O T A) {h : Nat} (hh : h < 78) (a : A (h / 3)) :
    O h ≠ O (hn_n h) ∧ O h ≠ O (hn_n (hn_n h)) ∧ O (hn_n h) ≠ O (hn_n (hn_n h)) := by
  obtain ⟨y, _, ny⟩ := hv_nz M hh a
  refine ⟨fun e => ?_, fun e => ?_, fun e => ?_⟩
  · rw [e, hu_z12] at ny; omega
  · rw [e, hu_z13] at ny; omega
  · rw [e, hu_z23] at ny; omega
/-- an edge of the facet g -/
def hv_E (P : Nat → hu_V) (n m : Nat) (L : Nat → hu_V) (g a b : Nat) : Prop :=
  a < n ∧ b < n ∧ a ≠ b ∧ hf_K P m L a ∧ hf_K P m L b ∧ hu_l (L g) (P a) = 0 ∧ hu_l (L g) (P b) = 0 ∧ hf_E P m L a b
theorem hv_o {g a b : Nat} (E : hv_E P n m L g a b) : ∃ g2, g2 < m ∧ g2 ≠ g ∧ hu_l (L g2) (P a) = 0 ∧ hu_l (L g2) (P b) = 0 := by
  obtain ⟨_, _, _, _, _, _, _, g1, g2, h1, h2, ne, a1, a2, b1, b2⟩ := E
  rcases Nat.decEq g1 g with c | c
  · exact ⟨g1, h1, c, a1, b1⟩
  · exact ⟨g2, h2, fun e => ne (c.trans e.symm), a2, b2⟩
def hv_on (P : Nat → hu_V) (O : Nat → Nat) (a b h : Nat) : Prop :=
  (∀ z, hu_d (P a) (P b) (P (O h)) z = 0) ∧ ∀ z, hu_d (P a) (P b) (P (O (hn_n h))) z = 0
/-- the third corner lies off the line -/
theorem hv_of (M : hm_M P (fun x => x < n) O T A) (F : hf_F P n m L) {g g2 a b h : Nat} (hg : g < m) (E : hv_E P n m L g a b) (hg2 : g2 < m) (ne : g2 ≠ g)
    (a2 : hu_l (L g2) (P a) = 0) (b2 : hu_l (L g2) (P b) = 0) (hh : h < 78) (G : hv_G P L O A g (h / 3)) (on : hv_on P O a b h) :
    hu_l (L g2) (P (O h)) = 0 ∧ hu_l (L g2) (P (O (hn_n h))) = 0 ∧ hu_l (L g2) (P (O (hn_n (hn_n h)))) < 0 := by
  have ind := hf_nl F E.1 E.2.1 E.2.2.1
  have x1 := hf_on on.1 a2 b2 ind
  have x2 := hf_on on.2 a2 b2 ind
  obtain ⟨l1, l2, l3⟩ := hv_lt M hh G
  obtain ⟨z1, z2, z3⟩ := hv_h G
  refine ⟨x1, x2, ?_⟩
  have := F.2.2.2.1 g2 hg2 _ l3
  rcases Int.lt_or_le (hu_l (L g2) (P (O (hn_n (hn_n h))))) 0 with c | c
  · exact c
  · exfalso
    obtain ⟨y, _, ny⟩ := hv_nz M hh G.2.1
    have := hf_col F hg hg2 (fun k => ne k.symm) z1 z2 z3 x1 x2 (by omega) (P y)
    omega
/-- three of a facet and a fourth: no volume -/
theorem hv_pl (F : hf_F P n m L) {g i j k c : Nat} (hg : g < m) (i1 : hu_l (L g) (P i) = 0) (j1 : hu_l (L g) (P j) = 0) (k1 : hu_l (L g) (P k) = 0)
    (c1 : hu_l (L g) (P c) = 0) : hu_d (P i) (P j) (P k) (P c) = 0 := by
  obtain ⟨s, hs, ns⟩ := F.2.2.2.2.1 g hg
  have e := hu_prop i1 j1 k1 (P c) (P s)
  rw [c1, Int.zero_mul] at e
  exact sg_dz ns e.symm
/-- two triangles that lie on one side of a line and share its end overlap -/
theorem hv_ov (F : hf_F P n m L) {g g2 a y c y' c' : Nat} {l q : hu_V} (hg : g < m) (ha : a < n) (hy : y < n) (ne : a ≠ y)
    (q0 : hu_l q (P a) = 0) (q1 : hu_l q (P y) < 0) (q2 : hu_l q (P y') < 0) (on : ∀ z, hu_d (P a) (P y) (P y') z = 0)
    (ga : hu_l (L g) (P a) = 0) (gy : hu_l (L g) (P y) = 0) (gc : hu_l (L g) (P c) = 0) (gc' : hu_l (L g) (P c') = 0)
    (a2 : hu_l (L g2) (P a) = 0) (y2 : hu_l (L g2) (P y) = 0) (c2 : hu_l (L g2) (P c) < 0) (c2' : hu_l (L g2) (P c') < 0)
    (la : hu_l l (P a) = 0) (ly : hu_l l (P y) ≤ 0) (lc : hu_l l (P c) ≤ 0) (ly' : 0 ≤ hu_l l (P y')) (lc' : 0 ≤ hu_l l (P c'))
    (nd : ∃ s, hu_d (P a) (P y) (P c) s ≠ 0) : hu_l l (P y) = 0 ∧ hu_l l (P c) = 0 := by
  have t := hf_tog F ha hy ne on la q0
  have k1 := sg_00 ly (Int.le_of_lt q2)
  have k2 := sg_n0 (Int.le_of_lt q1) ly'
  have ly0 : hu_l l (P y) = 0 := by
    have : hu_l q (P y') * hu_l l (P y) = 0 := by rw [Int.mul_comm]; omega
    exact sg_dz q2 this
  refine ⟨ly0, ?_⟩
  obtain ⟨s, ns⟩ := nd
  have pl := hv_pl F hg ga gy gc gc'
  have e := hu_prop (l := hu_a (hu_k (hu_l l (P c)) (L g2)) (hu_k (- hu_l (L g2) (P c)) l)) (a := P a) (b := P y) (c := P c)
    (by rw [hu_al, hu_kl, hu_kl, a2, la]; omega) (by rw [hu_al, hu_kl, hu_kl, y2, ly0]; omega) (by rw [hu_al, hu_kl, hu_kl, Int.neg_mul, Int.mul_comm]; omega) (P c') s
  rw [pl, Int.mul_zero, Int.mul_comm] at e
  have e2 := sg_z ns e
  rw [hu_al, hu_kl, hu_kl, Int.neg_mul] at e2
  have k3 := sg_00 lc (Int.le_of_lt c2')
  have k4 := sg_n0 (Int.le_of_lt c2) lc'
  have : hu_l (L g2) (P c') * hu_l l (P c) = 0 := by rw [Int.mul_comm]; omega
  exact sg_dz c2' this
/-- at most one half-edge of the border on a line touches its end -/
theorem hv_u1 (M : hm_M P (fun x => x < n) O T A) (F : hf_F P n m L) {g a b h k : Nat} (hg : g < m) (E : hv_E P n m L g a b)
    (hh : h < 78) (hk : k < 78) (G : hv_G P L O A g (h / 3)) (G' : hv_G P L O A g (k / 3)) (on : hv_on P O a b h) (on' : hv_on P O a b k)
    (ia : O h = a ∨ O (hn_n h) = a) (ia' : O k = a ∨ O (hn_n k) = a) : h = k := by
  obtain ⟨g2, hg2, ne2, a2, b2⟩ := hv_o E
  obtain ⟨x1, x2, x3⟩ := hv_of M F hg E hg2 ne2 a2 b2 hh G on
  obtain ⟨x1', x2', x3'⟩ := hv_of M F hg E hg2 ne2 a2 b2 hk G' on'
  obtain ⟨l1, l2, l3⟩ := hv_lt M hh G
  obtain ⟨l1', l2', l3'⟩ := hv_lt M hk G'
  obtain ⟨z1, z2, z3⟩ := hv_h G
  obtain ⟨z1', z2', z3'⟩ := hv_h G'
  obtain ⟨q, q0, q1⟩ := hf_ce F E.1 E.2.2.2.1
  obtain ⟨d1, d2, d3⟩ := hv_ne M hh G.2.1
  obtain ⟨d1', d2', d3'⟩ := hv_ne M hk G'.2.1
  obtain ⟨s, _, ns⟩ := hv_nz M hh G.2.1
  rcases Nat.decEq (h / 3) (k / 3) with ne | e
  · exfalso
    obtain ⟨l, ⟨p1, p2, p3⟩, p4, p5, p6, p7⟩ := hm_sep3 (hm_sp M G.1 G'.1 G.2.1 G'.2.1 ne) (h := h) (g := k) rfl rfl
    have key : ∀ y y', y < n → y' < n → a ≠ y → a ≠ y' → hu_l (L g) (P y) = 0 → hu_l (L g) (P y') = 0 → hu_l (L g2) (P y) = 0 → hu_l (L g2) (P y') = 0 →
        (∃ s, hu_d (P a) (P y) (P (O (hn_n (hn_n h)))) s ≠ 0) →
        hu_l l (P a) = 0 → hu_l l (P y) ≤ 0 → 0 ≤ hu_l l (P y') → hu_l l (P y) = 0 ∧ hu_l l (P (O (hn_n (hn_n h)))) = 0 := by
      intro y y' hy hy' ny ny' gy gy' g2y g2y' nd la ly ly'
      exact hv_ov F hg E.1 hy ny q0 (q1 y hy (fun e => ny e.symm)) (q1 y' hy' (fun e => ny' e.symm))
        (fun z => hf_col F hg hg2 (fun e => ne2 e.symm) E.2.2.2.2.2.1 gy gy' a2 g2y g2y' z) E.2.2.2.2.2.1 gy z3 z3' a2 g2y x3 x3' la ly p3 ly' p7 nd
    rcases ia with ia | ia <;> rcases ia' with ia' | ia'
    · rw [ia] at p1 p4 d1 ns; rw [ia'] at p5 d1'
      have := key _ _ l2 l2' d1 d1' z2 z2' x2 x2' ⟨P s, by omega⟩ (by omega) p2 p6
      omega
    · rw [ia] at p1 p4 d1 ns; rw [ia'] at p6 d1'
      have := key _ _ l2 l1' d1 (fun e => d1' e.symm) z2 z1' x2 x1' ⟨P s, by omega⟩ (by omega) p2 p5
      omega
    · rw [ia] at p2 p4 d1 ns; rw [ia'] at p5 d1'
      have := key _ _ l1 l2' (fun e => d1 e.symm) d1' z1 z2' x1 x2' ⟨P s, by rw [hu_d12 (P (O h)) (P a)]; omega⟩ (by omega) p1 p6
      omega
    · rw [ia] at p2 p4 d1 ns; rw [ia'] at p6 d1'
      have := key _ _ l1 l1' (fun e => d1 e.symm) (fun e => d1' e.symm) z1 z1' x1 x1' ⟨P s, by rw [hu_d12 (P (O h)) (P a)]; omega⟩ (by omega) p1 p5
      omega
  · -- one triangle has one edge on the line
    obtain ⟨t, e1, c1⟩ := hn_c h
    have c2 : k = 3 * t ∨ k = 3 * t + 1 ∨ k = 3 * t + 2 := by omega
    rcases c1 with c1 | c1 | c1 <;> rcases c2 with c2 | c2 | c2 <;> first | (exact c1.trans c2.symm) | skip
    all_goals
      exfalso
      subst c1; subst c2
      simp only [hn_0, hn_1, hn_2] at x1 x2 x3 x1' x2' x3'
      omega
end
end
section
section
variable {P : Nat → hu_V} {n m : Nat} {L : Nat → hu_V} {O T : Nat → Nat} {A : Nat → Prop}
/-- two triangles of one facet don't meet along its edge -/
theorem hv_nb (M : hm_M P (fun x => x < n) O T A) (F : hf_F P n m L) {g g2 a b h : Nat} (hg : g < m) (E : hv_E P n m L g a b) (hg2 : g2 < m) (ne : g2 ≠ g)
    (a2 : hu_l (L g2) (P a) = 0) (b2 : hu_l (L g2) (P b) = 0) (hh : h < 78) (G : hv_G P L O A g (h / 3)) (on : hv_on P O a b h) : ¬ hv_G P L O A g (T h / 3) := by
  intro G'
  obtain ⟨m1, m2, m3, m4, m5⟩ := hm_T M hh G.2.1
  have on' : hv_on P O a b (T h) := ⟨by rw [m4]; exact on.2, by rw [m5]; exact on.1⟩
  obtain ⟨x1, x2, x3⟩ := hv_of M F hg E hg2 ne a2 b2 hh G on
  obtain ⟨_, _, x3'⟩ := hv_of M F hg E hg2 ne a2 b2 m1 G' on'
  obtain ⟨z1, z2, z3⟩ := hv_h G
  obtain ⟨_, _, z3'⟩ := hv_h G'
  obtain ⟨s, hs, ns⟩ := hv_nz M hh G.2.1
  have pl := hv_pl F hg z1 z2 z3 z3'
  have e := hu_F5 (L g2) (P (O h)) (P (O (hn_n h))) (P (O (hn_n (hn_n h)))) (P (O (hn_n (hn_n (T h))))) (P s)
  rw [x1, x2, pl] at e
  have np := hm_np M (show T h / 3 < 26 by omega) m2 hs
  rw [hm_e, m4, m5, hu_d12 (P (O h)) (P (O (hn_n h)))] at np
  have k1 := sg_nn x3' ns
  have k2 := sg_n0 (Int.le_of_lt x3) (show 0 ≤ hu_d (P (O h)) (P (O (hn_n h))) (P (O (hn_n (hn_n (T h))))) (P s) by omega)
  omega
/-- at least one does -/
theorem hv_e1 (M : hm_M P (fun x => x < n) O T A) (F : hf_F P n m L) {g a b : Nat} (hg : g < m) (E : hv_E P n m L g a b) :
    ∃ h, h < 78 ∧ hv_B P L O T A g h ∧ hv_on P O a b h ∧ (O h = a ∨ O (hn_n h) = a) := by
  obtain ⟨g2, hg2, ne2, a2, b2⟩ := hv_o E
  obtain ⟨q, q0, q1⟩ := hf_ce F E.1 E.2.2.2.1
  have ga := E.2.2.2.2.2.1
  have gb := E.2.2.2.2.2.2.1
  -- the nearest one on the line
  obtain ⟨a1, ha1, ⟨_, a1v, a1g, a1g2⟩, near⟩ := hs_max (Q := fun x => x < n ∧ x ≠ a ∧ hu_l (L g) (P x) = 0 ∧ hu_l (L g2) (P x) = 0) (num := fun x => hu_l q (P x)) (den := fun _ => 1)
    (fun _ _ => by omega) n ⟨b, E.2.1, E.2.1, fun e => E.2.2.1 e.symm, gb, b2⟩
  have near' : ∀ x, x < n → x ≠ a → hu_l (L g) (P x) = 0 → hu_l (L g2) (P x) = 0 → hu_l q (P x) ≤ hu_l q (P a1) := by
    intro x h1 h2 h3 h4
    have : hu_l q (P x) * 1 ≤ hu_l q (P a1) * 1 := near x h1 ⟨h1, h2, h3, h4⟩
    omega
  obtain ⟨t, δ, D1, D2, D3, ht, at', d0, p1, p2, p3, rel⟩ := hm_loc M (l := L g) (fun x hx => F.2.2.2.1 g hg x hx) (F.2.2.2.2.1 g hg) (x := hu_a (P a) (P a1))
    (by show 0 < (P a).1 + (P a1).1; rw [F.1, F.1]; omega) (by rw [hu_la, ga, a1g]; rfl)
    (by
      intro t ht a'
      rw [hm_l, hu_la, ← hm_l, ← hm_l]
      have h1 := hm_np M ht a' (x := a) E.1
      have h2 := hm_np M ht a' (x := a1) ha1
      omega)
  obtain ⟨s0, s1, s2⟩ := hm_S3 M ht at'
  have np := F.2.2.2.1
  -- those with a weight lie on the line
  have w : ∀ f : hu_V, (∀ x, x < n → hu_l f (P x) ≤ 0) → hu_l f (P a) = 0 → hu_l f (P a1) = 0 →
      (0 < D1 → hu_l f (P (O (3 * t))) = 0) ∧ (0 < D2 → hu_l f (P (O (3 * t + 1))) = 0) ∧ (0 < D3 → hu_l f (P (O (3 * t + 2))) = 0) := by
    intro f hf fa fa1
    have r := rel f
    rw [hu_la, fa, fa1] at r
    have k1 := sg_n0 (hf _ s0) p1
    have k2 := sg_n0 (hf _ s1) p2
    have k3 := sg_n0 (hf _ s2) p3
    obtain ⟨y1, y2, y3⟩ := ho_z3 k1 k2 k3 (by omega)
    rw [Int.mul_comm] at y1 y2 y3
    exact ⟨fun h => sg_cz h y1, fun h => sg_cz h y2, fun h => sg_cz h y3⟩
  obtain ⟨w1, w2, w3⟩ := w (L g) (np g hg) ga a1g
  obtain ⟨v1, v2, v3⟩ := w (L g2) (np g2 hg2) a2 a1g2
  have qa1 := q1 a1 ha1 a1v
  have sumw := rel hu_w
  rw [hu_lw, hu_lw, hu_lw, hu_la, hu_lw, hu_lw, F.1, F.1, F.1, F.1, F.1] at sumw
  have rq := rel q
  rw [hu_la, q0] at rq
  -- a is among them
  have wt : ∀ (D : Int) (i : Nat), 0 ≤ D → i < n → (0 < D → hu_l (L g) (P i) = 0) → (0 < D → hu_l (L g2) (P i) = 0) → ¬ (0 < D ∧ i = a) → hu_l q (P i) * D ≤ hu_l q (P a1) * D := by
    intro D i hD hi k1 k2 k3
    rcases Int.lt_or_le 0 D with c | c
    · have := near' i hi (fun e => k3 ⟨c, e⟩) (k1 c) (k2 c)
      exact Int.mul_le_mul_of_nonneg_right this hD
    · rw [show D = 0 by omega]; omega
  have one : (0 < D1 ∧ O (3 * t) = a) ∨ (0 < D2 ∧ O (3 * t + 1) = a) ∨ (0 < D3 ∧ O (3 * t + 2) = a) := by
    refine Classical.byContradiction fun k => ?_
    have k1 := wt D1 _ p1 s0 w1 v1 (fun c => k (Or.inl c))
    have k2 := wt D2 _ p2 s1 w2 v2 (fun c => k (Or.inr (Or.inl c)))
    have k3 := wt D3 _ p3 s2 w3 v3 (fun c => k (Or.inr (Or.inr c)))
    have e1 : hu_l q (P a1) * D1 + hu_l q (P a1) * D2 + hu_l q (P a1) * D3 = hu_l q (P a1) * (2 * δ) := by
      rw [← Int.mul_add, ← Int.mul_add]; congr 1; omega
    have e2 : hu_l q (P a1) * (2 * δ) = 2 * (hu_l q (P a1) * δ) := by grind
    have := sg_np qa1 d0
    rw [Int.zero_add] at rq
    omega
  have two : (0 < D1 ∧ O (3 * t) ≠ a) ∨ (0 < D2 ∧ O (3 * t + 1) ≠ a) ∨ (0 < D3 ∧ O (3 * t + 2) ≠ a) := by
    refine Classical.byContradiction fun k => ?_
    have z : ∀ (D : Int) (i : Nat), 0 ≤ D → ¬ (0 < D ∧ i ≠ a) → hu_l q (P i) * D = 0 := by
      intro D i hD h
      rcases Int.lt_or_le 0 D with c | c
      · have : i = a := Classical.byContradiction fun e => h ⟨c, e⟩
        rw [this, q0]; omega
      · rw [show D = 0 by omega]; omega
    rw [z D1 _ p1 (fun c => k (Or.inl c)), z D2 _ p2 (fun c => k (Or.inr (Or.inl c))), z D3 _ p3 (fun c => k (Or.inr (Or.inr c)))] at rq
    have := sg_np qa1 d0
    simp only [Int.zero_add, Int.add_zero] at rq
    omega
  -- the edge between them
  have edge : ∃ h, h < 78 ∧ h / 3 = t ∧ (O h = a ∨ O (hn_n h) = a) ∧ hu_l (L g) (P (O h)) = 0 ∧ hu_l (L g2) (P (O h)) = 0 ∧ hu_l (L g) (P (O (hn_n h))) = 0 ∧ hu_l (L g2) (P (O (hn_n h))) = 0 := by
    rcases one with ⟨u1, u2⟩ | ⟨u1, u2⟩ | ⟨u1, u2⟩ <;> rcases two with ⟨t1, t2⟩ | ⟨t1, t2⟩ | ⟨t1, t2⟩
    · exact absurd u2 t2
    · exact ⟨3 * t, by omega, by omega, Or.inl u2, w1 u1, v1 u1, by rw [hn_0]; exact w2 t1, by rw [hn_0]; exact v2 t1⟩
    · exact ⟨3 * t + 2, by omega, by omega, Or.inr (by rw [hn_2]; exact u2), w3 t1, v3 t1, by rw [hn_2]; exact w1 u1, by rw [hn_2]; exact v1 u1⟩
    · exact ⟨3 * t, by omega, by omega, Or.inr (by rw [hn_0]; exact u2), w1 t1, v1 t1, by rw [hn_0]; exact w2 u1, by rw [hn_0]; exact v2 u1⟩
    · exact absurd u2 t2
    · exact ⟨3 * t + 1, by omega, by omega, Or.inl u2, w2 u1, v2 u1, by rw [hn_1]; exact w3 t1, by rw [hn_1]; exact v3 t1⟩
    · exact ⟨3 * t + 2, by omega, by omega, Or.inl u2, w3 u1, v3 u1, by rw [hn_2]; exact w1 t1, by rw [hn_2]; exact v1 t1⟩
    · exact ⟨3 * t + 1, by omega, by omega, Or.inr (by rw [hn_1]; exact u2), w2 t1, v2 t1, by rw [hn_1]; exact w3 u1, by rw [hn_1]; exact v3 u1⟩
    · exact absurd u2 t2
  obtain ⟨h, hh, et, ia, g1, g1', g3, g3'⟩ := edge
  have ah : A (h / 3) := by rw [et]; exact at'
  have on : hv_on P O a b h := ⟨fun z => hf_col F hg hg2 (fun e => ne2 e.symm) ga gb g1 a2 b2 g1' z, fun z => hf_col F hg hg2 (fun e => ne2 e.symm) ga gb g3 a2 b2 g3' z⟩
  obtain ⟨m1, m2, m3, m4, m5⟩ := hm_T M hh ah
  have on' : hv_on P O a b (T h) := ⟨by rw [m4]; exact on.2, by rw [m5]; exact on.1⟩
  have E2 : hv_E P n m L g2 a b := ⟨E.1, E.2.1, E.2.2.1, E.2.2.2.1, E.2.2.2.2.1, a2, b2, E.2.2.2.2.2.2.2⟩
  obtain ⟨dn, _, _⟩ := hv_ne M hh ah
  -- a triangle with an edge on the line lies in g or g2
  have three : ∀ u, u < 26 → A u → hm_t P O u (P (O h)) = 0 → hm_t P O u (P (O (hn_n h))) = 0 → hv_G P L O A g u ∨ hv_G P L O A g2 u := by
    intro u hu au z1 z2
    obtain ⟨g', hg', G', zz⟩ := hv_ex M F hu au
    have l1 : O h < n := hm_S M hh ah
    have l2 : O (hn_n h) < n := hm_S M (hn_lt hh) (by rw [hn_d]; exact ah)
    rcases Nat.decEq g' g with c | c
    · rcases Nat.decEq g' g2 with c2 | c2
      · exact (hf_3 F l1 l2 dn hg hg2 hg' (fun e => ne2 e.symm) (fun e => c e.symm) (fun e => c2 e.symm) g1 g1' ((zz _ l1).mpr z1) g3 g3' ((zz _ l2).mpr z2)).elim
      · exact Or.inr (c2 ▸ G')
    · exact Or.inl (c ▸ G')
  rcases three (h / 3) (by omega) ah (by rw [hm_e, hu_z14]) (by rw [hm_e, hu_z24]) with G | G
  · exact ⟨h, hh, ⟨G, hv_nb M F hg E hg2 ne2 a2 b2 hh G on⟩, on, ia⟩
  · have nG := hv_nb M F hg2 E2 hg (fun e => ne2 e.symm) ga gb hh G on
    rcases three (T h / 3) (by omega) m2 (by rw [← m5, hm_e, hu_z24]) (by rw [← m4, hm_e, hu_z14]) with G' | G'
    · refine ⟨T h, m1, ⟨G', hv_nb M F hg E hg2 ne2 a2 b2 m1 G' on'⟩, on', ?_⟩
      rw [m4, m5]; exact ia.symm
    · exact absurd G' nG
/-- in and out at a point of the line that isn't an end -/
theorem hv_bal (M : hm_M P (fun x => x < n) O T A) (F : hf_F P n m L) {g a b v : Nat} (hg : g < m) (E : hv_E P n m L g a b) (hv : v < n) (va : v ≠ a) (vb : v ≠ b) :
    hs_s (fun h => hs_i (hv_B P L O T A g h ∧ hv_on P O a b h) * (hs_i (O (hn_n h) = v) - hs_i (O h = v))) 78 = 0 := by
  obtain ⟨g2, hg2, ne2, a2, b2⟩ := hv_o E
  have s1 := hx_st (O := O) (T := T) (G := hv_G P L O A g) (fun h hh G _ => by
      obtain ⟨x1, _, x3, x4, x5⟩ := hm_T M hh G.2.1
      exact ⟨x1, x3, x4, x5⟩) (f := fun i j => hs_i (j = v) - hs_i (i = v)) (fun i j => by omega)
  have e1 : hs_s (fun t => hs_i (hv_G P L O A g t) * (hs_i (O (3 * t + 1) = v) - hs_i (O (3 * t) = v) + (hs_i (O (3 * t + 2) = v) - hs_i (O (3 * t + 1) = v)) + (hs_i (O (3 * t) = v) - hs_i (O (3 * t + 2) = v)))) 26 = 0 := by
    refine hs_0 fun t _ => ?_
    have : hs_i (O (3 * t + 1) = v) - hs_i (O (3 * t) = v) + (hs_i (O (3 * t + 2) = v) - hs_i (O (3 * t + 1) = v)) + (hs_i (O (3 * t) = v) - hs_i (O (3 * t + 2) = v)) = 0 := by omega
    rw [this, Int.mul_zero]
  have s2 : hs_s (fun h => hs_i (hv_G P L O A g (h / 3) ∧ ¬ hv_G P L O A g (T h / 3)) * (hs_i (O (hn_n h) = v) - hs_i (O h = v))) 78 = 0 := by
    rw [← s1]; exact e1
  rcases Classical.em (∀ z, hu_d (P a) (P b) (P v) z = 0) with c | c
  · rw [← s2]
    refine hs_cg fun h hh => ?_
    rcases Classical.em (hv_B P L O T A g h ∧ ¬ hv_on P O a b h) with ⟨B, no⟩ | k
    · -- a half-edge at v that isn't on the line: v would be a corner
      have nv : ¬ (O h = v ∨ O (hn_n h) = v) := by
        intro inc
        obtain ⟨g', hg', ng', G', y1, y2⟩ := hv_b M F hh B
        obtain ⟨z1, z2, _⟩ := hv_h B.1
        have ind := hf_nl F E.1 E.2.1 E.2.2.1
        have v1 : hu_l (L g) (P v) = 0 := hf_on c E.2.2.2.2.2.1 E.2.2.2.2.2.2.1 ind
        have v2 : hu_l (L g2) (P v) = 0 := hf_on c a2 b2 ind
        have v3 : hu_l (L g') (P v) = 0 := by
          rcases inc with e | e
          · rw [← e]; exact y1
          · rw [← e]; exact y2
        rcases Nat.decEq g' g2 with c2 | c2
        · have kv : hf_K P m L v := ⟨g, g2, g', hg, hg2, hg', fun e => ne2 e.symm, fun e => ng' e.symm, fun e => c2 e.symm, v1, v2, v3⟩
          exact hf_2 F E.1 E.2.1 hv E.2.2.1 (fun e => va e.symm) (fun e => vb e.symm) E.2.2.2.1 E.2.2.2.2.1 kv c
        · subst c2
          exact no ⟨fun z => hf_col F hg hg' (fun e => ng' e.symm) E.2.2.2.2.2.1 E.2.2.2.2.2.2.1 z1 a2 b2 y1 z, fun z => hf_col F hg hg' (fun e => ng' e.symm) E.2.2.2.2.2.1 E.2.2.2.2.2.2.1 z2 a2 b2 y2 z⟩
      have n1 : ¬ O h = v := fun e => nv (Or.inl e)
      have n2 : ¬ O (hn_n h) = v := fun e => nv (Or.inr e)
      rw [hs_if n1, hs_if n2]; omega
    · have : hs_i (hv_B P L O T A g h ∧ hv_on P O a b h) = hs_i (hv_G P L O A g (h / 3) ∧ ¬ hv_G P L O A g (T h / 3)) :=
        hs_iff ⟨fun x => x.1, fun x => ⟨x, Classical.byContradiction fun y => k ⟨x, y⟩⟩⟩
      rw [this]
  · refine hs_0 fun h hh => ?_
    rcases Classical.em (hv_B P L O T A g h ∧ hv_on P O a b h) with ⟨B, on⟩ | k
    · have n1 : ¬ O h = v := fun e => c (by rw [← e]; exact on.1)
      have n2 : ¬ O (hn_n h) = v := fun e => c (by rw [← e]; exact on.2)
      rw [hs_if n1, hs_if n2]; omega
    · rw [hs_if k]; omega
/-- on a line each functional is reckoned from the two ends -/
theorem hv_li (F : hf_F P n m L) {a b x : Nat} (ha : a < n) (hb : b < n) (ne : a ≠ b) (on : ∀ z, hu_d (P a) (P b) (P x) z = 0) (e f : hu_V) :
    (hu_l e (P b) - hu_l e (P a)) * hu_l f (P x) = (hu_l e (P b) - hu_l e (P x)) * hu_l f (P a) + (hu_l e (P x) - hu_l e (P a)) * hu_l f (P b) := by
  have el : ∀ z : Nat, hu_l (hu_a (hu_k (hu_l e (P b) - hu_l e (P a)) f) (hu_a (hu_a (hu_k (- (hu_l f (P a) * hu_l e (P b))) hu_w) (hu_k (hu_l f (P a)) e)) (hu_a (hu_k (- hu_l f (P b)) e) (hu_k (hu_l f (P b) * hu_l e (P a)) hu_w)))) (P z)
      = (hu_l e (P b) - hu_l e (P a)) * hu_l f (P z) - (hu_l e (P b) - hu_l e (P z)) * hu_l f (P a) - (hu_l e (P z) - hu_l e (P a)) * hu_l f (P b) := by
    intro z
    rw [hu_al, hu_al, hu_al, hu_al, hu_kl, hu_kl, hu_kl, hu_kl, hu_kl, hu_lw, F.1]
    grind
  have h := hf_on on (by rw [el]; grind) (by rw [el]; grind) (hf_nl F ha hb ne)
  rw [el] at h
  omega
/-- the half-edges of the border on one line -/
theorem hv_ln (M : hm_M P (fun x => x < n) O T A) (F : hf_F P n m L) {g a b : Nat} (hg : g < m) (E : hv_E P n m L g a b) (c d : hu_V)
    (pos : ∀ h, h < 78 → hv_B P L O T A g h → 0 ≤ hu_d c d (P (O h)) (P (O (hn_n h)))) :
    hs_s (fun h => hs_i (hv_B P L O T A g h ∧ hv_on P O a b h) * hu_d c d (P (O h)) (P (O (hn_n h)))) 78
      = (if 0 ≤ hu_d c d (P a) (P b) then hu_d c d (P a) (P b) else - hu_d c d (P a) (P b)) := by
  obtain ⟨e, lt⟩ := hf_cd F E.1 E.2.1 E.2.2.1
  -- the chain's ends
  have kv : ∀ v, v < n → v ≠ a → v ≠ b → hs_s (fun h => hs_i (hv_B P L O T A g h ∧ hv_on P O a b h) * (hs_i (O (hn_n h) = v) - hs_i (O h = v))) 78 = 0 :=
    fun v h1 h2 h3 => hv_bal M F hg E h1 h2 h3
  have split : ∀ f : Nat → Int, hs_s (fun h => hs_i (hv_B P L O T A g h ∧ hv_on P O a b h) * (f (O (hn_n h)) - f (O h))) 78
      = hs_s (fun v => f v * hs_s (fun h => hs_i (hv_B P L O T A g h ∧ hv_on P O a b h) * (hs_i (O (hn_n h) = v) - hs_i (O h = v))) 78) n := by
    intro f
    have e1 : hs_s (fun v => f v * hs_s (fun h => hs_i (hv_B P L O T A g h ∧ hv_on P O a b h) * (hs_i (O (hn_n h) = v) - hs_i (O h = v))) 78) n
        = hs_s (fun v => hs_s (fun h => f v * (hs_i (hv_B P L O T A g h ∧ hv_on P O a b h) * (hs_i (O (hn_n h) = v) - hs_i (O h = v)))) 78) n :=
      hs_cg fun v _ => (hs_mul _ _ _).symm
    rw [e1, hs_swap]
    refine hs_cg fun h hh => ?_
    rcases Classical.em (hv_B P L O T A g h ∧ hv_on P O a b h) with k | k
    · obtain ⟨l1, l2, _⟩ := hv_lt M hh k.1.1
      rw [hs_it k]
      have e2 : hs_s (fun v => f v * (1 * (hs_i (O (hn_n h) = v) - hs_i (O h = v)))) n = hs_s (fun v => f v * hs_i (O (hn_n h) = v)) n - hs_s (fun v => f v * hs_i (O h = v)) n := by
        rw [← hs_sub]
        refine hs_cg fun v _ => ?_
        rw [Int.one_mul, Int.mul_sub]
      rw [e2, hs_one (f := fun v => f v * hs_i (O (hn_n h) = v)) l2 (fun i _ hi => by rw [hs_if (fun x => hi x.symm)]; omega),
        hs_one (f := fun v => f v * hs_i (O h = v)) l1 (fun i _ hi => by rw [hs_if (fun x => hi x.symm)]; omega), hs_it rfl, hs_it rfl]
      omega
    · rw [hs_if k, hs_0 (fun v _ => by rw [Int.zero_mul, Int.mul_zero])]; omega
  have ends : ∀ f : Nat → Int, hs_s (fun v => f v * hs_s (fun h => hs_i (hv_B P L O T A g h ∧ hv_on P O a b h) * (hs_i (O (hn_n h) = v) - hs_i (O h = v))) 78) n
      = f a * hs_s (fun h => hs_i (hv_B P L O T A g h ∧ hv_on P O a b h) * (hs_i (O (hn_n h) = a) - hs_i (O h = a))) 78
        + f b * hs_s (fun h => hs_i (hv_B P L O T A g h ∧ hv_on P O a b h) * (hs_i (O (hn_n h) = b) - hs_i (O h = b))) 78 := by
    intro f
    have e1 : hs_s (fun v => f v * hs_s (fun h => hs_i (hv_B P L O T A g h ∧ hv_on P O a b h) * (hs_i (O (hn_n h) = v) - hs_i (O h = v))) 78) n
        = hs_s (fun v => hs_i (v = a) * (f v * hs_s (fun h => hs_i (hv_B P L O T A g h ∧ hv_on P O a b h) * (hs_i (O (hn_n h) = v) - hs_i (O h = v))) 78)
          + hs_i (v = b) * (f v * hs_s (fun h => hs_i (hv_B P L O T A g h ∧ hv_on P O a b h) * (hs_i (O (hn_n h) = v) - hs_i (O h = v))) 78)) n := by
      refine hs_cg fun v hv => ?_
      rcases Nat.decEq v a with c1 | c1
      · rcases Nat.decEq v b with c2 | c2
        · rw [kv v hv c1 c2]; omega
        · rw [hs_if c1, hs_it c2]; omega
      · rw [hs_it c1, hs_if (fun c2 => E.2.2.1 (c1.symm.trans c2))]; omega
    rw [e1, hs_add, hs_one (k := a) E.1 (fun i _ hi => by rw [hs_if hi]; omega), hs_one (k := b) E.2.1 (fun i _ hi => by rw [hs_if hi]; omega), hs_it rfl, hs_it rfl]
    omega
  -- one half-edge at a
  have ka : hs_s (fun h => hs_i (hv_B P L O T A g h ∧ hv_on P O a b h) * (hs_i (O (hn_n h) = a) - hs_i (O h = a))) 78 = 1
      ∨ hs_s (fun h => hs_i (hv_B P L O T A g h ∧ hv_on P O a b h) * (hs_i (O (hn_n h) = a) - hs_i (O h = a))) 78 = -1 := by
    obtain ⟨h0, hh0, B0, on0, i0⟩ := hv_e1 M F hg E
    rw [hs_one (k := h0) hh0 (fun h hh hne => by
      rcases Classical.em (hv_B P L O T A g h ∧ hv_on P O a b h) with k | k
      · have n1 : ¬ (O h = a ∨ O (hn_n h) = a) := fun c => hne (hv_u1 M F hg E hh hh0 k.1.1 B0.1 k.2 on0 c i0)
        rw [hs_if (fun c => n1 (Or.inr c)), hs_if (fun c => n1 (Or.inl c))]; omega
      · rw [hs_if k]; omega), hs_it ⟨B0, on0⟩]
    obtain ⟨dn, _, _⟩ := hv_ne M hh0 B0.1.2.1
    rcases i0 with i0 | i0
    · rw [hs_it i0, hs_if (fun c => dn (i0.trans c.symm))]; right; rfl
    · rw [hs_it i0, hs_if (fun c => dn (c.trans i0.symm))]; left; rfl
  have tot := (split (fun _ => 1)).trans (ends (fun _ => 1))
  have val := (split (fun v => hu_l e (P v))).trans (ends (fun v => hu_l e (P v)))
  have t0 : hs_s (fun h => hs_i (hv_B P L O T A g h ∧ hv_on P O a b h) * ((fun _ => (1 : Int)) (O (hn_n h)) - (fun _ => (1 : Int)) (O h))) 78 = 0 :=
    hs_0 fun h _ => by show _ * ((1 : Int) - 1) = 0; omega
  rw [t0] at tot
  generalize hs_s (fun h => hs_i (hv_B P L O T A g h ∧ hv_on P O a b h) * (hs_i (O (hn_n h) = a) - hs_i (O h = a))) 78 = κ at ka tot val
  generalize hs_s (fun h => hs_i (hv_B P L O T A g h ∧ hv_on P O a b h) * (hs_i (O (hn_n h) = b) - hs_i (O h = b))) 78 = κ' at tot val
  have κe : κ' = - κ := by
    have : (0 : Int) = 1 * κ + 1 * κ' := tot
    omega
  -- each half-edge's share
  have sh : ∀ h, h < 78 → hv_on P O a b h → (hu_l e (P b) - hu_l e (P a)) * hu_d c d (P (O h)) (P (O (hn_n h))) = (hu_l e (P (O (hn_n h))) - hu_l e (P (O h))) * hu_d c d (P a) (P b) := by
    intro h _ on
    have r1 := hv_li F E.1 E.2.1 E.2.2.1 on.2 e (hu_c c d (P (O h)))
    have r2 := hv_li F E.1 E.2.1 E.2.2.1 on.1 e (hu_c c d (P a))
    have r3 := hv_li F E.1 E.2.1 E.2.2.1 on.1 e (hu_c c d (P b))
    have d0 : ∀ x y, hu_l (hu_c c d x) y = hu_d c d x y := fun _ _ => rfl
    rw [d0, d0, d0] at r1 r2 r3
    rw [hu_z34] at r2 r3
    rw [hu_d34 c d (P a) (P b)] at r3
    rw [hu_d34 c d (P a) (P (O h)), hu_d34 c d (P b) (P (O h))] at r1
    generalize hu_d c d (P (O h)) (P (O (hn_n h))) = E1 at *
    generalize hu_d c d (P a) (P (O h)) = E2 at *
    generalize hu_d c d (P b) (P (O h)) = E3 at *
    generalize hu_d c d (P a) (P b) = E4 at *
    generalize hu_l e (P a) = ea at *
    generalize hu_l e (P b) = eb at *
    generalize hu_l e (P (O h)) = ex at *
    generalize hu_l e (P (O (hn_n h))) = ey at *
    have q : (eb - ea) * ((eb - ea) * E1 - (ey - ex) * E4) = 0 := by
      have q1 : (eb - ea) * ((eb - ea) * E1 - (ey - ex) * E4) = (eb - ea) * ((eb - ea) * E1) - (eb - ea) * ((ey - ex) * E4) := Int.mul_sub _ _ _
      rw [q1, r1]
      have q2 : (eb - ea) * ((eb - ey) * -E2 + (ey - ea) * -E3) = -(eb - ey) * ((eb - ea) * E2) - (ey - ea) * ((eb - ea) * E3) := by grind
      rw [q2, r2, r3]
      grind
    have := sg_cz (show 0 < eb - ea by omega) q
    omega
  have sum : (hu_l e (P b) - hu_l e (P a)) * hs_s (fun h => hs_i (hv_B P L O T A g h ∧ hv_on P O a b h) * hu_d c d (P (O h)) (P (O (hn_n h)))) 78
      = hs_s (fun h => hs_i (hv_B P L O T A g h ∧ hv_on P O a b h) * (hu_l e (P (O (hn_n h))) - hu_l e (P (O h)))) 78 * hu_d c d (P a) (P b) := by
    rw [← hs_mul, ← hs_mulr]
    refine hs_cg fun h hh => ?_
    rcases Classical.em (hv_B P L O T A g h ∧ hv_on P O a b h) with k | k
    · rw [hs_it k, Int.one_mul, Int.one_mul]; exact sh h hh k.2
    · rw [hs_if k]; omega
  have nn : 0 ≤ hs_s (fun h => hs_i (hv_B P L O T A g h ∧ hv_on P O a b h) * hu_d c d (P (O h)) (P (O (hn_n h)))) 78 := hs_nn fun h hh => by
    rcases Classical.em (hv_B P L O T A g h ∧ hv_on P O a b h) with k | k
    · rw [hs_it k, Int.one_mul]; exact pos h hh k.1
    · rw [hs_if k]; omega
  have val' : hs_s (fun h => hs_i (hv_B P L O T A g h ∧ hv_on P O a b h) * (hu_l e (P (O (hn_n h))) - hu_l e (P (O h)))) 78 = hu_l e (P a) * κ + hu_l e (P b) * κ' := val
  rw [val', κe] at sum
  generalize hs_s (fun h => hs_i (hv_B P L O T A g h ∧ hv_on P O a b h) * hu_d c d (P (O h)) (P (O (hn_n h)))) 78 = V at sum nn ⊢
  have sum2 : (hu_l e (P b) - hu_l e (P a)) * (V + κ * hu_d c d (P a) (P b)) = 0 := by
    rw [Int.mul_add, sum]; grind
  have := sg_cz (show 0 < hu_l e (P b) - hu_l e (P a) by omega) sum2
  rcases ka with k | k
  · rw [k] at this; split <;> omega
  · rw [k] at this; split <;> omega
end
end
section
section
variable {P : Nat → hu_V} {n m : Nat} {L : Nat → hu_V} {O T : Nat → Nat} {A : Nat → Prop}
theorem hv_sm (F : hf_F P n m L) {x y z1 z2 : Nat} (hx : x < n) (hy : y < n) (h1 : z1 < n) (h2 : z2 < n) {e : hu_V} (lt : hu_l e (P x) < hu_l e (P y))
    (o1 : ∀ z, hu_d (P x) (P y) (P z1) z = 0) (o2 : ∀ z, hu_d (P x) (P y) (P z2) z = 0) (ee : hu_l e (P z1) = hu_l e (P z2)) : z1 = z2 := by
  have ne : x ≠ y := fun k => by rw [k] at lt; omega
  have kc : ∀ f : hu_V, hu_l f (P z1) = hu_l f (P z2) := by
    intro f
    have r1 := hv_li F hx hy ne o1 e f
    have r2 := hv_li F hx hy ne o2 e f
    rw [ee] at r1
    have : (hu_l e (P y) - hu_l e (P x)) * (hu_l f (P z1) - hu_l f (P z2)) = 0 := by rw [Int.mul_sub]; omega
    have := sg_cz (show 0 < hu_l e (P y) - hu_l e (P x) by omega) this
    omega
  have k1 := kc (1, 0, 0, 0)
  have k2 := kc (0, 1, 0, 0)
  have k3 := kc (0, 0, 1, 0)
  have k4 := kc (0, 0, 0, 1)
  simp only [hu_l] at k1 k2 k3 k4
  exact F.2.1 z1 z2 h1 h2 (Prod.ext (by omega) (Prod.ext (by omega) (Prod.ext (by omega) (by omega))))
/-- the lowest on the line of two facets is a corner -/
theorem hv_end (F : hf_F P n m L) {g g' x y : Nat} (hg : g < m) (hg' : g' < m) (ne : g ≠ g') (hx : x < n) (hy : y < n)
    (x1 : hu_l (L g) (P x) = 0) (x2 : hu_l (L g') (P x) = 0) (y1 : hu_l (L g) (P y) = 0) (y2 : hu_l (L g') (P y) = 0) {e : hu_V} (lt : hu_l e (P x) < hu_l e (P y)) :
    ∃ a, a < n ∧ hu_l (L g) (P a) = 0 ∧ hu_l (L g') (P a) = 0 ∧ hu_l e (P a) ≤ hu_l e (P x) ∧ hf_K P m L a := by
  obtain ⟨a, ha, ⟨_, a1, a2⟩, mx⟩ := hs_max (Q := fun z => z < n ∧ hu_l (L g) (P z) = 0 ∧ hu_l (L g') (P z) = 0) (num := fun z => - hu_l e (P z)) (den := fun _ => 1)
    (fun _ _ => by omega) n ⟨x, hx, hx, x1, x2⟩
  have mn : ∀ z, z < n → hu_l (L g) (P z) = 0 → hu_l (L g') (P z) = 0 → hu_l e (P a) ≤ hu_l e (P z) := by
    intro z h1 h2 h3
    have : - hu_l e (P z) * 1 ≤ - hu_l e (P a) * 1 := mx z h1 ⟨h1, h2, h3⟩
    omega
  refine ⟨a, ha, a1, a2, mn x hx x1 x2, ?_⟩
  obtain ⟨B, B0, hB⟩ := hf_big (fun z => hu_l e (P a) - hu_l e (P z)) n
  have el : ∀ z : Nat, hu_l (hu_a (hu_k B (hu_a (L g) (L g'))) (hu_a (hu_k (hu_l e (P a)) hu_w) (hu_k (-1) e))) (P z)
      = B * (hu_l (L g) (P z) + hu_l (L g') (P z)) + (hu_l e (P a) - hu_l e (P z)) := by
    intro z; rw [hu_al, hu_al, hu_kl, hu_al, hu_kl, hu_kl, hu_lw, F.1]; omega
  refine hf_ec F ha (q := hu_a (hu_k B (hu_a (L g) (L g'))) (hu_a (hu_k (hu_l e (P a)) hu_w) (hu_k (-1) e))) (by rw [el, a1, a2]; omega) fun z hz za => ?_
  rw [el]
  have n1 := F.2.2.2.1 g hg z hz
  have n2 := F.2.2.2.1 g' hg' z hz
  rcases Int.lt_or_le (hu_l (L g) (P z) + hu_l (L g') (P z)) 0 with c | c
  · have := hB z hz
    have k := sg_0n (Int.le_of_lt B0) (show hu_l (L g) (P z) + hu_l (L g') (P z) + 1 ≤ 0 by omega)
    have e1 : B * (hu_l (L g) (P z) + hu_l (L g') (P z) + 1) = B * (hu_l (L g) (P z) + hu_l (L g') (P z)) + B := by grind
    omega
  · have z1 : hu_l (L g) (P z) = 0 := by omega
    have z2 : hu_l (L g') (P z) = 0 := by omega
    have h1 := mn z hz z1 z2
    have h2 : hu_l e (P z) ≠ hu_l e (P a) := fun k =>
      za (hv_sm F hx hy hz ha lt (fun w => hf_col F hg hg' ne x1 y1 z1 x2 y2 z2 w) (fun w => hf_col F hg hg' ne x1 y1 a1 x2 y2 a2 w) k)
    rw [z1, z2]
    omega
/-- each half-edge of the border lies on an edge of the facet -/
theorem hv_le (M : hm_M P (fun x => x < n) O T A) (F : hf_F P n m L) {g h : Nat} (hg : g < m) (hh : h < 78) (B : hv_B P L O T A g h) :
    ∃ a b, a < b ∧ hv_E P n m L g a b ∧ hv_on P O a b h := by
  obtain ⟨g', hg', ng, _, y1, y2⟩ := hv_b M F hh B
  obtain ⟨z1, z2, _⟩ := hv_h B.1
  obtain ⟨l1, l2, _⟩ := hv_lt M hh B.1
  obtain ⟨dn, _, _⟩ := hv_ne M hh B.1.2.1
  have ne : g ≠ g' := fun e => ng e.symm
  obtain ⟨e, lt⟩ := hf_cd F l1 l2 dn
  obtain ⟨a, ha, a1, a2, ax, ka⟩ := hv_end F hg hg' ne l1 l2 z1 y1 z2 y2 lt
  obtain ⟨b, hb, b1, b2, bx, kb⟩ := hv_end F hg hg' ne l2 l1 z2 y2 z1 y1 (e := hu_k (-1) e) (by rw [hu_kl, hu_kl]; omega)
  rw [hu_kl, hu_kl] at bx
  have ab : a ≠ b := fun k => by rw [k] at ax; omega
  rcases Nat.lt_or_ge a b with c | c
  · exact ⟨a, b, c, ⟨ha, hb, ab, ka, kb, a1, b1, g, g', hg, hg', ne, a1, a2, b1, b2⟩, fun z => hf_col F hg hg' ne a1 b1 z1 a2 b2 y1 z, fun z => hf_col F hg hg' ne a1 b1 z2 a2 b2 y2 z⟩
  · exact ⟨b, a, by omega, ⟨hb, ha, fun k => ab k.symm, kb, ka, b1, a1, g, g', hg, hg', ne, b1, b2, a1, a2⟩, fun z => hf_col F hg hg' ne b1 a1 z1 b2 a2 y1 z, fun z => hf_col F hg hg' ne b1 a1 z2 b2 a2 y2 z⟩
theorem hv_lu (M : hm_M P (fun x => x < n) O T A) (F : hf_F P n m L) {g h a b a' b' : Nat} (hh : h < 78) (B : hv_B P L O T A g h)
    (E : hv_E P n m L g a b) (E' : hv_E P n m L g a' b') (on : hv_on P O a b h) (on' : hv_on P O a' b' h) (ab : a < b) (ab' : a' < b') : a = a' ∧ b = b' := by
  obtain ⟨l1, l2, _⟩ := hv_lt M hh B.1
  obtain ⟨dn, _, _⟩ := hv_ne M hh B.1.2.1
  have ind := hf_nl F E.1 E.2.1 E.2.2.1
  have ind' := hf_nl F E'.1 E'.2.1 E'.2.2.1
  have ind2 := hf_nl F l1 l2 dn
  have za : ∀ z, hu_d (P (O h)) (P (O (hn_n h))) (P a) z = 0 := hf_ln ind on.1 on.2 (fun z => hu_z13 _ _ _)
  have zb : ∀ z, hu_d (P (O h)) (P (O (hn_n h))) (P b) z = 0 := hf_ln ind on.1 on.2 (fun z => hu_z23 _ _ _)
  have za' : ∀ z, hu_d (P (O h)) (P (O (hn_n h))) (P a') z = 0 := hf_ln ind' on'.1 on'.2 (fun z => hu_z13 _ _ _)
  have zb' : ∀ z, hu_d (P (O h)) (P (O (hn_n h))) (P b') z = 0 := hf_ln ind' on'.1 on'.2 (fun z => hu_z23 _ _ _)
  have ma : a' = a ∨ a' = b := by
    refine Classical.byContradiction fun k => ?_
    exact hf_2 F E.1 E.2.1 E'.1 E.2.2.1 (fun e => k (Or.inl e.symm)) (fun e => k (Or.inr e.symm)) E.2.2.2.1 E.2.2.2.2.1 E'.2.2.2.1 (hf_ln ind2 za zb za')
  have mb : b' = a ∨ b' = b := by
    refine Classical.byContradiction fun k => ?_
    exact hf_2 F E.1 E.2.1 E'.2.1 E.2.2.1 (fun e => k (Or.inl e.symm)) (fun e => k (Or.inr e.symm)) E.2.2.2.1 E.2.2.2.2.1 E'.2.2.2.2.1 (hf_ln ind2 za zb zb')
  omega
/-- a half-edge of the border, seen from a point of the facet -/
theorem hv_ps (M : hm_M P (fun x => x < n) O T A) (F : hf_F P n m L) {g h c s : Nat} (hg : g < m) (hh : h < 78) (B : hv_B P L O T A g h) (hc : c < n) (gc : hu_l (L g) (P c) = 0) (hs : s < n) :
    0 ≤ hu_d (P s) (P c) (P (O h)) (P (O (hn_n h))) := by
  obtain ⟨g', hg', ng, _, y1, y2⟩ := hv_b M F hh B
  obtain ⟨z1, z2, z3⟩ := hv_h B.1
  obtain ⟨l1, l2, l3⟩ := hv_lt M hh B.1
  have y3 : hu_l (L g') (P (O (hn_n (hn_n h)))) < 0 := by
    have := F.2.2.2.1 g' hg' _ l3
    rcases Int.lt_or_le (hu_l (L g') (P (O (hn_n (hn_n h))))) 0 with k | k
    · exact k
    · exfalso
      obtain ⟨y, _, ny⟩ := hv_nz M hh B.1.2.1
      have := hf_col F hg hg' (fun k => ng k.symm) z1 z2 z3 y1 y2 (by omega) (P y)
      omega
  have e := hu_F5 (L g') (P (O h)) (P (O (hn_n h))) (P (O (hn_n (hn_n h)))) (P c) (P s)
  rw [y1, y2, hv_pl F hg z1 z2 z3 gc] at e
  have np := hm_np M (show h / 3 < 26 by omega) B.1.2.1 (x := s) hs
  rw [hm_e] at np
  have k1 := sg_00 (F.2.2.2.1 g' hg' c hc) np
  have k2 := sg_d0 y3 (show 0 ≤ hu_l (L g') (P (O (hn_n (hn_n h)))) * hu_d (P (O h)) (P (O (hn_n h))) (P c) (P s) by omega)
  rw [hu_dpq (P (O h)) (P (O (hn_n h))) (P s) (P c), hu_d34 (P (O h)) (P (O (hn_n h))) (P c) (P s)]
  omega
/-- one facet's share -/
theorem hv_fc (M : hm_M P (fun x => x < n) O T A) (F : hf_F P n m L) {g c s : Nat} (hg : g < m) (hc : c < n) (gc : hu_l (L g) (P c) = 0) (hs : s < n) :
    hs_s (fun t => hs_i (hv_G P L O A g t) * - hm_t P O t (P s)) 26
      = hs_s (fun a => hs_s (fun b => hs_i (a < b ∧ hv_E P n m L g a b) * (if 0 ≤ hu_d (P s) (P c) (P a) (P b) then hu_d (P s) (P c) (P a) (P b) else - hu_d (P s) (P c) (P a) (P b))) n) n := by
  have s1 := hx_st (O := O) (T := T) (G := hv_G P L O A g) (fun h hh G _ => by
      obtain ⟨x1, _, x3, x4, x5⟩ := hm_T M hh G.2.1
      exact ⟨x1, x3, x4, x5⟩) (f := fun i j => hu_d (P s) (P c) (P i) (P j)) (fun i j => hu_d34 _ _ _ _)
  have e1 : hs_s (fun t => hs_i (hv_G P L O A g t) * - hm_t P O t (P s)) 26
      = hs_s (fun t => hs_i (hv_G P L O A g t) * (hu_d (P s) (P c) (P (O (3 * t))) (P (O (3 * t + 1))) + hu_d (P s) (P c) (P (O (3 * t + 1))) (P (O (3 * t + 2))) + hu_d (P s) (P c) (P (O (3 * t + 2))) (P (O (3 * t))))) 26 := by
    refine hs_cg fun t ht => ?_
    rcases Classical.em (hv_G P L O A g t) with G | G
    · have e := hu_ds (x := P c) (F.1 (O (3 * t))) (F.1 (O (3 * t + 1))) (F.1 (O (3 * t + 2))) (F.1 s)
      have z0 := G.2.2 0 (by omega)
      have z1 := G.2.2 1 (by omega)
      have z2 := G.2.2 2 (by omega)
      rw [Nat.add_zero] at z0
      rw [hv_pl F hg z0 z1 z2 gc, F.1] at e
      rw [hu_dpq (P (O (3 * t))) (P (O (3 * t + 1))) (P s) (P c), hu_dpq (P (O (3 * t + 1))) (P (O (3 * t + 2))) (P s) (P c), hu_dpq (P (O (3 * t + 2))) (P (O (3 * t))) (P s) (P c)]
      rw [hs_it G, Int.one_mul, Int.one_mul]
      unfold hm_t
      omega
    · rw [hs_if G]; omega
  rw [e1, s1]
  have e2 : hs_s (fun h => hs_i (hv_G P L O A g (h / 3) ∧ ¬ hv_G P L O A g (T h / 3)) * hu_d (P s) (P c) (P (O h)) (P (O (hn_n h)))) 78
      = hs_s (fun h => hs_s (fun a => hs_s (fun b => hs_i (a < b ∧ hv_E P n m L g a b) * (hs_i (hv_B P L O T A g h ∧ hv_on P O a b h) * hu_d (P s) (P c) (P (O h)) (P (O (hn_n h))))) n) n) 78 := by
    refine hs_cg fun h hh => ?_
    rcases Classical.em (hv_B P L O T A g h) with B | B
    · obtain ⟨a, b, ab, E, on⟩ := hv_le M F hg hh B
      have u : ∀ a' b', (a' < b' ∧ hv_E P n m L g a' b') ∧ (hv_B P L O T A g h ∧ hv_on P O a' b' h) → a' = a ∧ b' = b := fun a' b' k => by
        have := hv_lu M F hh B E k.1.2 on k.2.2 ab k.1.1
        exact ⟨this.1.symm, this.2.symm⟩
      have zz : ∀ a' b', ¬ (a' = a ∧ b' = b) → hs_i (a' < b' ∧ hv_E P n m L g a' b') * (hs_i (hv_B P L O T A g h ∧ hv_on P O a' b' h) * hu_d (P s) (P c) (P (O h)) (P (O (hn_n h)))) = 0 := by
        intro a' b' ne
        rcases Classical.em (a' < b' ∧ hv_E P n m L g a' b') with k1 | k1
        · rw [hs_if (p := hv_B P L O T A g h ∧ hv_on P O a' b' h) (fun k2 => ne (u a' b' ⟨k1, k2⟩))]; omega
        · rw [hs_if k1]; omega
      rw [hs_one (k := a) E.1 (fun i _ hi => hs_0 fun j _ => zz i j (fun k => hi k.1)), hs_one (k := b) E.2.1 (fun j _ hj => zz a j (fun k => hj k.2)), hs_it (p := a < b ∧ hv_E P n m L g a b) ⟨ab, E⟩, hs_it (p := hv_B P L O T A g h ∧ hv_on P O a b h) ⟨B, on⟩,
        hs_it (show hv_G P L O A g (h / 3) ∧ ¬ hv_G P L O A g (T h / 3) from B)]
      omega
    · rw [hs_if (show ¬ (hv_G P L O A g (h / 3) ∧ ¬ hv_G P L O A g (T h / 3)) from B), Int.zero_mul]
      refine (hs_0 fun a _ => hs_0 fun b _ => ?_).symm
      rw [hs_if (p := hv_B P L O T A g h ∧ hv_on P O a b h) (fun k => B k.1)]; omega
  rw [e2, hs_swap]
  refine hs_cg fun a _ => ?_
  rw [hs_swap]
  refine hs_cg fun b _ => ?_
  rw [hs_mul]
  rcases Classical.em (a < b ∧ hv_E P n m L g a b) with k | k
  · rw [hs_it k, Int.one_mul, Int.one_mul]
    exact hv_ln M F hg k.2 (P s) (P c) (fun h hh B => hv_ps M F hg hh B hc gc hs)
  · rw [hs_if k]; omega
/-- the whole volume -/
theorem hv_V (M : hm_M P (fun x => x < n) O T A) (F : hf_F P n m L) {s : Nat} (hs : s < n) {c : Nat → Nat} (hc : ∀ g, g < m → c g < n ∧ hu_l (L g) (P (c g)) = 0) :
    hs_s (fun t => hs_i (A t) * - hm_t P O t (P s)) 26
      = hs_s (fun g => hs_s (fun a => hs_s (fun b => hs_i (a < b ∧ hv_E P n m L g a b) * (if 0 ≤ hu_d (P s) (P (c g)) (P a) (P b) then hu_d (P s) (P (c g)) (P a) (P b) else - hu_d (P s) (P (c g)) (P a) (P b))) n) n) m := by
  have e1 : hs_s (fun t => hs_i (A t) * - hm_t P O t (P s)) 26 = hs_s (fun t => hs_s (fun g => hs_i (hv_G P L O A g t) * - hm_t P O t (P s)) m) 26 := by
    refine hs_cg fun t ht => ?_
    rcases Classical.em (A t) with a | a
    · obtain ⟨g, hg, G, _⟩ := hv_ex M F ht a
      rw [hs_one (k := g) hg (fun g' hg' ne => by rw [hs_if (fun G' => ne (hv_un M F hg' hg G' G))]; omega), hs_it a, hs_it G]
    · rw [hs_if a, hs_0 (fun g _ => by rw [hs_if (fun G => a G.2.1)]; omega)]; omega
  rw [e1, hs_swap]
  exact hs_cg fun g hg => hv_fc M F hg (hc g hg).1 (hc g hg).2 hs
end
end
section
/-! pure rows to paste: stores, nI and lN arithmetic, masks, shifts, narrowing, branches by naturals (pk_le, pk_lt, pk_eq), loops (lp1 .. lp16: the measure of the state; rp1 ..: recursion), negatives. Take what you need -/
theorem pk_us {f : Nat → Int32} {k : Nat} {x : Int32} : upd f k x k = x := if_pos rfl
theorem pk_un {f : Nat → Int32} {k j : Nat} {x : Int32} (h : j ≠ k) : upd f k x j = f j := if_neg h
theorem pk_uLs {f : Nat → Int64} {k : Nat} {x : Int64} : vp_updL f k x k = x := if_pos rfl
theorem pk_uLn {f : Nat → Int64} {k j : Nat} {x : Int64} (h : j ≠ k) : vp_updL f k x j = f j := if_neg h
theorem pk_sub {a b : Nat} (h : b ≤ a) : nI a - nI b = nI (a - b) := by
  obtain ⟨c, rfl⟩ : ∃ c, a = c + b := ⟨a - b, by omega⟩
  rw [← nI_add, Int32.add_sub_cancel, Nat.add_sub_cancel]
theorem pk_m1 (n : Nat) : nI (n + 1) + (-1) = nI n := by
  rw [← nI_1, Int32.add_assoc, show (1 : Int32) + (-1) = 0 from rfl, Int32.add_zero]
theorem pk_mul (a b : Nat) : nI a * nI b = nI (a * b) := (Int32.ofNat_mul a b).symm
theorem pk_div {a d : Nat} (ha : a < 2 ^ 31) (h0 : 0 < d) (hd : d < 2 ^ 31) : nI a / nI d = nI (a / d) := by
  apply Int32.toInt_inj.mp
  rw [lg_idiv_nonneg (by rw [nI_toInt ha]; omega) (by rw [nI_toInt hd]; omega), nI_toInt ha, nI_toInt hd, nI_toInt (Nat.lt_of_le_of_lt (Nat.div_le_self a d) ha)]
  first | rfl | exact (Int.natCast_ediv _ _).symm
theorem pk_rem {a d : Nat} (ha : a < 2 ^ 31) (h0 : 0 < d) (hd : d < 2 ^ 31) : nI a - nI a / nI d * nI d = nI (a % d) := by
  rw [pk_div ha h0 hd, pk_mul, pk_sub (Nat.div_mul_le_self a d)]
  exact congrArg nI (by have := Nat.div_add_mod' a d; omega)
theorem pk_sub_toInt {a b : Nat} (ha : a < 2 ^ 30) (hb : b < 2 ^ 30) : (nI a - nI b).toInt = (a : Int) - b := by
  rw [Int32.toInt_sub, nI_toInt (by omega), nI_toInt (by omega)]
  exact Int.bmod_eq_of_le (by omega) (by omega)
theorem pk_sneg {a b : Nat} (hb : b < 2 ^ 30) (h : a < b) : nI a - nI b < 0 := by
  rw [Int32.lt_iff_toInt_lt, pk_sub_toInt (by omega) hb, show (0 : Int32).toInt = 0 from by decide]
  omega
theorem pk_ix (x : Int32) {n : Nat} (hn : n < 2 ^ 31) : x < 0 ∨ nI n ≤ x ∨ ∃ j : Nat, j < n ∧ x = nI j := by
  by_cases h : x < 0
  · exact Or.inl h
  · obtain ⟨j, hj, rfl⟩ := nI_of h
    by_cases h2 : j < n
    · exact Or.inr (Or.inr ⟨j, h2, rfl⟩)
    · exact Or.inr (Or.inl (nI_le (by omega) hj))
theorem pk_le {x y : Int32} {A B : Prop} (a b : Nat) (f : a ≤ b → A) (g : b < a → B) (hx : x = nI a := by rfl) (hy : y = nI b := by rfl) (ha : a < 2 ^ 31 := by omega) (hb : b < 2 ^ 31 := by omega) : (x ≤ y → A) ∧ (¬ x ≤ y → B) := by
  subst hx hy
  rw [nI_leI ha hb]
  exact ⟨f, fun z => g (by omega)⟩
theorem pk_lt {x y : Int32} {A B : Prop} (a b : Nat) (f : a < b → A) (g : b ≤ a → B) (hx : x = nI a := by rfl) (hy : y = nI b := by rfl) (ha : a < 2 ^ 31 := by omega) (hb : b < 2 ^ 31 := by omega) : (x < y → A) ∧ (¬ x < y → B) := by
  subst hx hy
  rw [nI_ltI ha hb]
  exact ⟨f, fun z => g (by omega)⟩
theorem pk_eq {x y : Int32} {A B : Prop} (a b : Nat) (f : a = b → A) (g : a ≠ b → B) (hx : x = nI a := by rfl) (hy : y = nI b := by rfl) (ha : a < 2 ^ 31 := by omega) (hb : b < 2 ^ 31 := by omega) : (x = y → A) ∧ (¬ x = y → B) := by
  subst hx hy
  rw [nI_eq ha hb]
  exact ⟨f, g⟩
theorem pk_in {x : Int32} (n N : Nat) (h : n < N) (hx : x = nI n := by rfl) (hN : N < 2 ^ 31 := by omega) : vp_in x N := by
  subst hx
  exact vp_in_nI h hN
theorem pk_cl {x : Int32} (n : Nat) (hx : x = nI n := by rfl) (h : n < 2 ^ 31 := by omega) : x.toNatClampNeg = n := by
  subst hx
  exact nI_clamp h
theorem pk_tn {n : Nat} (h : n < 2 ^ 32) : (nI n).toBitVec.toNat = n := Nat.mod_eq_of_lt h
theorem pk_and (x : Int32) {m : Int32} (k : Nat) (hm : m.toBitVec.toNat = 2 ^ k - 1) : x &&& m = nI (x.toBitVec.toNat % 2 ^ k) := by
  apply Int32.toBitVec_inj.mp
  apply BitVec.eq_of_toNat_eq
  rw [Int32.toBitVec_and, BitVec.toNat_and, hm, Nat.and_two_pow_sub_one_eq_mod]
  show _ = (BitVec.ofNat 32 _).toNat
  rw [BitVec.toNat_ofNat]
  exact (Nat.mod_eq_of_lt (Nat.lt_of_le_of_lt (Nat.mod_le _ _) x.toBitVec.isLt)).symm
theorem pk_andN {n : Nat} (h : n < 2 ^ 32) {m : Int32} (k : Nat) (hm : m.toBitVec.toNat = 2 ^ k - 1) : nI n &&& m = nI (n % 2 ^ k) := by
  rw [pk_and _ k hm, pk_tn h]
theorem pk_andE (x : Int32) {m : Int32} (k : Nat) (hm : m.toBitVec.toNat = 2 ^ k - 1) : ∃ j : Nat, j < 2 ^ k ∧ x &&& m = nI j := ⟨_, Nat.mod_lt _ (Nat.two_pow_pos k), pk_and x k hm⟩
theorem pk_andIn (x : Int32) {m : Int32} (k : Nat) (hm : m.toBitVec.toNat = 2 ^ k - 1) (hk : k ≤ 30) : vp_in (x &&& m) (2 ^ k) := by
  obtain ⟨j, hj, e⟩ := pk_andE x k hm
  rw [e]
  exact vp_in_nI hj (Nat.lt_of_le_of_lt (Nat.pow_le_pow_right (by decide) hk) (by decide))
theorem pk_shl (a s : Int32) (k : Nat) (hs : (s.toBitVec.smod 32).toNat = k) : (a <<< s).toBitVec.toNat = a.toBitVec.toNat * 2 ^ k % 2 ^ 32 := by
  show (a.toBitVec <<< (s.toBitVec.smod 32).toNat).toNat = _
  rw [hs, BitVec.toNat_shiftLeft, Nat.shiftLeft_eq]
theorem pk_shlN {n : Nat} (s : Int32) (k : Nat) (hs : (s.toBitVec.smod 32).toNat = k) (h : n * 2 ^ k < 2 ^ 32) : nI n <<< s = nI (n * 2 ^ k) := by
  apply Int32.toBitVec_inj.mp
  apply BitVec.eq_of_toNat_eq
  have hn : n < 2 ^ 32 := Nat.lt_of_le_of_lt (Nat.le_mul_of_pos_right n (Nat.two_pow_pos k)) h
  rw [pk_shl _ _ k hs, pk_tn hn, pk_tn h, Nat.mod_eq_of_lt h]
theorem pk_shr (a s : Int32) (k : Nat) (hs : (s.toBitVec.smod 32).toNat = k) : (a >>> s).toInt = a.toInt >>> k := by
  show (a.toBitVec.sshiftRight (s.toBitVec.smod 32).toNat).toInt = _
  rw [hs, BitVec.toInt_sshiftRight]
  rfl
theorem pk_shrN {n : Nat} (h : n < 2 ^ 31) (s : Int32) (k : Nat) (hs : (s.toBitVec.smod 32).toNat = k) : nI n >>> s = nI (n / 2 ^ k) := by
  apply Int32.toInt_inj.mp
  have h2 : n / 2 ^ k ≤ n := Nat.div_le_self _ _
  rw [pk_shr _ _ k hs, nI_toInt h, nI_toInt (by omega), Int.shiftRight_eq_div_pow]
  rfl
theorem pk_ushr (x s : Int32) (k : Nat) (hs : ((s.toUInt32 &&& Int32.toUInt32 31).toBitVec % 32).toNat = k) : (x.toUInt32 >>> (s.toUInt32 &&& Int32.toUInt32 31)).toInt32.toBitVec.toNat = x.toBitVec.toNat / 2 ^ k := by
  have e : (x.toUInt32 >>> (s.toUInt32 &&& Int32.toUInt32 31)).toInt32.toBitVec = x.toBitVec >>> k := by
    rw [← hs]
    exact UInt32.toBitVec_shiftRight _ _
  rw [e, BitVec.toNat_ushiftRight, Nat.shiftRight_eq_div_pow]
theorem pk_ushrN {n : Nat} (hn : n < 2 ^ 32) (s : Int32) (k : Nat) (hs : ((s.toUInt32 &&& Int32.toUInt32 31).toBitVec % 32).toNat = k) : ((nI n).toUInt32 >>> (s.toUInt32 &&& Int32.toUInt32 31)).toInt32 = nI (n / 2 ^ k) := by
  apply Int32.toBitVec_inj.mp
  apply BitVec.eq_of_toNat_eq
  rw [pk_ushr _ s k hs, pk_tn hn, pk_tn (Nat.lt_of_le_of_lt (Nat.div_le_self _ _) hn)]
theorem pk_nb (z : Int32) : narrow .byte (.int z.toInt8.toInt32) = .int z.toInt8.toInt32 := congrArg Value.int (by simp)
theorem pk_ns (z : Int32) : narrow .short (.int z.toInt16.toInt32) = .int z.toInt16.toInt32 := congrArg Value.int (by simp)
theorem pk_fb (r : Int32) : fits .byte (.int r.toInt8.toInt32) = true := by
  have ⟨a, b⟩ := lg_i2b_range r
  have h1 : (-128 : Int32).toInt = -128 := by decide
  have h2 : (127 : Int32).toInt = 127 := by decide
  simp only [fits, Bool.and_eq_true, decide_eq_true_eq, Int32.le_iff_toInt_le, h1, h2]
  omega
theorem pk_fs (r : Int32) : fits .short (.int r.toInt16.toInt32) = true := by
  have ⟨a, b⟩ := lg_i2s_range r
  have h1 : (-32768 : Int32).toInt = -32768 := by decide
  have h2 : (32767 : Int32).toInt = 32767 := by decide
  simp only [fits, Bool.and_eq_true, decide_eq_true_eq, Int32.le_iff_toInt_le, h1, h2]
  omega
theorem pk_charN {q : Nat} (hq : q < 65536) : narrow .char (.int (nI q)) = .int (nI q) ∧ fits .char (.int (nI q)) = true := by
  constructor
  · have e : (nI q).toUInt32.toUInt16.toUInt32.toInt32 = nI q := by
      apply Int32.toBitVec_inj.mp
      apply BitVec.eq_of_toNat_eq
      show (nI q).toUInt32.toUInt16.toUInt32.toNat = q % 2 ^ 32
      rw [UInt16.toNat_toUInt32, UInt32.toNat_toUInt16, show (nI q).toUInt32.toNat = q % 2 ^ 32 from rfl]
      omega
    exact congrArg Value.int e
  · have a : (0 : Int32) ≤ nI q := nI_pos' (by omega)
    have b : nI q ≤ 65535 := nI_le (b := 65535) (by omega) (by decide)
    show (decide ((0 : Int32) ≤ nI q) && decide (nI q ≤ 65535)) = true
    rw [decide_eq_true a, decide_eq_true b]
    rfl
theorem pk_char (x : Int32) : (x.toUInt32 % 65536).toInt32 = nI (x.toBitVec.toNat % 65536) := by
  apply Int32.toBitVec_inj.mp
  apply BitVec.eq_of_toNat_eq
  rw [pk_tn (by omega)]
  show (x.toUInt32 % 65536).toNat = _
  rw [UInt32.toNat_mod]
  rfl
theorem pk_nc (x : Int32) : narrow .char (.int (x.toUInt32 % 65536).toInt32) = .int (x.toUInt32 % 65536).toInt32 := by
  rw [pk_char]
  exact (pk_charN (Nat.mod_lt _ (by decide))).1
theorem pk_fc (x : Int32) : fits .char (.int (x.toUInt32 % 65536).toInt32) = true := by
  rw [pk_char]
  exact (pk_charN (Nat.mod_lt _ (by decide))).2
theorem pk_vb (z : Int32) : vp_nar .byte z.toInt8.toInt32 = z.toInt8.toInt32 := by rw [vp_nar_byte]; simp
theorem pk_vs (z : Int32) : vp_nar .short z.toInt16.toInt32 = z.toInt16.toInt32 := by rw [vp_nar_short]; simp
theorem pk_vc (z : Int32) : vp_nar .char (z.toUInt32 % 65536).toInt32 = (z.toUInt32 % 65536).toInt32 := Value.int.inj (pk_nc z)
theorem pk_lT {n : Nat} (h : n < 2 ^ 63) : (lN n).toInt = (n : Int) := lg_ofNat_toInt h
theorem pk_lLT {a b : Nat} (ha : a < 2 ^ 63) (hb : b < 2 ^ 63) : lN a < lN b ↔ a < b := by
  rw [Int64.lt_iff_toInt_lt, pk_lT ha, pk_lT hb]; omega
theorem pk_lLE {a b : Nat} (ha : a < 2 ^ 63) (hb : b < 2 ^ 63) : lN a ≤ lN b ↔ a ≤ b := by
  rw [Int64.le_iff_toInt_le, pk_lT ha, pk_lT hb]; omega
theorem pk_lEQ {a b : Nat} (ha : a < 2 ^ 63) (hb : b < 2 ^ 63) : lN a = lN b ↔ a = b := by
  rw [← Int64.toInt_inj, pk_lT ha, pk_lT hb]; omega
theorem pk_lOf {x : Int64} (h : ¬ x < 0) : ∃ k : Nat, k < 2 ^ 63 ∧ x = lN k := by
  rw [Int64.lt_iff_toInt_lt] at h
  have h0 : (0 : Int64).toInt = 0 := by decide
  have hx := Int64.toInt_lt x
  refine ⟨x.toInt.toNat, by omega, Int64.toInt_inj.mp ?_⟩
  rw [pk_lT (by omega)]
  omega
theorem pk_lDiv {a b : Nat} (ha : a < 2 ^ 63) (h0 : 0 < b) (hb : b < 2 ^ 63) : lN a / lN b = lN (a / b) := by
  apply Int64.toInt_inj.mp
  rw [lg_ldiv_nonneg (by rw [pk_lT ha]; omega) (by rw [pk_lT hb]; omega), pk_lT ha, pk_lT hb, pk_lT (Nat.lt_of_le_of_lt (Nat.div_le_self a b) ha)]
  rfl
theorem pk_lRem {a b : Nat} (ha : a < 2 ^ 63) (h0 : 0 < b) (hb : b < 2 ^ 63) : lN a - lN a / lN b * lN b = lN (a % b) := by
  rw [pk_lDiv ha h0 hb, lN_mul, lN_sub (Nat.div_mul_le_self a b)]
  exact congrArg lN (by have := Nat.div_add_mod' a b; omega)
theorem pk_loop {σ : Type} (W : Nat → Nat → σ → Prop) (I : Nat → σ → Prop) (e i0 : Nat) (s : σ) (hi : i0 ≤ e) (h0 : I i0 s) (hx : ∀ n s, I e s → W (n + 1) e s)
    (hs : ∀ n i s, i < e → I i s → (∀ s', I (i + 1) s' → W n (i + 1) s') → W (n + 1) i s) : ∃ n, W n i0 s :=
  ⟨e + 1, loop_i W I e hx hs (e + 1) i0 s hi (by omega) h0⟩
theorem pk_loopD {σ : Type} (W : Nat → Nat → σ → Prop) (I : Nat → σ → Prop) (hx : ∀ n s, I 0 s → W (n + 1) 0 s)
    (hs : ∀ n i s, I (i + 1) s → (∀ s', I i s' → W n i s') → W (n + 1) (i + 1) s) : ∀ (e : Nat) (s : σ), I e s → W (e + 1) e s := by
  intro e
  induction e with
  | zero => exact fun s h => hx 0 s h
  | succ e ih => exact fun s h => hs (e + 1) e s h (fun s' h' => ih s' h')
theorem lp1 {A1 : Type} (W : Nat → A1 → Prop) (I : A1 → Prop) (μ : A1 → Nat) (hs : ∀ (n : Nat) (a1 : A1), I a1 → (∀ (b1 : A1), I b1 → μ b1 < μ a1 → W n b1) → W (n + 1) a1) (a1 : A1) (h : I a1) : ∃ n, W n a1 :=
  loop_m (σ := A1) (fun n s => W n s) (fun s => I s) (fun s => μ s) (fun n s hI hk => hs n s hI (fun b1 h9 hm => hk b1 h9 hm)) a1 h
theorem lp2 {A1 A2 : Type} (W : Nat → A1 → A2 → Prop) (I : A1 → A2 → Prop) (μ : A1 → A2 → Nat) (hs : ∀ (n : Nat) (a1 : A1) (a2 : A2), I a1 a2 → (∀ (b1 : A1) (b2 : A2), I b1 b2 → μ b1 b2 < μ a1 a2 → W n b1 b2) → W (n + 1) a1 a2) (a1 : A1) (a2 : A2) (h : I a1 a2) : ∃ n, W n a1 a2 :=
  loop_m (σ := A1 × A2) (fun n s => W n s.1 s.2) (fun s => I s.1 s.2) (fun s => μ s.1 s.2) (fun n s hI hk => hs n s.1 s.2 hI (fun b1 b2 h9 hm => hk (b1, b2) h9 hm)) (a1, a2) h
theorem lp3 {A1 A2 A3 : Type} (W : Nat → A1 → A2 → A3 → Prop) (I : A1 → A2 → A3 → Prop) (μ : A1 → A2 → A3 → Nat) (hs : ∀ (n : Nat) (a1 : A1) (a2 : A2) (a3 : A3), I a1 a2 a3 → (∀ (b1 : A1) (b2 : A2) (b3 : A3), I b1 b2 b3 → μ b1 b2 b3 < μ a1 a2 a3 → W n b1 b2 b3) → W (n + 1) a1 a2 a3) (a1 : A1) (a2 : A2) (a3 : A3) (h : I a1 a2 a3) : ∃ n, W n a1 a2 a3 :=
  loop_m (σ := A1 × A2 × A3) (fun n s => W n s.1 s.2.1 s.2.2) (fun s => I s.1 s.2.1 s.2.2) (fun s => μ s.1 s.2.1 s.2.2) (fun n s hI hk => hs n s.1 s.2.1 s.2.2 hI (fun b1 b2 b3 h9 hm => hk (b1, b2, b3) h9 hm)) (a1, a2, a3) h
theorem lp4 {A1 A2 A3 A4 : Type} (W : Nat → A1 → A2 → A3 → A4 → Prop) (I : A1 → A2 → A3 → A4 → Prop) (μ : A1 → A2 → A3 → A4 → Nat) (hs : ∀ (n : Nat) (a1 : A1) (a2 : A2) (a3 : A3) (a4 : A4), I a1 a2 a3 a4 → (∀ (b1 : A1) (b2 : A2) (b3 : A3) (b4 : A4), I b1 b2 b3 b4 → μ b1 b2 b3 b4 < μ a1 a2 a3 a4 → W n b1 b2 b3 b4) → W (n + 1) a1 a2 a3 a4) (a1 : A1) (a2 : A2) (a3 : A3) (a4 : A4) (h : I a1 a2 a3 a4) : ∃ n, W n a1 a2 a3 a4 :=
  loop_m (σ := A1 × A2 × A3 × A4) (fun n s => W n s.1 s.2.1 s.2.2.1 s.2.2.2) (fun s => I s.1 s.2.1 s.2.2.1 s.2.2.2) (fun s => μ s.1 s.2.1 s.2.2.1 s.2.2.2) (fun n s hI hk => hs n s.1 s.2.1 s.2.2.1 s.2.2.2 hI (fun b1 b2 b3 b4 h9 hm => hk (b1, b2, b3, b4) h9 hm)) (a1, a2, a3, a4) h
theorem lp5 {A1 A2 A3 A4 A5 : Type} (W : Nat → A1 → A2 → A3 → A4 → A5 → Prop) (I : A1 → A2 → A3 → A4 → A5 → Prop) (μ : A1 → A2 → A3 → A4 → A5 → Nat) (hs : ∀ (n : Nat) (a1 : A1) (a2 : A2) (a3 : A3) (a4 : A4) (a5 : A5), I a1 a2 a3 a4 a5 → (∀ (b1 : A1) (b2 : A2) (b3 : A3) (b4 : A4) (b5 : A5), I b1 b2 b3 b4 b5 → μ b1 b2 b3 b4 b5 < μ a1 a2 a3 a4 a5 → W n b1 b2 b3 b4 b5) → W (n + 1) a1 a2 a3 a4 a5) (a1 : A1) (a2 : A2) (a3 : A3) (a4 : A4) (a5 : A5) (h : I a1 a2 a3 a4 a5) : ∃ n, W n a1 a2 a3 a4 a5 :=
  loop_m (σ := A1 × A2 × A3 × A4 × A5) (fun n s => W n s.1 s.2.1 s.2.2.1 s.2.2.2.1 s.2.2.2.2) (fun s => I s.1 s.2.1 s.2.2.1 s.2.2.2.1 s.2.2.2.2) (fun s => μ s.1 s.2.1 s.2.2.1 s.2.2.2.1 s.2.2.2.2) (fun n s hI hk => hs n s.1 s.2.1 s.2.2.1 s.2.2.2.1 s.2.2.2.2 hI (fun b1 b2 b3 b4 b5 h9 hm => hk (b1, b2, b3, b4, b5) h9 hm)) (a1, a2, a3, a4, a5) h
theorem lp6 {A1 A2 A3 A4 A5 A6 : Type} (W : Nat → A1 → A2 → A3 → A4 → A5 → A6 → Prop) (I : A1 → A2 → A3 → A4 → A5 → A6 → Prop) (μ : A1 → A2 → A3 → A4 → A5 → A6 → Nat) (hs : ∀ (n : Nat) (a1 : A1) (a2 : A2) (a3 : A3) (a4 : A4) (a5 : A5) (a6 : A6), I a1 a2 a3 a4 a5 a6 → (∀ (b1 : A1) (b2 : A2) (b3 : A3) (b4 : A4) (b5 : A5) (b6 : A6), I b1 b2 b3 b4 b5 b6 → μ b1 b2 b3 b4 b5 b6 < μ a1 a2 a3 a4 a5 a6 → W n b1 b2 b3 b4 b5 b6) → W (n + 1) a1 a2 a3 a4 a5 a6) (a1 : A1) (a2 : A2) (a3 : A3) (a4 : A4) (a5 : A5) (a6 : A6) (h : I a1 a2 a3 a4 a5 a6) : ∃ n, W n a1 a2 a3 a4 a5 a6 :=
  loop_m (σ := A1 × A2 × A3 × A4 × A5 × A6) (fun n s => W n s.1 s.2.1 s.2.2.1 s.2.2.2.1 s.2.2.2.2.1 s.2.2.2.2.2) (fun s => I s.1 s.2.1 s.2.2.1 s.2.2.2.1 s.2.2.2.2.1 s.2.2.2.2.2) (fun s => μ s.1 s.2.1 s.2.2.1 s.2.2.2.1 s.2.2.2.2.1 s.2.2.2.2.2) (fun n s hI hk => hs n s.1 s.2.1 s.2.2.1 s.2.2.2.1 s.2.2.2.2.1 s.2.2.2.2.2 hI (fun b1 b2 b3 b4 b5 b6 h9 hm => hk (b1, b2, b3, b4, b5, b6) h9 hm)) (a1, a2, a3, a4, a5, a6) h
theorem lp7 {A1 A2 A3 A4 A5 A6 A7 : Type} (W : Nat → A1 → A2 → A3 → A4 → A5 → A6 → A7 → Prop) (I : A1 → A2 → A3 → A4 → A5 → A6 → A7 → Prop) (μ : A1 → A2 → A3 → A4 → A5 → A6 → A7 → Nat) (hs : ∀ (n : Nat) (a1 : A1) (a2 : A2) (a3 : A3) (a4 : A4) (a5 : A5) (a6 : A6) (a7 : A7), I a1 a2 a3 a4 a5 a6 a7 → (∀ (b1 : A1) (b2 : A2) (b3 : A3) (b4 : A4) (b5 : A5) (b6 : A6) (b7 : A7), I b1 b2 b3 b4 b5 b6 b7 → μ b1 b2 b3 b4 b5 b6 b7 < μ a1 a2 a3 a4 a5 a6 a7 → W n b1 b2 b3 b4 b5 b6 b7) → W (n + 1) a1 a2 a3 a4 a5 a6 a7) (a1 : A1) (a2 : A2) (a3 : A3) (a4 : A4) (a5 : A5) (a6 : A6) (a7 : A7) (h : I a1 a2 a3 a4 a5 a6 a7) : ∃ n, W n a1 a2 a3 a4 a5 a6 a7 :=
  loop_m (σ := A1 × A2 × A3 × A4 × A5 × A6 × A7) (fun n s => W n s.1 s.2.1 s.2.2.1 s.2.2.2.1 s.2.2.2.2.1 s.2.2.2.2.2.1 s.2.2.2.2.2.2) (fun s => I s.1 s.2.1 s.2.2.1 s.2.2.2.1 s.2.2.2.2.1 s.2.2.2.2.2.1 s.2.2.2.2.2.2) (fun s => μ s.1 s.2.1 s.2.2.1 s.2.2.2.1 s.2.2.2.2.1 s.2.2.2.2.2.1 s.2.2.2.2.2.2) (fun n s hI hk => hs n s.1 s.2.1 s.2.2.1 s.2.2.2.1 s.2.2.2.2.1 s.2.2.2.2.2.1 s.2.2.2.2.2.2 hI (fun b1 b2 b3 b4 b5 b6 b7 h9 hm => hk (b1, b2, b3, b4, b5, b6, b7) h9 hm)) (a1, a2, a3, a4, a5, a6, a7) h
theorem lp8 {A1 A2 A3 A4 A5 A6 A7 A8 : Type} (W : Nat → A1 → A2 → A3 → A4 → A5 → A6 → A7 → A8 → Prop) (I : A1 → A2 → A3 → A4 → A5 → A6 → A7 → A8 → Prop) (μ : A1 → A2 → A3 → A4 → A5 → A6 → A7 → A8 → Nat) (hs : ∀ (n : Nat) (a1 : A1) (a2 : A2) (a3 : A3) (a4 : A4) (a5 : A5) (a6 : A6) (a7 : A7) (a8 : A8), I a1 a2 a3 a4 a5 a6 a7 a8 → (∀ (b1 : A1) (b2 : A2) (b3 : A3) (b4 : A4) (b5 : A5) (b6 : A6) (b7 : A7) (b8 : A8), I b1 b2 b3 b4 b5 b6 b7 b8 → μ b1 b2 b3 b4 b5 b6 b7 b8 < μ a1 a2 a3 a4 a5 a6 a7 a8 → W n b1 b2 b3 b4 b5 b6 b7 b8) → W (n + 1) a1 a2 a3 a4 a5 a6 a7 a8) (a1 : A1) (a2 : A2) (a3 : A3) (a4 : A4) (a5 : A5) (a6 : A6) (a7 : A7) (a8 : A8) (h : I a1 a2 a3 a4 a5 a6 a7 a8) : ∃ n, W n a1 a2 a3 a4 a5 a6 a7 a8 :=
  loop_m (σ := A1 × A2 × A3 × A4 × A5 × A6 × A7 × A8) (fun n s => W n s.1 s.2.1 s.2.2.1 s.2.2.2.1 s.2.2.2.2.1 s.2.2.2.2.2.1 s.2.2.2.2.2.2.1 s.2.2.2.2.2.2.2) (fun s => I s.1 s.2.1 s.2.2.1 s.2.2.2.1 s.2.2.2.2.1 s.2.2.2.2.2.1 s.2.2.2.2.2.2.1 s.2.2.2.2.2.2.2) (fun s => μ s.1 s.2.1 s.2.2.1 s.2.2.2.1 s.2.2.2.2.1 s.2.2.2.2.2.1 s.2.2.2.2.2.2.1 s.2.2.2.2.2.2.2) (fun n s hI hk => hs n s.1 s.2.1 s.2.2.1 s.2.2.2.1 s.2.2.2.2.1 s.2.2.2.2.2.1 s.2.2.2.2.2.2.1 s.2.2.2.2.2.2.2 hI (fun b1 b2 b3 b4 b5 b6 b7 b8 h9 hm => hk (b1, b2, b3, b4, b5, b6, b7, b8) h9 hm)) (a1, a2, a3, a4, a5, a6, a7, a8) h
theorem lp9 {A1 A2 A3 A4 A5 A6 A7 A8 A9 : Type} (W : Nat → A1 → A2 → A3 → A4 → A5 → A6 → A7 → A8 → A9 → Prop) (I : A1 → A2 → A3 → A4 → A5 → A6 → A7 → A8 → A9 → Prop) (μ : A1 → A2 → A3 → A4 → A5 → A6 → A7 → A8 → A9 → Nat) (hs : ∀ (n : Nat) (a1 : A1) (a2 : A2) (a3 : A3) (a4 : A4) (a5 : A5) (a6 : A6) (a7 : A7) (a8 : A8) (a9 : A9), I a1 a2 a3 a4 a5 a6 a7 a8 a9 → (∀ (b1 : A1) (b2 : A2) (b3 : A3) (b4 : A4) (b5 : A5) (b6 : A6) (b7 : A7) (b8 : A8) (b9 : A9), I b1 b2 b3 b4 b5 b6 b7 b8 b9 → μ b1 b2 b3 b4 b5 b6 b7 b8 b9 < μ a1 a2 a3 a4 a5 a6 a7 a8 a9 → W n b1 b2 b3 b4 b5 b6 b7 b8 b9) → W (n + 1) a1 a2 a3 a4 a5 a6 a7 a8 a9) (a1 : A1) (a2 : A2) (a3 : A3) (a4 : A4) (a5 : A5) (a6 : A6) (a7 : A7) (a8 : A8) (a9 : A9) (h : I a1 a2 a3 a4 a5 a6 a7 a8 a9) : ∃ n, W n a1 a2 a3 a4 a5 a6 a7 a8 a9 :=
  loop_m (σ := A1 × A2 × A3 × A4 × A5 × A6 × A7 × A8 × A9) (fun n s => W n s.1 s.2.1 s.2.2.1 s.2.2.2.1 s.2.2.2.2.1 s.2.2.2.2.2.1 s.2.2.2.2.2.2.1 s.2.2.2.2.2.2.2.1 s.2.2.2.2.2.2.2.2) (fun s => I s.1 s.2.1 s.2.2.1 s.2.2.2.1 s.2.2.2.2.1 s.2.2.2.2.2.1 s.2.2.2.2.2.2.1 s.2.2.2.2.2.2.2.1 s.2.2.2.2.2.2.2.2) (fun s => μ s.1 s.2.1 s.2.2.1 s.2.2.2.1 s.2.2.2.2.1 s.2.2.2.2.2.1 s.2.2.2.2.2.2.1 s.2.2.2.2.2.2.2.1 s.2.2.2.2.2.2.2.2) (fun n s hI hk => hs n s.1 s.2.1 s.2.2.1 s.2.2.2.1 s.2.2.2.2.1 s.2.2.2.2.2.1 s.2.2.2.2.2.2.1 s.2.2.2.2.2.2.2.1 s.2.2.2.2.2.2.2.2 hI (fun b1 b2 b3 b4 b5 b6 b7 b8 b9 h9 hm => hk (b1, b2, b3, b4, b5, b6, b7, b8, b9) h9 hm)) (a1, a2, a3, a4, a5, a6, a7, a8, a9) h
theorem lp10 {A1 A2 A3 A4 A5 A6 A7 A8 A9 A10 : Type} (W : Nat → A1 → A2 → A3 → A4 → A5 → A6 → A7 → A8 → A9 → A10 → Prop) (I : A1 → A2 → A3 → A4 → A5 → A6 → A7 → A8 → A9 → A10 → Prop) (μ : A1 → A2 → A3 → A4 → A5 → A6 → A7 → A8 → A9 → A10 → Nat) (hs : ∀ (n : Nat) (a1 : A1) (a2 : A2) (a3 : A3) (a4 : A4) (a5 : A5) (a6 : A6) (a7 : A7) (a8 : A8) (a9 : A9) (a10 : A10), I a1 a2 a3 a4 a5 a6 a7 a8 a9 a10 → (∀ (b1 : A1) (b2 : A2) (b3 : A3) (b4 : A4) (b5 : A5) (b6 : A6) (b7 : A7) (b8 : A8) (b9 : A9) (b10 : A10), I b1 b2 b3 b4 b5 b6 b7 b8 b9 b10 → μ b1 b2 b3 b4 b5 b6 b7 b8 b9 b10 < μ a1 a2 a3 a4 a5 a6 a7 a8 a9 a10 → W n b1 b2 b3 b4 b5 b6 b7 b8 b9 b10) → W (n + 1) a1 a2 a3 a4 a5 a6 a7 a8 a9 a10) (a1 : A1) (a2 : A2) (a3 : A3) (a4 : A4) (a5 : A5) (a6 : A6) (a7 : A7) (a8 : A8) (a9 : A9) (a10 : A10) (h : I a1 a2 a3 a4 a5 a6 a7 a8 a9 a10) : ∃ n, W n a1 a2 a3 a4 a5 a6 a7 a8 a9 a10 :=
  loop_m (σ := A1 × A2 × A3 × A4 × A5 × A6 × A7 × A8 × A9 × A10) (fun n s => W n s.1 s.2.1 s.2.2.1 s.2.2.2.1 s.2.2.2.2.1 s.2.2.2.2.2.1 s.2.2.2.2.2.2.1 s.2.2.2.2.2.2.2.1 s.2.2.2.2.2.2.2.2.1 s.2.2.2.2.2.2.2.2.2) (fun s => I s.1 s.2.1 s.2.2.1 s.2.2.2.1 s.2.2.2.2.1 s.2.2.2.2.2.1 s.2.2.2.2.2.2.1 s.2.2.2.2.2.2.2.1 s.2.2.2.2.2.2.2.2.1 s.2.2.2.2.2.2.2.2.2) (fun s => μ s.1 s.2.1 s.2.2.1 s.2.2.2.1 s.2.2.2.2.1 s.2.2.2.2.2.1 s.2.2.2.2.2.2.1 s.2.2.2.2.2.2.2.1 s.2.2.2.2.2.2.2.2.1 s.2.2.2.2.2.2.2.2.2) (fun n s hI hk => hs n s.1 s.2.1 s.2.2.1 s.2.2.2.1 s.2.2.2.2.1 s.2.2.2.2.2.1 s.2.2.2.2.2.2.1 s.2.2.2.2.2.2.2.1 s.2.2.2.2.2.2.2.2.1 s.2.2.2.2.2.2.2.2.2 hI (fun b1 b2 b3 b4 b5 b6 b7 b8 b9 b10 h9 hm => hk (b1, b2, b3, b4, b5, b6, b7, b8, b9, b10) h9 hm)) (a1, a2, a3, a4, a5, a6, a7, a8, a9, a10) h
theorem lp11 {A1 A2 A3 A4 A5 A6 A7 A8 A9 A10 A11 : Type} (W : Nat → A1 → A2 → A3 → A4 → A5 → A6 → A7 → A8 → A9 → A10 → A11 → Prop) (I : A1 → A2 → A3 → A4 → A5 → A6 → A7 → A8 → A9 → A10 → A11 → Prop) (μ : A1 → A2 → A3 → A4 → A5 → A6 → A7 → A8 → A9 → A10 → A11 → Nat) (hs : ∀ (n : Nat) (a1 : A1) (a2 : A2) (a3 : A3) (a4 : A4) (a5 : A5) (a6 : A6) (a7 : A7) (a8 : A8) (a9 : A9) (a10 : A10) (a11 : A11), I a1 a2 a3 a4 a5 a6 a7 a8 a9 a10 a11 → (∀ (b1 : A1) (b2 : A2) (b3 : A3) (b4 : A4) (b5 : A5) (b6 : A6) (b7 : A7) (b8 : A8) (b9 : A9) (b10 : A10) (b11 : A11), I b1 b2 b3 b4 b5 b6 b7 b8 b9 b10 b11 → μ b1 b2 b3 b4 b5 b6 b7 b8 b9 b10 b11 < μ a1 a2 a3 a4 a5 a6 a7 a8 a9 a10 a11 → W n b1 b2 b3 b4 b5 b6 b7 b8 b9 b10 b11) → W (n + 1) a1 a2 a3 a4 a5 a6 a7 a8 a9 a10 a11) (a1 : A1) (a2 : A2) (a3 : A3) (a4 : A4) (a5 : A5) (a6 : A6) (a7 : A7) (a8 : A8) (a9 : A9) (a10 : A10) (a11 : A11) (h : I a1 a2 a3 a4 a5 a6 a7 a8 a9 a10 a11) : ∃ n, W n a1 a2 a3 a4 a5 a6 a7 a8 a9 a10 a11 :=
  loop_m (σ := A1 × A2 × A3 × A4 × A5 × A6 × A7 × A8 × A9 × A10 × A11) (fun n s => W n s.1 s.2.1 s.2.2.1 s.2.2.2.1 s.2.2.2.2.1 s.2.2.2.2.2.1 s.2.2.2.2.2.2.1 s.2.2.2.2.2.2.2.1 s.2.2.2.2.2.2.2.2.1 s.2.2.2.2.2.2.2.2.2.1 s.2.2.2.2.2.2.2.2.2.2) (fun s => I s.1 s.2.1 s.2.2.1 s.2.2.2.1 s.2.2.2.2.1 s.2.2.2.2.2.1 s.2.2.2.2.2.2.1 s.2.2.2.2.2.2.2.1 s.2.2.2.2.2.2.2.2.1 s.2.2.2.2.2.2.2.2.2.1 s.2.2.2.2.2.2.2.2.2.2) (fun s => μ s.1 s.2.1 s.2.2.1 s.2.2.2.1 s.2.2.2.2.1 s.2.2.2.2.2.1 s.2.2.2.2.2.2.1 s.2.2.2.2.2.2.2.1 s.2.2.2.2.2.2.2.2.1 s.2.2.2.2.2.2.2.2.2.1 s.2.2.2.2.2.2.2.2.2.2) (fun n s hI hk => hs n s.1 s.2.1 s.2.2.1 s.2.2.2.1 s.2.2.2.2.1 s.2.2.2.2.2.1 s.2.2.2.2.2.2.1 s.2.2.2.2.2.2.2.1 s.2.2.2.2.2.2.2.2.1 s.2.2.2.2.2.2.2.2.2.1 s.2.2.2.2.2.2.2.2.2.2 hI (fun b1 b2 b3 b4 b5 b6 b7 b8 b9 b10 b11 h9 hm => hk (b1, b2, b3, b4, b5, b6, b7, b8, b9, b10, b11) h9 hm)) (a1, a2, a3, a4, a5, a6, a7, a8, a9, a10, a11) h
theorem lp12 {A1 A2 A3 A4 A5 A6 A7 A8 A9 A10 A11 A12 : Type} (W : Nat → A1 → A2 → A3 → A4 → A5 → A6 → A7 → A8 → A9 → A10 → A11 → A12 → Prop) (I : A1 → A2 → A3 → A4 → A5 → A6 → A7 → A8 → A9 → A10 → A11 → A12 → Prop) (μ : A1 → A2 → A3 → A4 → A5 → A6 → A7 → A8 → A9 → A10 → A11 → A12 → Nat) (hs : ∀ (n : Nat) (a1 : A1) (a2 : A2) (a3 : A3) (a4 : A4) (a5 : A5) (a6 : A6) (a7 : A7) (a8 : A8) (a9 : A9) (a10 : A10) (a11 : A11) (a12 : A12), I a1 a2 a3 a4 a5 a6 a7 a8 a9 a10 a11 a12 → (∀ (b1 : A1) (b2 : A2) (b3 : A3) (b4 : A4) (b5 : A5) (b6 : A6) (b7 : A7) (b8 : A8) (b9 : A9) (b10 : A10) (b11 : A11) (b12 : A12), I b1 b2 b3 b4 b5 b6 b7 b8 b9 b10 b11 b12 → μ b1 b2 b3 b4 b5 b6 b7 b8 b9 b10 b11 b12 < μ a1 a2 a3 a4 a5 a6 a7 a8 a9 a10 a11 a12 → W n b1 b2 b3 b4 b5 b6 b7 b8 b9 b10 b11 b12) → W (n + 1) a1 a2 a3 a4 a5 a6 a7 a8 a9 a10 a11 a12) (a1 : A1) (a2 : A2) (a3 : A3) (a4 : A4) (a5 : A5) (a6 : A6) (a7 : A7) (a8 : A8) (a9 : A9) (a10 : A10) (a11 : A11) (a12 : A12) (h : I a1 a2 a3 a4 a5 a6 a7 a8 a9 a10 a11 a12) : ∃ n, W n a1 a2 a3 a4 a5 a6 a7 a8 a9 a10 a11 a12 :=
  loop_m (σ := A1 × A2 × A3 × A4 × A5 × A6 × A7 × A8 × A9 × A10 × A11 × A12) (fun n s => W n s.1 s.2.1 s.2.2.1 s.2.2.2.1 s.2.2.2.2.1 s.2.2.2.2.2.1 s.2.2.2.2.2.2.1 s.2.2.2.2.2.2.2.1 s.2.2.2.2.2.2.2.2.1 s.2.2.2.2.2.2.2.2.2.1 s.2.2.2.2.2.2.2.2.2.2.1 s.2.2.2.2.2.2.2.2.2.2.2) (fun s => I s.1 s.2.1 s.2.2.1 s.2.2.2.1 s.2.2.2.2.1 s.2.2.2.2.2.1 s.2.2.2.2.2.2.1 s.2.2.2.2.2.2.2.1 s.2.2.2.2.2.2.2.2.1 s.2.2.2.2.2.2.2.2.2.1 s.2.2.2.2.2.2.2.2.2.2.1 s.2.2.2.2.2.2.2.2.2.2.2) (fun s => μ s.1 s.2.1 s.2.2.1 s.2.2.2.1 s.2.2.2.2.1 s.2.2.2.2.2.1 s.2.2.2.2.2.2.1 s.2.2.2.2.2.2.2.1 s.2.2.2.2.2.2.2.2.1 s.2.2.2.2.2.2.2.2.2.1 s.2.2.2.2.2.2.2.2.2.2.1 s.2.2.2.2.2.2.2.2.2.2.2) (fun n s hI hk => hs n s.1 s.2.1 s.2.2.1 s.2.2.2.1 s.2.2.2.2.1 s.2.2.2.2.2.1 s.2.2.2.2.2.2.1 s.2.2.2.2.2.2.2.1 s.2.2.2.2.2.2.2.2.1 s.2.2.2.2.2.2.2.2.2.1 s.2.2.2.2.2.2.2.2.2.2.1 s.2.2.2.2.2.2.2.2.2.2.2 hI (fun b1 b2 b3 b4 b5 b6 b7 b8 b9 b10 b11 b12 h9 hm => hk (b1, b2, b3, b4, b5, b6, b7, b8, b9, b10, b11, b12) h9 hm)) (a1, a2, a3, a4, a5, a6, a7, a8, a9, a10, a11, a12) h
theorem lp13 {A1 A2 A3 A4 A5 A6 A7 A8 A9 A10 A11 A12 A13 : Type} (W : Nat → A1 → A2 → A3 → A4 → A5 → A6 → A7 → A8 → A9 → A10 → A11 → A12 → A13 → Prop) (I : A1 → A2 → A3 → A4 → A5 → A6 → A7 → A8 → A9 → A10 → A11 → A12 → A13 → Prop) (μ : A1 → A2 → A3 → A4 → A5 → A6 → A7 → A8 → A9 → A10 → A11 → A12 → A13 → Nat) (hs : ∀ (n : Nat) (a1 : A1) (a2 : A2) (a3 : A3) (a4 : A4) (a5 : A5) (a6 : A6) (a7 : A7) (a8 : A8) (a9 : A9) (a10 : A10) (a11 : A11) (a12 : A12) (a13 : A13), I a1 a2 a3 a4 a5 a6 a7 a8 a9 a10 a11 a12 a13 → (∀ (b1 : A1) (b2 : A2) (b3 : A3) (b4 : A4) (b5 : A5) (b6 : A6) (b7 : A7) (b8 : A8) (b9 : A9) (b10 : A10) (b11 : A11) (b12 : A12) (b13 : A13), I b1 b2 b3 b4 b5 b6 b7 b8 b9 b10 b11 b12 b13 → μ b1 b2 b3 b4 b5 b6 b7 b8 b9 b10 b11 b12 b13 < μ a1 a2 a3 a4 a5 a6 a7 a8 a9 a10 a11 a12 a13 → W n b1 b2 b3 b4 b5 b6 b7 b8 b9 b10 b11 b12 b13) → W (n + 1) a1 a2 a3 a4 a5 a6 a7 a8 a9 a10 a11 a12 a13) (a1 : A1) (a2 : A2) (a3 : A3) (a4 : A4) (a5 : A5) (a6 : A6) (a7 : A7) (a8 : A8) (a9 : A9) (a10 : A10) (a11 : A11) (a12 : A12) (a13 : A13) (h : I a1 a2 a3 a4 a5 a6 a7 a8 a9 a10 a11 a12 a13) : ∃ n, W n a1 a2 a3 a4 a5 a6 a7 a8 a9 a10 a11 a12 a13 :=
  loop_m (σ := A1 × A2 × A3 × A4 × A5 × A6 × A7 × A8 × A9 × A10 × A11 × A12 × A13) (fun n s => W n s.1 s.2.1 s.2.2.1 s.2.2.2.1 s.2.2.2.2.1 s.2.2.2.2.2.1 s.2.2.2.2.2.2.1 s.2.2.2.2.2.2.2.1 s.2.2.2.2.2.2.2.2.1 s.2.2.2.2.2.2.2.2.2.1 s.2.2.2.2.2.2.2.2.2.2.1 s.2.2.2.2.2.2.2.2.2.2.2.1 s.2.2.2.2.2.2.2.2.2.2.2.2) (fun s => I s.1 s.2.1 s.2.2.1 s.2.2.2.1 s.2.2.2.2.1 s.2.2.2.2.2.1 s.2.2.2.2.2.2.1 s.2.2.2.2.2.2.2.1 s.2.2.2.2.2.2.2.2.1 s.2.2.2.2.2.2.2.2.2.1 s.2.2.2.2.2.2.2.2.2.2.1 s.2.2.2.2.2.2.2.2.2.2.2.1 s.2.2.2.2.2.2.2.2.2.2.2.2) (fun s => μ s.1 s.2.1 s.2.2.1 s.2.2.2.1 s.2.2.2.2.1 s.2.2.2.2.2.1 s.2.2.2.2.2.2.1 s.2.2.2.2.2.2.2.1 s.2.2.2.2.2.2.2.2.1 s.2.2.2.2.2.2.2.2.2.1 s.2.2.2.2.2.2.2.2.2.2.1 s.2.2.2.2.2.2.2.2.2.2.2.1 s.2.2.2.2.2.2.2.2.2.2.2.2) (fun n s hI hk => hs n s.1 s.2.1 s.2.2.1 s.2.2.2.1 s.2.2.2.2.1 s.2.2.2.2.2.1 s.2.2.2.2.2.2.1 s.2.2.2.2.2.2.2.1 s.2.2.2.2.2.2.2.2.1 s.2.2.2.2.2.2.2.2.2.1 s.2.2.2.2.2.2.2.2.2.2.1 s.2.2.2.2.2.2.2.2.2.2.2.1 s.2.2.2.2.2.2.2.2.2.2.2.2 hI (fun b1 b2 b3 b4 b5 b6 b7 b8 b9 b10 b11 b12 b13 h9 hm => hk (b1, b2, b3, b4, b5, b6, b7, b8, b9, b10, b11, b12, b13) h9 hm)) (a1, a2, a3, a4, a5, a6, a7, a8, a9, a10, a11, a12, a13) h
theorem lp14 {A1 A2 A3 A4 A5 A6 A7 A8 A9 A10 A11 A12 A13 A14 : Type} (W : Nat → A1 → A2 → A3 → A4 → A5 → A6 → A7 → A8 → A9 → A10 → A11 → A12 → A13 → A14 → Prop) (I : A1 → A2 → A3 → A4 → A5 → A6 → A7 → A8 → A9 → A10 → A11 → A12 → A13 → A14 → Prop) (μ : A1 → A2 → A3 → A4 → A5 → A6 → A7 → A8 → A9 → A10 → A11 → A12 → A13 → A14 → Nat) (hs : ∀ (n : Nat) (a1 : A1) (a2 : A2) (a3 : A3) (a4 : A4) (a5 : A5) (a6 : A6) (a7 : A7) (a8 : A8) (a9 : A9) (a10 : A10) (a11 : A11) (a12 : A12) (a13 : A13) (a14 : A14), I a1 a2 a3 a4 a5 a6 a7 a8 a9 a10 a11 a12 a13 a14 → (∀ (b1 : A1) (b2 : A2) (b3 : A3) (b4 : A4) (b5 : A5) (b6 : A6) (b7 : A7) (b8 : A8) (b9 : A9) (b10 : A10) (b11 : A11) (b12 : A12) (b13 : A13) (b14 : A14), I b1 b2 b3 b4 b5 b6 b7 b8 b9 b10 b11 b12 b13 b14 → μ b1 b2 b3 b4 b5 b6 b7 b8 b9 b10 b11 b12 b13 b14 < μ a1 a2 a3 a4 a5 a6 a7 a8 a9 a10 a11 a12 a13 a14 → W n b1 b2 b3 b4 b5 b6 b7 b8 b9 b10 b11 b12 b13 b14) → W (n + 1) a1 a2 a3 a4 a5 a6 a7 a8 a9 a10 a11 a12 a13 a14) (a1 : A1) (a2 : A2) (a3 : A3) (a4 : A4) (a5 : A5) (a6 : A6) (a7 : A7) (a8 : A8) (a9 : A9) (a10 : A10) (a11 : A11) (a12 : A12) (a13 : A13) (a14 : A14) (h : I a1 a2 a3 a4 a5 a6 a7 a8 a9 a10 a11 a12 a13 a14) : ∃ n, W n a1 a2 a3 a4 a5 a6 a7 a8 a9 a10 a11 a12 a13 a14 :=
  loop_m (σ := A1 × A2 × A3 × A4 × A5 × A6 × A7 × A8 × A9 × A10 × A11 × A12 × A13 × A14) (fun n s => W n s.1 s.2.1 s.2.2.1 s.2.2.2.1 s.2.2.2.2.1 s.2.2.2.2.2.1 s.2.2.2.2.2.2.1 s.2.2.2.2.2.2.2.1 s.2.2.2.2.2.2.2.2.1 s.2.2.2.2.2.2.2.2.2.1 s.2.2.2.2.2.2.2.2.2.2.1 s.2.2.2.2.2.2.2.2.2.2.2.1 s.2.2.2.2.2.2.2.2.2.2.2.2.1 s.2.2.2.2.2.2.2.2.2.2.2.2.2) (fun s => I s.1 s.2.1 s.2.2.1 s.2.2.2.1 s.2.2.2.2.1 s.2.2.2.2.2.1 s.2.2.2.2.2.2.1 s.2.2.2.2.2.2.2.1 s.2.2.2.2.2.2.2.2.1 s.2.2.2.2.2.2.2.2.2.1 s.2.2.2.2.2.2.2.2.2.2.1 s.2.2.2.2.2.2.2.2.2.2.2.1 s.2.2.2.2.2.2.2.2.2.2.2.2.1 s.2.2.2.2.2.2.2.2.2.2.2.2.2) (fun s => μ s.1 s.2.1 s.2.2.1 s.2.2.2.1 s.2.2.2.2.1 s.2.2.2.2.2.1 s.2.2.2.2.2.2.1 s.2.2.2.2.2.2.2.1 s.2.2.2.2.2.2.2.2.1 s.2.2.2.2.2.2.2.2.2.1 s.2.2.2.2.2.2.2.2.2.2.1 s.2.2.2.2.2.2.2.2.2.2.2.1 s.2.2.2.2.2.2.2.2.2.2.2.2.1 s.2.2.2.2.2.2.2.2.2.2.2.2.2) (fun n s hI hk => hs n s.1 s.2.1 s.2.2.1 s.2.2.2.1 s.2.2.2.2.1 s.2.2.2.2.2.1 s.2.2.2.2.2.2.1 s.2.2.2.2.2.2.2.1 s.2.2.2.2.2.2.2.2.1 s.2.2.2.2.2.2.2.2.2.1 s.2.2.2.2.2.2.2.2.2.2.1 s.2.2.2.2.2.2.2.2.2.2.2.1 s.2.2.2.2.2.2.2.2.2.2.2.2.1 s.2.2.2.2.2.2.2.2.2.2.2.2.2 hI (fun b1 b2 b3 b4 b5 b6 b7 b8 b9 b10 b11 b12 b13 b14 h9 hm => hk (b1, b2, b3, b4, b5, b6, b7, b8, b9, b10, b11, b12, b13, b14) h9 hm)) (a1, a2, a3, a4, a5, a6, a7, a8, a9, a10, a11, a12, a13, a14) h
theorem lp15 {A1 A2 A3 A4 A5 A6 A7 A8 A9 A10 A11 A12 A13 A14 A15 : Type} (W : Nat → A1 → A2 → A3 → A4 → A5 → A6 → A7 → A8 → A9 → A10 → A11 → A12 → A13 → A14 → A15 → Prop) (I : A1 → A2 → A3 → A4 → A5 → A6 → A7 → A8 → A9 → A10 → A11 → A12 → A13 → A14 → A15 → Prop) (μ : A1 → A2 → A3 → A4 → A5 → A6 → A7 → A8 → A9 → A10 → A11 → A12 → A13 → A14 → A15 → Nat) (hs : ∀ (n : Nat) (a1 : A1) (a2 : A2) (a3 : A3) (a4 : A4) (a5 : A5) (a6 : A6) (a7 : A7) (a8 : A8) (a9 : A9) (a10 : A10) (a11 : A11) (a12 : A12) (a13 : A13) (a14 : A14) (a15 : A15), I a1 a2 a3 a4 a5 a6 a7 a8 a9 a10 a11 a12 a13 a14 a15 → (∀ (b1 : A1) (b2 : A2) (b3 : A3) (b4 : A4) (b5 : A5) (b6 : A6) (b7 : A7) (b8 : A8) (b9 : A9) (b10 : A10) (b11 : A11) (b12 : A12) (b13 : A13) (b14 : A14) (b15 : A15), I b1 b2 b3 b4 b5 b6 b7 b8 b9 b10 b11 b12 b13 b14 b15 → μ b1 b2 b3 b4 b5 b6 b7 b8 b9 b10 b11 b12 b13 b14 b15 < μ a1 a2 a3 a4 a5 a6 a7 a8 a9 a10 a11 a12 a13 a14 a15 → W n b1 b2 b3 b4 b5 b6 b7 b8 b9 b10 b11 b12 b13 b14 b15) → W (n + 1) a1 a2 a3 a4 a5 a6 a7 a8 a9 a10 a11 a12 a13 a14 a15) (a1 : A1) (a2 : A2) (a3 : A3) (a4 : A4) (a5 : A5) (a6 : A6) (a7 : A7) (a8 : A8) (a9 : A9) (a10 : A10) (a11 : A11) (a12 : A12) (a13 : A13) (a14 : A14) (a15 : A15) (h : I a1 a2 a3 a4 a5 a6 a7 a8 a9 a10 a11 a12 a13 a14 a15) : ∃ n, W n a1 a2 a3 a4 a5 a6 a7 a8 a9 a10 a11 a12 a13 a14 a15 :=
  loop_m (σ := A1 × A2 × A3 × A4 × A5 × A6 × A7 × A8 × A9 × A10 × A11 × A12 × A13 × A14 × A15) (fun n s => W n s.1 s.2.1 s.2.2.1 s.2.2.2.1 s.2.2.2.2.1 s.2.2.2.2.2.1 s.2.2.2.2.2.2.1 s.2.2.2.2.2.2.2.1 s.2.2.2.2.2.2.2.2.1 s.2.2.2.2.2.2.2.2.2.1 s.2.2.2.2.2.2.2.2.2.2.1 s.2.2.2.2.2.2.2.2.2.2.2.1 s.2.2.2.2.2.2.2.2.2.2.2.2.1 s.2.2.2.2.2.2.2.2.2.2.2.2.2.1 s.2.2.2.2.2.2.2.2.2.2.2.2.2.2) (fun s => I s.1 s.2.1 s.2.2.1 s.2.2.2.1 s.2.2.2.2.1 s.2.2.2.2.2.1 s.2.2.2.2.2.2.1 s.2.2.2.2.2.2.2.1 s.2.2.2.2.2.2.2.2.1 s.2.2.2.2.2.2.2.2.2.1 s.2.2.2.2.2.2.2.2.2.2.1 s.2.2.2.2.2.2.2.2.2.2.2.1 s.2.2.2.2.2.2.2.2.2.2.2.2.1 s.2.2.2.2.2.2.2.2.2.2.2.2.2.1 s.2.2.2.2.2.2.2.2.2.2.2.2.2.2) (fun s => μ s.1 s.2.1 s.2.2.1 s.2.2.2.1 s.2.2.2.2.1 s.2.2.2.2.2.1 s.2.2.2.2.2.2.1 s.2.2.2.2.2.2.2.1 s.2.2.2.2.2.2.2.2.1 s.2.2.2.2.2.2.2.2.2.1 s.2.2.2.2.2.2.2.2.2.2.1 s.2.2.2.2.2.2.2.2.2.2.2.1 s.2.2.2.2.2.2.2.2.2.2.2.2.1 s.2.2.2.2.2.2.2.2.2.2.2.2.2.1 s.2.2.2.2.2.2.2.2.2.2.2.2.2.2) (fun n s hI hk => hs n s.1 s.2.1 s.2.2.1 s.2.2.2.1 s.2.2.2.2.1 s.2.2.2.2.2.1 s.2.2.2.2.2.2.1 s.2.2.2.2.2.2.2.1 s.2.2.2.2.2.2.2.2.1 s.2.2.2.2.2.2.2.2.2.1 s.2.2.2.2.2.2.2.2.2.2.1 s.2.2.2.2.2.2.2.2.2.2.2.1 s.2.2.2.2.2.2.2.2.2.2.2.2.1 s.2.2.2.2.2.2.2.2.2.2.2.2.2.1 s.2.2.2.2.2.2.2.2.2.2.2.2.2.2 hI (fun b1 b2 b3 b4 b5 b6 b7 b8 b9 b10 b11 b12 b13 b14 b15 h9 hm => hk (b1, b2, b3, b4, b5, b6, b7, b8, b9, b10, b11, b12, b13, b14, b15) h9 hm)) (a1, a2, a3, a4, a5, a6, a7, a8, a9, a10, a11, a12, a13, a14, a15) h
theorem lp16 {A1 A2 A3 A4 A5 A6 A7 A8 A9 A10 A11 A12 A13 A14 A15 A16 : Type} (W : Nat → A1 → A2 → A3 → A4 → A5 → A6 → A7 → A8 → A9 → A10 → A11 → A12 → A13 → A14 → A15 → A16 → Prop) (I : A1 → A2 → A3 → A4 → A5 → A6 → A7 → A8 → A9 → A10 → A11 → A12 → A13 → A14 → A15 → A16 → Prop) (μ : A1 → A2 → A3 → A4 → A5 → A6 → A7 → A8 → A9 → A10 → A11 → A12 → A13 → A14 → A15 → A16 → Nat) (hs : ∀ (n : Nat) (a1 : A1) (a2 : A2) (a3 : A3) (a4 : A4) (a5 : A5) (a6 : A6) (a7 : A7) (a8 : A8) (a9 : A9) (a10 : A10) (a11 : A11) (a12 : A12) (a13 : A13) (a14 : A14) (a15 : A15) (a16 : A16), I a1 a2 a3 a4 a5 a6 a7 a8 a9 a10 a11 a12 a13 a14 a15 a16 → (∀ (b1 : A1) (b2 : A2) (b3 : A3) (b4 : A4) (b5 : A5) (b6 : A6) (b7 : A7) (b8 : A8) (b9 : A9) (b10 : A10) (b11 : A11) (b12 : A12) (b13 : A13) (b14 : A14) (b15 : A15) (b16 : A16), I b1 b2 b3 b4 b5 b6 b7 b8 b9 b10 b11 b12 b13 b14 b15 b16 → μ b1 b2 b3 b4 b5 b6 b7 b8 b9 b10 b11 b12 b13 b14 b15 b16 < μ a1 a2 a3 a4 a5 a6 a7 a8 a9 a10 a11 a12 a13 a14 a15 a16 → W n b1 b2 b3 b4 b5 b6 b7 b8 b9 b10 b11 b12 b13 b14 b15 b16) → W (n + 1) a1 a2 a3 a4 a5 a6 a7 a8 a9 a10 a11 a12 a13 a14 a15 a16) (a1 : A1) (a2 : A2) (a3 : A3) (a4 : A4) (a5 : A5) (a6 : A6) (a7 : A7) (a8 : A8) (a9 : A9) (a10 : A10) (a11 : A11) (a12 : A12) (a13 : A13) (a14 : A14) (a15 : A15) (a16 : A16) (h : I a1 a2 a3 a4 a5 a6 a7 a8 a9 a10 a11 a12 a13 a14 a15 a16) : ∃ n, W n a1 a2 a3 a4 a5 a6 a7 a8 a9 a10 a11 a12 a13 a14 a15 a16 :=
  loop_m (σ := A1 × A2 × A3 × A4 × A5 × A6 × A7 × A8 × A9 × A10 × A11 × A12 × A13 × A14 × A15 × A16) (fun n s => W n s.1 s.2.1 s.2.2.1 s.2.2.2.1 s.2.2.2.2.1 s.2.2.2.2.2.1 s.2.2.2.2.2.2.1 s.2.2.2.2.2.2.2.1 s.2.2.2.2.2.2.2.2.1 s.2.2.2.2.2.2.2.2.2.1 s.2.2.2.2.2.2.2.2.2.2.1 s.2.2.2.2.2.2.2.2.2.2.2.1 s.2.2.2.2.2.2.2.2.2.2.2.2.1 s.2.2.2.2.2.2.2.2.2.2.2.2.2.1 s.2.2.2.2.2.2.2.2.2.2.2.2.2.2.1 s.2.2.2.2.2.2.2.2.2.2.2.2.2.2.2) (fun s => I s.1 s.2.1 s.2.2.1 s.2.2.2.1 s.2.2.2.2.1 s.2.2.2.2.2.1 s.2.2.2.2.2.2.1 s.2.2.2.2.2.2.2.1 s.2.2.2.2.2.2.2.2.1 s.2.2.2.2.2.2.2.2.2.1 s.2.2.2.2.2.2.2.2.2.2.1 s.2.2.2.2.2.2.2.2.2.2.2.1 s.2.2.2.2.2.2.2.2.2.2.2.2.1 s.2.2.2.2.2.2.2.2.2.2.2.2.2.1 s.2.2.2.2.2.2.2.2.2.2.2.2.2.2.1 s.2.2.2.2.2.2.2.2.2.2.2.2.2.2.2) (fun s => μ s.1 s.2.1 s.2.2.1 s.2.2.2.1 s.2.2.2.2.1 s.2.2.2.2.2.1 s.2.2.2.2.2.2.1 s.2.2.2.2.2.2.2.1 s.2.2.2.2.2.2.2.2.1 s.2.2.2.2.2.2.2.2.2.1 s.2.2.2.2.2.2.2.2.2.2.1 s.2.2.2.2.2.2.2.2.2.2.2.1 s.2.2.2.2.2.2.2.2.2.2.2.2.1 s.2.2.2.2.2.2.2.2.2.2.2.2.2.1 s.2.2.2.2.2.2.2.2.2.2.2.2.2.2.1 s.2.2.2.2.2.2.2.2.2.2.2.2.2.2.2) (fun n s hI hk => hs n s.1 s.2.1 s.2.2.1 s.2.2.2.1 s.2.2.2.2.1 s.2.2.2.2.2.1 s.2.2.2.2.2.2.1 s.2.2.2.2.2.2.2.1 s.2.2.2.2.2.2.2.2.1 s.2.2.2.2.2.2.2.2.2.1 s.2.2.2.2.2.2.2.2.2.2.1 s.2.2.2.2.2.2.2.2.2.2.2.1 s.2.2.2.2.2.2.2.2.2.2.2.2.1 s.2.2.2.2.2.2.2.2.2.2.2.2.2.1 s.2.2.2.2.2.2.2.2.2.2.2.2.2.2.1 s.2.2.2.2.2.2.2.2.2.2.2.2.2.2.2 hI (fun b1 b2 b3 b4 b5 b6 b7 b8 b9 b10 b11 b12 b13 b14 b15 b16 h9 hm => hk (b1, b2, b3, b4, b5, b6, b7, b8, b9, b10, b11, b12, b13, b14, b15, b16) h9 hm)) (a1, a2, a3, a4, a5, a6, a7, a8, a9, a10, a11, a12, a13, a14, a15, a16) h
theorem pk_least (P : Nat → Prop) (h : ∃ k, P k) : ∃ k, P k ∧ ∀ j, j < k → ¬ P j := by
  obtain ⟨k, hk⟩ := h
  induction k using Nat.strongRecOn with
  | ind k ih =>
    by_cases e : ∃ j, j < k ∧ P j
    · obtain ⟨j, hj, pj⟩ := e
      exact ih j hj pj
    · exact ⟨k, hk, fun j hj pj => e ⟨j, hj, pj⟩⟩
theorem rp1 {ρ A1 : Type} (W : Nat → (ρ → Prop) → A1 → Prop) (ok : A1 → Prop) (μ : A1 → Nat) (val : A1 → ρ)
    (hs : ∀ (d : Nat) (post : ρ → Prop) (a1 : A1), ok a1 → post (val a1) → (∀ (post' : ρ → Prop) (b1 : A1), ok b1 → μ b1 < μ a1 → post' (val b1) → W d post' b1) → W (d + 1) post a1) :
    ∀ (d : Nat) (post : ρ → Prop) (a1 : A1), ok a1 → μ a1 < d → post (val a1) → W d post a1 := by
  intro d
  induction d with
  | zero => intro post a1 _ h; omega
  | succ d ih =>
    intro post a1 ho hm hp
    exact hs d post a1 ho hp (fun post' b1 ho' hm' hp' => ih post' b1 ho' (by omega) hp')
theorem rp2 {ρ A1 A2 : Type} (W : Nat → (ρ → Prop) → A1 → A2 → Prop) (ok : A1 → A2 → Prop) (μ : A1 → A2 → Nat) (val : A1 → A2 → ρ)
    (hs : ∀ (d : Nat) (post : ρ → Prop) (a1 : A1) (a2 : A2), ok a1 a2 → post (val a1 a2) → (∀ (post' : ρ → Prop) (b1 : A1) (b2 : A2), ok b1 b2 → μ b1 b2 < μ a1 a2 → post' (val b1 b2) → W d post' b1 b2) → W (d + 1) post a1 a2) :
    ∀ (d : Nat) (post : ρ → Prop) (a1 : A1) (a2 : A2), ok a1 a2 → μ a1 a2 < d → post (val a1 a2) → W d post a1 a2 := by
  intro d
  induction d with
  | zero => intro post a1 a2 _ h; omega
  | succ d ih =>
    intro post a1 a2 ho hm hp
    exact hs d post a1 a2 ho hp (fun post' b1 b2 ho' hm' hp' => ih post' b1 b2 ho' (by omega) hp')
theorem rp3 {ρ A1 A2 A3 : Type} (W : Nat → (ρ → Prop) → A1 → A2 → A3 → Prop) (ok : A1 → A2 → A3 → Prop) (μ : A1 → A2 → A3 → Nat) (val : A1 → A2 → A3 → ρ)
    (hs : ∀ (d : Nat) (post : ρ → Prop) (a1 : A1) (a2 : A2) (a3 : A3), ok a1 a2 a3 → post (val a1 a2 a3) → (∀ (post' : ρ → Prop) (b1 : A1) (b2 : A2) (b3 : A3), ok b1 b2 b3 → μ b1 b2 b3 < μ a1 a2 a3 → post' (val b1 b2 b3) → W d post' b1 b2 b3) → W (d + 1) post a1 a2 a3) :
    ∀ (d : Nat) (post : ρ → Prop) (a1 : A1) (a2 : A2) (a3 : A3), ok a1 a2 a3 → μ a1 a2 a3 < d → post (val a1 a2 a3) → W d post a1 a2 a3 := by
  intro d
  induction d with
  | zero => intro post a1 a2 a3 _ h; omega
  | succ d ih =>
    intro post a1 a2 a3 ho hm hp
    exact hs d post a1 a2 a3 ho hp (fun post' b1 b2 b3 ho' hm' hp' => ih post' b1 b2 b3 ho' (by omega) hp')
theorem rp4 {ρ A1 A2 A3 A4 : Type} (W : Nat → (ρ → Prop) → A1 → A2 → A3 → A4 → Prop) (ok : A1 → A2 → A3 → A4 → Prop) (μ : A1 → A2 → A3 → A4 → Nat) (val : A1 → A2 → A3 → A4 → ρ)
    (hs : ∀ (d : Nat) (post : ρ → Prop) (a1 : A1) (a2 : A2) (a3 : A3) (a4 : A4), ok a1 a2 a3 a4 → post (val a1 a2 a3 a4) → (∀ (post' : ρ → Prop) (b1 : A1) (b2 : A2) (b3 : A3) (b4 : A4), ok b1 b2 b3 b4 → μ b1 b2 b3 b4 < μ a1 a2 a3 a4 → post' (val b1 b2 b3 b4) → W d post' b1 b2 b3 b4) → W (d + 1) post a1 a2 a3 a4) :
    ∀ (d : Nat) (post : ρ → Prop) (a1 : A1) (a2 : A2) (a3 : A3) (a4 : A4), ok a1 a2 a3 a4 → μ a1 a2 a3 a4 < d → post (val a1 a2 a3 a4) → W d post a1 a2 a3 a4 := by
  intro d
  induction d with
  | zero => intro post a1 a2 a3 a4 _ h; omega
  | succ d ih =>
    intro post a1 a2 a3 a4 ho hm hp
    exact hs d post a1 a2 a3 a4 ho hp (fun post' b1 b2 b3 b4 ho' hm' hp' => ih post' b1 b2 b3 b4 ho' (by omega) hp')
theorem rp5 {ρ A1 A2 A3 A4 A5 : Type} (W : Nat → (ρ → Prop) → A1 → A2 → A3 → A4 → A5 → Prop) (ok : A1 → A2 → A3 → A4 → A5 → Prop) (μ : A1 → A2 → A3 → A4 → A5 → Nat) (val : A1 → A2 → A3 → A4 → A5 → ρ)
    (hs : ∀ (d : Nat) (post : ρ → Prop) (a1 : A1) (a2 : A2) (a3 : A3) (a4 : A4) (a5 : A5), ok a1 a2 a3 a4 a5 → post (val a1 a2 a3 a4 a5) → (∀ (post' : ρ → Prop) (b1 : A1) (b2 : A2) (b3 : A3) (b4 : A4) (b5 : A5), ok b1 b2 b3 b4 b5 → μ b1 b2 b3 b4 b5 < μ a1 a2 a3 a4 a5 → post' (val b1 b2 b3 b4 b5) → W d post' b1 b2 b3 b4 b5) → W (d + 1) post a1 a2 a3 a4 a5) :
    ∀ (d : Nat) (post : ρ → Prop) (a1 : A1) (a2 : A2) (a3 : A3) (a4 : A4) (a5 : A5), ok a1 a2 a3 a4 a5 → μ a1 a2 a3 a4 a5 < d → post (val a1 a2 a3 a4 a5) → W d post a1 a2 a3 a4 a5 := by
  intro d
  induction d with
  | zero => intro post a1 a2 a3 a4 a5 _ h; omega
  | succ d ih =>
    intro post a1 a2 a3 a4 a5 ho hm hp
    exact hs d post a1 a2 a3 a4 a5 ho hp (fun post' b1 b2 b3 b4 b5 ho' hm' hp' => ih post' b1 b2 b3 b4 b5 ho' (by omega) hp')
theorem rp6 {ρ A1 A2 A3 A4 A5 A6 : Type} (W : Nat → (ρ → Prop) → A1 → A2 → A3 → A4 → A5 → A6 → Prop) (ok : A1 → A2 → A3 → A4 → A5 → A6 → Prop) (μ : A1 → A2 → A3 → A4 → A5 → A6 → Nat) (val : A1 → A2 → A3 → A4 → A5 → A6 → ρ)
    (hs : ∀ (d : Nat) (post : ρ → Prop) (a1 : A1) (a2 : A2) (a3 : A3) (a4 : A4) (a5 : A5) (a6 : A6), ok a1 a2 a3 a4 a5 a6 → post (val a1 a2 a3 a4 a5 a6) → (∀ (post' : ρ → Prop) (b1 : A1) (b2 : A2) (b3 : A3) (b4 : A4) (b5 : A5) (b6 : A6), ok b1 b2 b3 b4 b5 b6 → μ b1 b2 b3 b4 b5 b6 < μ a1 a2 a3 a4 a5 a6 → post' (val b1 b2 b3 b4 b5 b6) → W d post' b1 b2 b3 b4 b5 b6) → W (d + 1) post a1 a2 a3 a4 a5 a6) :
    ∀ (d : Nat) (post : ρ → Prop) (a1 : A1) (a2 : A2) (a3 : A3) (a4 : A4) (a5 : A5) (a6 : A6), ok a1 a2 a3 a4 a5 a6 → μ a1 a2 a3 a4 a5 a6 < d → post (val a1 a2 a3 a4 a5 a6) → W d post a1 a2 a3 a4 a5 a6 := by
  intro d
  induction d with
  | zero => intro post a1 a2 a3 a4 a5 a6 _ h; omega
  | succ d ih =>
    intro post a1 a2 a3 a4 a5 a6 ho hm hp
    exact hs d post a1 a2 a3 a4 a5 a6 ho hp (fun post' b1 b2 b3 b4 b5 b6 ho' hm' hp' => ih post' b1 b2 b3 b4 b5 b6 ho' (by omega) hp')
theorem rec_p {σ ρ : Type} (W : Nat → (ρ → Prop) → σ → Prop) (ok : σ → Prop) (μ : σ → Nat) (val : σ → ρ)
    (hs : ∀ d s post, ok s → post (val s) → (∀ s' post', ok s' → μ s' < μ s → post' (val s') → W d post' s') → W (d + 1) post s) :
    ∀ d s post, ok s → μ s < d → post (val s) → W d post s := by
  intro d
  induction d with
  | zero => intro s post _ h; omega
  | succ d ih =>
    intro s post ho hm hp
    exact hs d s post ho hp (fun s' post' ho' hm' hp' => ih s' post' ho' (by omega) hp')
theorem rec_q {σ ρ : Type} (W : Nat → (ρ → Prop) → σ → Prop) (ok : σ → Prop) (μ : σ → Nat) (Q : σ → ρ → Prop)
    (hs : ∀ d s post, ok s → (∀ r, Q s r → post r) → (∀ s' post', ok s' → μ s' < μ s → (∀ r, Q s' r → post' r) → W d post' s') → W (d + 1) post s) :
    ∀ d s post, ok s → μ s < d → (∀ r, Q s r → post r) → W d post s := by
  intro d
  induction d with
  | zero => intro s post _ h; omega
  | succ d ih =>
    intro s post ho hm hp
    exact hs d s post ho hp (fun s' post' ho' hm' hp' => ih s' post' ho' (by omega) hp')
def bx_sum (f : Nat → Int32) : Nat → Int32
  | 0 => 0
  | n + 1 => bx_sum f n + f n
theorem ek_u {A : Prop} {B : Nat → Prop} {k N : Nat} (hk : k < N) (h : B k) : (some k = none → A) ∧ (∀ y : Nat, some k = some y → (y < N ∧ B y)) :=
  ⟨fun z => absurd z (Option.some_ne_none k), fun _ e => (by cases e; exact ⟨hk, h⟩)⟩
theorem ek_nu {A : Prop} {B : Nat → Prop} (h : A) : ((none : Option Nat) = none → A) ∧ (∀ y : Nat, (none : Option Nat) = some y → B y) :=
  ⟨fun _ => h, fun _ e => (by cases e)⟩
theorem ek_if {c d A B : Prop} (e : c ↔ d) (f : d → A) (g : ¬ d → B) : (c → A) ∧ (¬ c → B) :=
  ⟨fun z => f (e.mp z), fun z => g (fun y => z (e.mpr y))⟩
theorem ek_v {α : Sort _} {P : α → Prop} {a b : α} (e : a = b) (h : P b) : P a := e ▸ h
theorem co_some {x : Option Nat} {A : Prop} {B : Nat → Prop} (i : Nat) (h : B i) (hx : x = some i := by rfl) : (x = none → A) ∧ (∀ y : Nat, x = some y → B y) := by
  subst hx
  exact ⟨fun e => (nomatch e), fun y e => Option.some.inj e ▸ h⟩
theorem co_none {x : Option Nat} {A : Prop} {B : Nat → Prop} (h : A) (hx : x = none := by rfl) : (x = none → A) ∧ (∀ y : Nat, x = some y → B y) := by
  subst hx
  exact ⟨fun _ => h, fun y e => (nomatch e)⟩
theorem co_any {x : Option Nat} {A : Prop} {B : Nat → Prop} (hn : x = none → A) (hs : ∀ i : Nat, x = some i → B i) : (x = none → A) ∧ (∀ y : Nat, x = some y → B y) := ⟨hn, hs⟩
theorem co_2 {P : Nat → Prop} (h0 : P 0) (h1 : P 1) {i : Nat} (hi : i < 2) : P i :=
  match i, hi with
  | 0, _ => h0
  | 1, _ => h1
theorem co_3 {P : Nat → Prop} (h0 : P 0) (h1 : P 1) (h2 : P 2) {i : Nat} (hi : i < 3) : P i :=
  match i, hi with
  | 0, _ => h0
  | 1, _ => h1
  | 2, _ => h2
theorem co_4 {P : Nat → Prop} (h0 : P 0) (h1 : P 1) (h2 : P 2) (h3 : P 3) {i : Nat} (hi : i < 4) : P i :=
  match i, hi with
  | 0, _ => h0
  | 1, _ => h1
  | 2, _ => h2
  | 3, _ => h3
theorem co_dec {N : Nat} {P : Nat → Prop} [DecidablePred P] (h : (List.range N).all (fun i => decide (P i)) = true) {i : Nat} (hi : i < N) : P i := by
  have := List.all_eq_true.mp h i (List.mem_range.mpr hi)
  exact of_decide_eq_true this
theorem co_tab {α : Type} {l : List α} {d : α} {P : α → Prop} (h : ∀ a, a ∈ l → P a) {i : Nat} (hi : i < l.length) : P (l.getD i d) := by
  rw [List.getD_eq_getElem?_getD, List.getElem?_eq_getElem hi]
  exact h _ (List.getElem_mem hi)
theorem pk_mu {x : Int32} {L : Nat} (h0 : ¬ x < 0) (h : ¬ nI L ≤ x) (hL : L < 2 ^ 31) : ∃ j : Nat, j < L ∧ x = nI j ∧ x + 1 = nI (j + 1) ∧ x.toNatClampNeg = j ∧ L - (x + 1).toNatClampNeg < L - x.toNatClampNeg := by
  obtain ⟨j, hj, rfl⟩ := nI_of h0
  have hl : j < L := Nat.not_le.mp fun q => h (nI_le q hj)
  refine ⟨j, hl, rfl, nI_1 j, nI_clamp hj, ?_⟩
  rw [nI_1, nI_clamp (by omega), nI_clamp hj]
  omega
theorem op_s {α : Type} {r : Option α} {A : Prop} {B : α → Prop} {y : α} (h : r = some y) (b : B y) : (r = none → A) ∧ ∀ z, r = some z → B z :=
  ⟨fun e => (by rw [h] at e; cases e), fun z e => (by rw [h] at e; cases e; exact b)⟩
def l_holds {α : Type} (a : Nat → Option Nat) (LP : List Nat) (p : Nat → α) (c : Nat) (b : Nat → α) : Prop :=
  ∀ j, j < c → ∃ y, a j = some y ∧ y ∈ LP ∧ p y = b j
theorem l_holds_0 {α : Type} {a : Nat → Option Nat} {LP : List Nat} {p b : Nat → α} : l_holds a LP p 0 b := fun j h => absurd h (Nat.not_lt_zero j)
theorem l_in_new (LP : List Nat) (q : Nat) : q ∈ LP ++ [q] := List.mem_append.mpr (Or.inr (List.mem_singleton.mpr rfl))
def l_sum (b : Nat → Int32) : Nat → Int32
  | 0 => 0
  | k + 1 => l_sum b k + b k
theorem sb_shr0 (x : Int32) : x >>> ((0 : Int32) &&& 31) = x := by
  rw [show ((0 : Int32) &&& 31) = 0 by decide]
  simp
theorem sb_shl0 (x : Int32) : x <<< ((0 : Int32) &&& 31) = x := by
  rw [show ((0 : Int32) &&& 31) = 0 by decide]
  simp
theorem sb_cl0 : (0 : Int32).toNatClampNeg = 0 := by decide
theorem sb_m1 {p : Nat} (h : 0 < p) : nI p + (-1) = nI (p - 1) := by
  obtain ⟨q, rfl⟩ : ∃ q, p = q + 1 := ⟨p - 1, by omega⟩
  exact pk_m1 q
def sb_b (c : Nat) : Int32 := (nI c).toInt8.toInt32
theorem sb_byte : ∀ c, c < 256 → sb_b c &&& 255 = nI c ∧ ((nI c).toUInt32 % 65536).toInt32 = nI c ∧ nI c ≤ 255 := by decide +kernel
def sb_Fit (a : Nat → Int32) : Prop := ∀ j, fits .byte (.int (a j)) = true
def sb_Lat (t : Nat → Nat) (n : Nat) (a : Nat → Int32) : Prop := ∀ j, j < n → t j < 256 ∧ a j = sb_b (t j)
theorem sb_fitB (c : Nat) : fits .byte (.int (sb_b c)) = true := pk_fb _
theorem sb_fit0 : sb_Fit (fun _ => 0) := fun _ => by
  show fits .byte (.int 0) = true
  decide
theorem sb_fitU {a : Nat → Int32} {k : Nat} {x : Int32} (h : sb_Fit a) (hx : fits .byte (.int x) = true) : sb_Fit (upd a k x) := by
  intro j
  by_cases e : j = k
  · subst e
    rw [pk_us]
    exact hx
  · rw [pk_un e]
    exact h j
def sb_cat (t : Nat → Nat) (n : Nat) (s : Nat → Nat) : Nat → Nat := fun j => if j < n then t j else s (j - n)
theorem sb_cat_lo {t s : Nat → Nat} {n j : Nat} (h : j < n) : sb_cat t n s j = t j := if_pos h
theorem sb_cat_hi {t s : Nat → Nat} {n j : Nat} : sb_cat t n s (n + j) = s j := by
  show (if n + j < n then t (n + j) else s (n + j - n)) = s j
  rw [if_neg (by omega), Nat.add_sub_cancel_left]
theorem sb_latPut {t s : Nat → Nat} {n w : Nat} {a a' : Nat → Int32} (h : sb_Lat t n a) (hk : ∀ j, j < n → a' j = a j) (hs : ∀ i, i < w → s i < 256 ∧ a' (n + i) = sb_b (s i)) : sb_Lat (sb_cat t n s) (n + w) a' := by
  intro j hj
  by_cases e : j < n
  · rw [sb_cat_lo e, hk j e]
    exact h j e
  · obtain ⟨i, rfl⟩ : ∃ i, j = n + i := ⟨j - n, by omega⟩
    rw [sb_cat_hi]
    exact hs i (by omega)
theorem sb_latKeep {t : Nat → Nat} {n : Nat} {a a' : Nat → Int32} (h : sb_Lat t n a) (hk : ∀ j, j < n → a' j = a j) : sb_Lat t n a' := fun j hj => by
  rw [hk j hj]
  exact h j hj
def sb_cap (q m : Nat) : Nat := if q ≤ m then m else if 2 * m + 2 < q then q else 2 * m + 2
def sb_Room (q m mc ms : Nat) : Prop := q ≤ m ∨ (1 ≤ mc ∧ sb_cap q m ≤ ms ∧ sb_cap q m ≤ 65536)
theorem sb_cap_ge (q m : Nat) : q ≤ sb_cap q m := by
  unfold sb_cap
  split
  · omega
  · split <;> omega
theorem sb_cap_gem (q m : Nat) : m ≤ sb_cap q m := by
  unfold sb_cap
  split
  · omega
  · split <;> omega
theorem sb_cap_le {q m mc ms : Nat} (hm : m ≤ 65536) (hr : sb_Room q m mc ms) : sb_cap q m ≤ 65536 := by
  rcases hr with h | h
  · rw [sb_cap, if_pos h]
    exact hm
  · exact h.2.2
theorem sb_at {P : Int32 → Prop} {x y : Int32} (e : x = y) (h : P y) : P x := e ▸ h
def sb_dg (w : Nat) : Nat := if w < 10 then 1 else if w < 100 then 2 else if w < 1000 then 3 else if w < 10000 then 4 else if w < 100000 then 5 else if w < 1000000 then 6 else if w < 10000000 then 7 else if w < 100000000 then 8 else if w < 1000000000 then 9 else 10
def sb_dec (v : Nat) : Nat → Nat := fun i => 48 + v / 10 ^ (sb_dg v - 1 - i) % 10
theorem sb_dg_in (w : Nat) : 1 ≤ sb_dg w ∧ sb_dg w ≤ 10 := by
  unfold sb_dg
  constructor <;> (repeat' split) <;> omega
theorem sb_dg100 {w : Nat} (h : 100 ≤ w) (hw : w < 2 ^ 31) : sb_dg w = sb_dg (w / 100) + 2 := by
  rw [sb_dg, sb_dg, if_neg (show ¬ w < 10 by omega), if_neg (show ¬ w < 100 by omega)]
  by_cases h3 : w < 1000
  · rw [if_pos h3, if_pos (show w / 100 < 10 by omega)]
  rw [if_neg h3, if_neg (show ¬ w / 100 < 10 by omega)]
  by_cases h4 : w < 10000
  · rw [if_pos h4, if_pos (show w / 100 < 100 by omega)]
  rw [if_neg h4, if_neg (show ¬ w / 100 < 100 by omega)]
  by_cases h5 : w < 100000
  · rw [if_pos h5, if_pos (show w / 100 < 1000 by omega)]
  rw [if_neg h5, if_neg (show ¬ w / 100 < 1000 by omega)]
  by_cases h6 : w < 1000000
  · rw [if_pos h6, if_pos (show w / 100 < 10000 by omega)]
  rw [if_neg h6, if_neg (show ¬ w / 100 < 10000 by omega)]
  by_cases h7 : w < 10000000
  · rw [if_pos h7, if_pos (show w / 100 < 100000 by omega)]
  rw [if_neg h7, if_neg (show ¬ w / 100 < 100000 by omega)]
  by_cases h8 : w < 100000000
  · rw [if_pos h8, if_pos (show w / 100 < 1000000 by omega)]
  rw [if_neg h8, if_neg (show ¬ w / 100 < 1000000 by omega)]
  by_cases h9 : w < 1000000000
  · rw [if_pos h9, if_pos (show w / 100 < 10000000 by omega)]
  rw [if_neg h9, if_neg (show ¬ w / 100 < 10000000 by omega)]
  rw [if_pos (show w / 100 < 100000000 by omega)]
theorem sb_negT {w : Nat} (h : w < 2 ^ 31) : (-nI w).toInt = -(w : Int) := by
  rw [Int32.toInt_neg, nI_toInt h]
  exact Int.bmod_eq_of_le (by omega) (by omega)
theorem sb_nle {a b : Nat} (ha : a < 2 ^ 31) (hb : b < 2 ^ 31) : -nI a ≤ -nI b ↔ b ≤ a := by
  rw [Int32.le_iff_toInt_le, sb_negT ha, sb_negT hb]
  omega
theorem sb_nlt {a b : Nat} (ha : a < 2 ^ 31) (hb : b < 2 ^ 31) : -nI a < -nI b ↔ b < a := by
  rw [Int32.lt_iff_toInt_lt, sb_negT ha, sb_negT hb]
  omega
theorem sb_cmp {A B : Prop} {x : Int32} (v c : Nat) (f : c ≤ v → A) (g : v < c → B) (hv : v < 2 ^ 31) (hx : x = -nI c := by rfl) (hc : c < 2 ^ 31 := by omega) : (-nI v ≤ x → A) ∧ (¬ -nI v ≤ x → B) := by
  subst hx
  rw [sb_nle hv hc]
  exact ⟨f, fun z => g (by omega)⟩
theorem sb_ndiv {w : Nat} (hw : w < 2 ^ 31) : (-nI w) / 100 = -nI (w / 100) := by
  apply Int32.toInt_inj.mp
  have h100 : (100 : Int32).toInt = 100 := by decide
  rw [Int32.toInt_div, sb_negT hw, h100, sb_negT (by omega), Int.neg_tdiv, Int.tdiv_eq_ediv_of_nonneg (by omega), Int.bmod_eq_of_le (by omega) (by omega)]
  omega
theorem sb_nrem {w : Nat} (hw : w < 2 ^ 31) : (-nI (w / 100)) * 100 - (-nI w) = nI (w % 100) := by
  have h := pk_rem (a := w) (d := 100) hw (by decide) (by decide)
  rw [pk_div hw (by decide) (by decide)] at h
  rw [← h]
  show (-nI (w / 100)) * nI 100 - (-nI w) = nI w - nI (w / 100) * nI 100
  rw [Int32.neg_mul, Int32.sub_neg, Int32.add_comm, ← Int32.sub_eq_add_neg]
end
section
/-! rows on bits, shifts and unsigned numbers, to paste: each family out of a closed proof of our own, whole with what it rests on; each by itself clean at Lean in its own claim (generation 39, form 5). Take a family whole -/
/-! ===== Int32 by its bits: bt x i ===== -/
def bt (x : Int32) (i : Nat) : Bool := x.toBitVec.getLsbD i
theorem b_ext {x y : Int32} (h : ∀ i, i < 32 → bt x i = bt y i) : x = y := Int32.toBitVec_inj.mp (BitVec.eq_of_getLsbD_eq (fun i hi => h i hi))
theorem b_or (x y : Int32) (i : Nat) : bt (x ||| y) i = (bt x i || bt y i) := by unfold bt; rw [Int32.toBitVec_or, BitVec.getLsbD_or]
theorem b_and (x y : Int32) (i : Nat) : bt (x &&& y) i = (bt x i && bt y i) := by unfold bt; rw [Int32.toBitVec_and, BitVec.getLsbD_and]
theorem b_xor (x y : Int32) (i : Nat) : bt (x ^^^ y) i = (bt x i ^^ bt y i) := by unfold bt; rw [Int32.toBitVec_xor, BitVec.getLsbD_xor]
theorem b_big {x : Int32} {i : Nat} (h : 32 ≤ i) : bt x i = false := BitVec.getLsbD_of_ge _ _ h
theorem b_255 (i : Nat) : bt 255 i = decide (i < 8) := by
  rcases Nat.lt_or_ge i 32 with h | h
  · exact (by decide +kernel : ∀ i, i < 32 → bt 255 i = decide (i < 8)) i h
  · rw [b_big h, decide_eq_false (by omega)]
theorem b_65535 (i : Nat) : bt 65535 i = decide (i < 16) := by
  rcases Nat.lt_or_ge i 32 with h | h
  · exact (by decide +kernel : ∀ i, i < 32 → bt 65535 i = decide (i < 16)) i h
  · rw [b_big h, decide_eq_false (by omega)]
theorem b_m1 : ∀ i, i < 32 → bt (-1) i = true := by decide +kernel
theorem b_0 (i : Nat) : bt 0 i = false := BitVec.getLsbD_zero
theorem s_l : ∀ n, n < 32 → ((nI n &&& 31).toBitVec.smod 32).toNat = n := by decide +kernel
theorem s_u : ∀ n, n < 32 → (((nI n).toUInt32 &&& Int32.toUInt32 31).toBitVec % 32).toNat = n := by decide +kernel
theorem b_shl (n : Nat) (hn : n < 32) (x : Int32) {i : Nat} (hi : i < 32) : bt (x <<< (nI n &&& 31)) i = (decide (n ≤ i) && bt x (i - n)) := by
  unfold bt
  rw [Int32.toBitVec_shiftLeft]
  show (x.toBitVec <<< ((nI n &&& 31).toBitVec.smod 32).toNat).getLsbD i = _
  rw [s_l n hn, BitVec.getLsbD_shiftLeft]
  rcases Nat.lt_or_ge i n with h | h
  · simp [h, Nat.not_le.mpr h]
  · simp [hi, h, Nat.not_lt.mpr h]
theorem b_ushr (n : Nat) (hn : n < 32) (x : Int32) (i : Nat) : bt ((x.toUInt32 >>> ((nI n).toUInt32 &&& Int32.toUInt32 31)).toInt32) i = bt x (n + i) := by
  show (x.toUInt32 >>> ((nI n).toUInt32 &&& Int32.toUInt32 31)).toBitVec.getLsbD i = x.toUInt32.toBitVec.getLsbD (n + i)
  rw [UInt32.toBitVec_shiftRight]
  show (x.toUInt32.toBitVec >>> (((nI n).toUInt32 &&& Int32.toUInt32 31).toBitVec % 32).toNat).getLsbD i = _
  rw [s_u n hn, BitVec.getLsbD_ushiftRight]
theorem b_sshr (n : Nat) (hn : n < 32) (x : Int32) {i : Nat} (hi : i < 32) : bt (x >>> (nI n &&& 31)) i = if n + i < 32 then bt x (n + i) else bt x 31 := by
  unfold bt
  rw [Int32.toBitVec_shiftRight]
  show (x.toBitVec.sshiftRight ((nI n &&& 31).toBitVec.smod 32).toNat).getLsbD i = _
  rw [s_l n hn, BitVec.getLsbD_sshiftRight, BitVec.msb_eq_getLsbD_last]
  simp [hi]
theorem b_shl8 (x : Int32) {i : Nat} (hi : i < 32) : bt (x <<< ((8 : Int32) &&& 31)) i = (decide (8 ≤ i) && bt x (i - 8)) := b_shl 8 (by omega) x hi
theorem b_shl16 (x : Int32) {i : Nat} (hi : i < 32) : bt (x <<< ((16 : Int32) &&& 31)) i = (decide (16 ≤ i) && bt x (i - 16)) := b_shl 16 (by omega) x hi
theorem b_shl24 (x : Int32) {i : Nat} (hi : i < 32) : bt (x <<< ((24 : Int32) &&& 31)) i = (decide (24 ≤ i) && bt x (i - 24)) := b_shl 24 (by omega) x hi
theorem b_sshr8 (x : Int32) {i : Nat} (hi : i < 32) : bt (x >>> ((8 : Int32) &&& 31)) i = if 8 + i < 32 then bt x (8 + i) else bt x 31 := b_sshr 8 (by omega) x hi
end
section
/-! the program's ints and the integers -/
def xp_P (px py pz : Nat → Int32) (i : Nat) : hu_V := (1, (px i).toInt, (py i).toInt, (pz i).toInt)
def xp_Q (x y z : Int32) : hu_V := (1, x.toInt, y.toInt, z.toInt)
def xp_B (px py pz : Nat → Int32) : Prop :=
  ∀ i, (-60 ≤ (px i).toInt ∧ (px i).toInt ≤ 60) ∧ (-60 ≤ (py i).toInt ∧ (py i).toInt ≤ 60) ∧ (-60 ≤ (pz i).toInt ∧ (pz i).toInt ≤ 60)
def xp_b (x y z : Int32) : Prop :=
  (-200 ≤ x.toInt ∧ x.toInt ≤ 200) ∧ (-200 ≤ y.toInt ∧ y.toInt ≤ 200) ∧ (-200 ≤ z.toInt ∧ z.toInt ≤ 200)
theorem xp_bB {px py pz : Nat → Int32} (h : xp_B px py pz) (i : Nat) : xp_b (px i) (py i) (pz i) := by
  obtain ⟨h1, h2, h3⟩ := h i
  exact ⟨by omega, by omega, by omega⟩
theorem xp_m {u v U V : Int} (h1 : -U ≤ u ∧ u ≤ U) (h2 : -V ≤ v ∧ v ≤ V) : -(U * V) ≤ u * v ∧ u * v ≤ U * V := by
  have k1 := sg_p0 (show 0 ≤ U - u by omega) (show 0 ≤ V - v by omega)
  have k2 := sg_p0 (show 0 ≤ U + u by omega) (show 0 ≤ V + v by omega)
  have k3 := sg_p0 (show 0 ≤ U - u by omega) (show 0 ≤ V + v by omega)
  have k4 := sg_p0 (show 0 ≤ U + u by omega) (show 0 ≤ V - v by omega)
  have e1 : (U - u) * (V - v) = U * V - U * v - u * V + u * v := by grind
  have e2 : (U + u) * (V + v) = U * V + U * v + u * V + u * v := by grind
  have e3 : (U - u) * (V + v) = U * V + U * v - u * V - u * v := by grind
  have e4 : (U + u) * (V - v) = U * V - U * v + u * V - u * v := by grind
  omega
/-- b - a, c - a, the cross, then the place less a -/
def xp_h (ax ay az bx bY bz cx cy cz x y z : Int) : Int :=
  ((bY - ay) * (cz - az) - (bz - az) * (cy - ay)) * (x - ax) + ((bz - az) * (cx - ax) - (bx - ax) * (cz - az)) * (y - ay)
    + ((bx - ax) * (cy - ay) - (bY - ay) * (cx - ax)) * (z - az)
theorem xp_hd (ax ay az bx bY bz cx cy cz x y z : Int) :
    xp_h ax ay az bx bY bz cx cy cz x y z = hu_d (1, ax, ay, az) (1, bx, bY, bz) (1, cx, cy, cz) (1, x, y, z) := by
  simp only [xp_h, hu_d, hu_l, hu_c, hu_3]; grind
theorem xp_hb {ax ay az bx bY bz cx cy cz x y z : Int} (a1 : -60 ≤ ax ∧ ax ≤ 60) (a2 : -60 ≤ ay ∧ ay ≤ 60) (a3 : -60 ≤ az ∧ az ≤ 60)
    (b1 : -60 ≤ bx ∧ bx ≤ 60) (b2 : -60 ≤ bY ∧ bY ≤ 60) (b3 : -60 ≤ bz ∧ bz ≤ 60) (c1 : -60 ≤ cx ∧ cx ≤ 60) (c2 : -60 ≤ cy ∧ cy ≤ 60) (c3 : -60 ≤ cz ∧ cz ≤ 60)
    (d1 : -200 ≤ x ∧ x ≤ 200) (d2 : -200 ≤ y ∧ y ≤ 200) (d3 : -200 ≤ z ∧ z ≤ 200) :
    -22464000 ≤ xp_h ax ay az bx bY bz cx cy cz x y z ∧ xp_h ax ay az bx bY bz cx cy cz x y z ≤ 22464000 := by
  have m1 := xp_m (u := bY - ay) (v := cz - az) (U := 120) (V := 120) (by omega) (by omega)
  have m2 := xp_m (u := bz - az) (v := cy - ay) (U := 120) (V := 120) (by omega) (by omega)
  have m3 := xp_m (u := bz - az) (v := cx - ax) (U := 120) (V := 120) (by omega) (by omega)
  have m4 := xp_m (u := bx - ax) (v := cz - az) (U := 120) (V := 120) (by omega) (by omega)
  have m5 := xp_m (u := bx - ax) (v := cy - ay) (U := 120) (V := 120) (by omega) (by omega)
  have m6 := xp_m (u := bY - ay) (v := cx - ax) (U := 120) (V := 120) (by omega) (by omega)
  have n1 := xp_m (u := (bY - ay) * (cz - az) - (bz - az) * (cy - ay)) (v := x - ax) (U := 28800) (V := 260) (by omega) (by omega)
  have n2 := xp_m (u := (bz - az) * (cx - ax) - (bx - ax) * (cz - az)) (v := y - ay) (U := 28800) (V := 260) (by omega) (by omega)
  have n3 := xp_m (u := (bx - ax) * (cy - ay) - (bY - ay) * (cx - ax)) (v := z - az) (U := 28800) (V := 260) (by omega) (by omega)
  unfold xp_h
  omega
theorem xp_ti {z : Int} (h : -2147483648 ≤ z ∧ z < 2147483648) : (Int32.ofInt z).toInt = z := Int32.toInt_ofInt_of_le (by omega) (by omega)
theorem xp_he (ax ay az bx bY bz cx cy cz x y z : Int32) :
    ((bY - ay) * (cz - az) - (bz - az) * (cy - ay)) * (x - ax) + ((bz - az) * (cx - ax) - (bx - ax) * (cz - az)) * (y - ay)
      + ((bx - ax) * (cy - ay) - (bY - ay) * (cx - ax)) * (z - az)
    = Int32.ofInt (xp_h ax.toInt ay.toInt az.toInt bx.toInt bY.toInt bz.toInt cx.toInt cy.toInt cz.toInt x.toInt y.toInt z.toInt) := by
  simp only [xp_h, Int32.ofInt_add, Int32.ofInt_sub, Int32.ofInt_mul, Int32.ofInt_toInt]
theorem xp_le0 {r : Int32} : r ≤ 0 ↔ r.toInt ≤ 0 := Int32.le_iff_toInt_le
theorem xp_eq0 {r : Int32} : r = 0 ↔ r.toInt = 0 := Int32.toInt_inj.symm
theorem xp_in {x : Int32} {n : Nat} (h : vp_in x n) (hn : n < 2 ^ 31) : x = nI x.toNatClampNeg ∧ x.toNatClampNeg < n := by
  obtain ⟨j, hj, e⟩ := vp_in_of h hn
  rw [e, nI_clamp (by omega)]
  exact ⟨rfl, hj⟩
theorem xp_b1 : vp_nar .boolean 1 = 1 := rfl
theorem xp_b0 : vp_nar .boolean 0 = 0 := rfl
/-- an array of indices as naturals -/
def xp_O (o : Nat → Int32) (h : Nat) : Nat := (o h).toNatClampNeg
section
variable {f_room f_count f_isSolid f_facetCount f_cornerCount f_edgeCount f_volume : Int32} {a_px a_py a_pz a_alive a_origin a_twin a_sees a_stack a_rimFrom a_rimTo a_rimOuter a_fan a_facetOf a_leader a_planes a_joined : Nat → Int32}
theorem xw_vol {post : Int32 → Prop} {i j k : Nat} (hi : i < 14) (hj : j < 14) (hk : k < 14) (hB : xp_B a_px a_py a_pz) {x y z : Int32} (hb : xp_b x y z)
    (h : ∀ r : Int32, r.toInt = hu_d (xp_P a_px a_py a_pz i) (xp_P a_px a_py a_pz j) (xp_P a_px a_py a_pz k) (xp_Q x y z) → post r) :
    wpX_volumeOf post (f_room, f_count, f_isSolid, f_facetCount, f_cornerCount, f_edgeCount, f_volume, a_px, a_py, a_pz, a_alive, a_origin, a_twin, a_sees, a_stack, a_rimFrom, a_rimTo, a_rimOuter, a_fan, a_facetOf, a_leader, a_planes, a_joined) (nI i) (nI j) (nI k) x y z := by
  have vi := vp_in_nI hi (show 14 < 2 ^ 31 by decide)
  have vj := vp_in_nI hj (show 14 < 2 ^ 31 by decide)
  have vk := vp_in_nI hk (show 14 < 2 ^ 31 by decide)
  unfold wpX_volumeOf
  dsimp only
  rw [nI_clamp (show i < 2 ^ 31 by omega), nI_clamp (show j < 2 ^ 31 by omega), nI_clamp (show k < 2 ^ 31 by omega)]
  refine ⟨vj, vi, nm_e ⟨vj, vi, nm_e ⟨vj, vi, nm_e ⟨vk, vi, nm_e ⟨vk, vi, nm_e ⟨vk, vi, nm_e (nm_e (nm_e (nm_e ⟨vi, vi, vi, h _ ?_⟩)))⟩⟩⟩⟩⟩⟩
  obtain ⟨a1, a2, a3⟩ := hB i
  obtain ⟨b1, b2, b3⟩ := hB j
  obtain ⟨c1, c2, c3⟩ := hB k
  obtain ⟨d1, d2, d3⟩ := hb
  have bd := xp_hb a1 a2 a3 b1 b2 b3 c1 c2 c3 d1 d2 d3
  rw [xp_he, xp_ti (by omega), xp_hd]
  rfl
theorem xw_height {post : Int32 → Prop} {t : Nat} (ht : t < 26) (ho : ∀ k, k < 3 → vp_in (a_origin (3 * t + k)) 14) (hB : xp_B a_px a_py a_pz) {x y z : Int32} (hb : xp_b x y z)
    (h : ∀ r : Int32, r.toInt = hm_t (xp_P a_px a_py a_pz) (xp_O a_origin) t (xp_Q x y z) → post r) :
    wpX_height post (f_room, f_count, f_isSolid, f_facetCount, f_cornerCount, f_edgeCount, f_volume, a_px, a_py, a_pz, a_alive, a_origin, a_twin, a_sees, a_stack, a_rimFrom, a_rimTo, a_rimOuter, a_fan, a_facetOf, a_leader, a_planes, a_joined) (nI t) x y z := by
  have e0 : (3 : Int32) * nI t = nI (3 * t) := pk_mul 3 t
  have e1 : nI (3 * t) + 1 = nI (3 * t + 1) := nI_1 _
  have e2 : nI (3 * t) + 2 = nI (3 * t + 2) := nI_add (3 * t) 2
  obtain ⟨o0, l0⟩ := xp_in (ho 0 (by omega)) (by decide)
  obtain ⟨o1, l1⟩ := xp_in (ho 1 (by omega)) (by decide)
  obtain ⟨o2, l2⟩ := xp_in (ho 2 (by omega)) (by decide)
  unfold wpX_height
  dsimp only
  rw [e0, e1, e2, nI_clamp (show 3 * t < 2 ^ 31 by omega), nI_clamp (show 3 * t + 1 < 2 ^ 31 by omega), nI_clamp (show 3 * t + 2 < 2 ^ 31 by omega)]
  refine ⟨vp_in_nI (by omega) (by decide), vp_in_nI (by omega) (by decide), vp_in_nI (by omega) (by decide), ?_⟩
  rw [Nat.add_zero] at o0
  rw [o0, o1, o2]
  exact xw_vol l0 l1 l2 hB hb h
theorem xw_hop {post : Int32 → Prop} {t p : Nat} (ht : t < 26) (hp : p < 14) (ho : ∀ k, k < 3 → vp_in (a_origin (3 * t + k)) 14) (hB : xp_B a_px a_py a_pz)
    (h : ∀ r : Int32, r.toInt = hm_t (xp_P a_px a_py a_pz) (xp_O a_origin) t (xp_P a_px a_py a_pz p) → post r) :
    wpX_heightOfPoint post (f_room, f_count, f_isSolid, f_facetCount, f_cornerCount, f_edgeCount, f_volume, a_px, a_py, a_pz, a_alive, a_origin, a_twin, a_sees, a_stack, a_rimFrom, a_rimTo, a_rimOuter, a_fan, a_facetOf, a_leader, a_planes, a_joined) (nI t) (nI p) := by
  have vp := vp_in_nI hp (show 14 < 2 ^ 31 by decide)
  unfold wpX_heightOfPoint
  dsimp only
  rw [nI_clamp (show p < 2 ^ 31 by omega)]
  exact ⟨vp, vp, vp, xw_height ht ho hB (xp_bB hB p) h⟩
end
end
section
/-! the flood's invariant -/
/-- R: reached; stk: the stack's depth places; ex u j: half-edge j of u isn't looked at yet -/
def xf_J (V : Nat → Prop) (T : Nat → Nat) (R : Nat → Prop) (stk : Nat → Int32) (depth tot : Nat) (ex : Nat → Nat → Prop) : Prop :=
  (∀ u, u < 26 → R u → V u) ∧
  (∀ i, i < depth → ∃ w, w < 26 ∧ stk i = nI w ∧ R w) ∧
  (hs_n R 26 = tot) ∧
  (∀ u, u < 26 → R u → (∃ i, i < depth ∧ stk i = nI u) ∨ ∀ j, j < 3 → ¬ ex u j → V (T (3 * u + j) / 3) → R (T (3 * u + j) / 3)) ∧
  (hs_n (fun h => R (h / 3) ∧ ¬ R (T h / 3)) 78 ≤ tot + 2)
section
variable {V : Nat → Prop} {T : Nat → Nat} {R : Nat → Prop} {stk : Nat → Int32} {depth tot : Nat}
theorem xf_tot {ex : Nat → Nat → Prop} (J : xf_J V T R stk depth tot ex) : tot ≤ 26 := by
  have h := hs_nle R 26
  rw [J.2.2.1] at h
  omega
theorem xf_pop (J : xf_J V T R stk (depth + 1) tot (fun _ _ => False)) {t : Nat} (ht : t < 26) (e : stk depth = nI t) :
    xf_J V T R stk depth tot (fun u j => u = t ∧ 0 ≤ j) := by
  obtain ⟨j1, j2, j3, j4, j5⟩ := J
  refine ⟨j1, fun i hi => j2 i (by omega), j3, fun u hu r => ?_, j5⟩
  rcases j4 u hu r with ⟨i, hi, ei⟩ | h
  · rcases Nat.lt_or_ge i depth with c | c
    · exact Or.inl ⟨i, c, ei⟩
    · right
      intro j _ nx
      have : i = depth := by omega
      rw [this, e, nI_eq (by omega) (by omega)] at ei
      exact absurd ⟨ei.symm, Nat.zero_le j⟩ nx
  · exact Or.inr fun j hj _ v => h j hj (fun x => x) v
theorem xf_end {t : Nat} (J : xf_J V T R stk depth tot (fun u j => u = t ∧ 3 ≤ j)) : xf_J V T R stk depth tot (fun _ _ => False) := by
  obtain ⟨j1, j2, j3, j4, j5⟩ := J
  refine ⟨j1, j2, j3, fun u hu r => ?_, j5⟩
  rcases j4 u hu r with h | h
  · exact Or.inl h
  · exact Or.inr fun j hj _ v => h j hj (fun x => by omega) v
theorem xf_skip {t k : Nat} (J : xf_J V T R stk depth tot (fun u j => u = t ∧ k ≤ j)) (h : V (T (3 * t + k) / 3) → R (T (3 * t + k) / 3)) :
    xf_J V T R stk depth tot (fun u j => u = t ∧ k + 1 ≤ j) := by
  obtain ⟨j1, j2, j3, j4, j5⟩ := J
  refine ⟨j1, j2, j3, fun u hu r => ?_, j5⟩
  rcases j4 u hu r with h' | h'
  · exact Or.inl h'
  · right
    intro j hj nx v
    rcases Classical.em (u = t ∧ k ≤ j) with c | c
    · obtain ⟨c1, c2⟩ := c
      have : j = k := by
        rcases Nat.lt_or_ge k j with c3 | c3
        · exact absurd ⟨c1, c3⟩ nx
        · omega
      rw [c1, this] at v ⊢
      exact h v
    · exact h' j hj c v
/-- one more triangle has at most one more half-edge on the rim -/
theorem xf_rim {R R' : Nat → Prop} {u h0 : Nat} (hu : u < 26) (h78 : h0 < 78) (r0 : R (h0 / 3)) (nu : ¬ R u) (e : T h0 / 3 = u) (tl : T h0 < 78) (tt : T (T h0) = h0)
    (hR : ∀ i, i < 26 → (R' i ↔ R i ∨ i = u)) (tk : ∀ h, h < 78 → R' (h / 3) → T h / 3 < 26) :
    hs_n (fun h => R' (h / 3) ∧ ¬ R' (T h / 3)) 78 ≤ hs_n (fun h => R (h / 3) ∧ ¬ R (T h / 3)) 78 + 1 := by
  have k1 := hs_one (f := fun h => hs_i (h = h0)) h78 (fun i _ hi => hs_if hi)
  have k2 := hs_one (f := fun h => hs_i (h = hn_n (T h0))) (hn_lt tl) (fun i _ hi => hs_if hi)
  have k3 := hs_one (f := fun h => hs_i (h = hn_n (hn_n (T h0)))) (hn_lt (hn_lt tl)) (fun i _ hi => hs_if hi)
  rw [hs_it rfl] at k1 k2 k3
  have key : hs_n (fun h => R' (h / 3) ∧ ¬ R' (T h / 3)) 78 ≤
      hs_s (fun h => hs_i (R (h / 3) ∧ ¬ R (T h / 3)) - hs_i (h = h0) + (hs_i (h = hn_n (T h0)) + hs_i (h = hn_n (hn_n (T h0))))) 78 := by
    refine hs_le fun h hh => ?_
    show hs_i (R' (h / 3) ∧ ¬ R' (T h / 3)) ≤ _
    have q1 := hs_i0 (h = hn_n (T h0))
    have q2 := hs_i0 (h = hn_n (hn_n (T h0)))
    have q3 := hs_i0 (R (h / 3) ∧ ¬ R (T h / 3))
    have lh : h / 3 < 26 := by omega
    rcases Nat.decEq h h0 with c | c
    · rw [hs_if (p := h = h0) c]
      rcases Classical.em (R' (h / 3) ∧ ¬ R' (T h / 3)) with d | d
      · rw [hs_it d]
        rcases (hR _ lh).mp d.1 with r | r
        · have tl' := tk h hh d.1
          have nr : ¬ R (T h / 3) := fun x => d.2 ((hR _ tl').mpr (Or.inl x))
          rw [hs_it (p := R (h / 3) ∧ ¬ R (T h / 3)) ⟨r, nr⟩]
          omega
        · -- a half-edge of u
          have c3 : h = T h0 ∨ h = hn_n (T h0) ∨ h = hn_n (hn_n (T h0)) := by
            obtain ⟨t, et, ct⟩ := hn_c (T h0)
            have : h = 3 * t ∨ h = 3 * t + 1 ∨ h = 3 * t + 2 := by omega
            rcases ct with ct | ct | ct
            · rw [ct, hn_0, hn_1]; omega
            · rw [ct, hn_1, hn_2]; omega
            · rw [ct, hn_2, hn_0]; omega
          rcases c3 with c3 | c3 | c3
          · exfalso
            refine d.2 ((hR _ (tk h hh d.1)).mpr (Or.inl ?_))
            rw [c3, tt]; exact r0
          · rw [hs_it (p := h = hn_n (T h0)) c3]; omega
          · rw [hs_it (p := h = hn_n (hn_n (T h0))) c3]; omega
      · rw [hs_if d]; omega
    · rw [hs_it (p := h = h0) c, hs_if (p := R' (h / 3) ∧ ¬ R' (T h / 3)) (fun d => d.2 (by rw [c, e]; exact (hR u hu).mpr (Or.inr rfl))),
        hs_it (p := R (h / 3) ∧ ¬ R (T h / 3)) ⟨by rw [c]; exact r0, by rw [c, e]; exact nu⟩]
      omega
  rw [hs_add, hs_sub, hs_add, k1, k2, k3] at key
  have e2 : hs_s (fun h => hs_i (R (h / 3) ∧ ¬ R (T h / 3))) 78 = hs_n (fun h => R (h / 3) ∧ ¬ R (T h / 3)) 78 := rfl
  omega
theorem xf_push {R' : Nat → Prop} {t k u : Nat} (J : xf_J V T R stk depth tot (fun u j => u = t ∧ k ≤ j)) (ht : t < 26) (hk : k < 3) (rt : R t)
    (eu : T (3 * t + k) / 3 = u) (hu : u < 26) (tl : T (3 * t + k) < 78) (tt : T (T (3 * t + k)) = 3 * t + k) (nu : ¬ R u) (vu : V u)
    (hR : ∀ i, i < 26 → (R' i ↔ R i ∨ i = u)) (tk : ∀ h, h < 78 → R' (h / 3) → T h / 3 < 26) :
    xf_J V T R' (upd stk depth (nI u)) (depth + 1) (tot + 1) (fun u j => u = t ∧ k + 1 ≤ j) := by
  obtain ⟨j1, j2, j3, j4, j5⟩ := J
  refine ⟨fun w hw r => ?_, fun i hi => ?_, ?_, fun w hw r => ?_, ?_⟩
  · rcases (hR w hw).mp r with r | r
    · exact j1 w hw r
    · rw [r]; exact vu
  · rcases Nat.lt_or_ge i depth with c | c
    · obtain ⟨w, a, b, d⟩ := j2 i c
      exact ⟨w, a, by rw [pk_un (by omega)]; exact b, (hR w a).mpr (Or.inl d)⟩
    · exact ⟨u, hu, by rw [show i = depth by omega]; exact pk_us, (hR u hu).mpr (Or.inr rfl)⟩
  · rw [hs_nput hu nu hR, j3]; rfl
  · rcases (hR w hw).mp r with r | r
    · rcases j4 w hw r with ⟨i, hi, ei⟩ | h
      · exact Or.inl ⟨i, by omega, by rw [pk_un (by omega)]; exact ei⟩
      · right
        intro j hj nx v
        have lt := tk (3 * w + j) (by omega) (by rw [show (3 * w + j) / 3 = w by omega]; exact (hR w hw).mpr (Or.inl r))
        refine (hR _ lt).mpr ?_
        rcases Classical.em (w = t ∧ k ≤ j) with c | c
        · obtain ⟨c1, c2⟩ := c
          have : j = k := by
            rcases Nat.lt_or_ge k j with c3 | c3
            · exact absurd ⟨c1, c3⟩ nx
            · omega
          right
          rw [c1, this]; exact eu
        · exact Or.inl (h j hj c v)
    · exact Or.inl ⟨depth, by omega, by rw [r]; exact pk_us⟩
  · have := xf_rim (T := T) (R := R) (R' := R') hu (show 3 * t + k < 78 by omega) (by rw [show (3 * t + k) / 3 = t by omega]; exact rt) nu eu tl tt hR tk
    omega
theorem xf_start {s : Nat} (hs : s < 26) (vs : V s) (hR : ∀ i, i < 26 → (R i ↔ i = s)) (e : stk 0 = nI s) : xf_J V T R stk 1 1 (fun _ _ => False) := by
  have cnt : hs_n R 26 = 1 := by
    have h := hs_nput (Q := fun _ => False) (R := R) (n := 26) hs (fun x => x) (fun i hi => by rw [hR i hi]; exact ⟨Or.inr, fun x => x.resolve_left fun y => y⟩)
    have z : hs_n (fun _ => False) 26 = 0 := hs_0 fun i _ => hs_if fun x => x
    omega
  refine ⟨fun u hu r => ?_, fun i hi => ?_, cnt, fun u hu r => ?_, ?_⟩
  · rw [(hR u hu).mp r]; exact vs
  · exact ⟨s, hs, by rw [show i = 0 by omega]; exact e, (hR s hs).mpr rfl⟩
  · exact Or.inl ⟨0, by omega, by rw [(hR u hu).mp r]; exact e⟩
  · -- three half-edges
    have k : hs_n (fun h => R (h / 3) ∧ ¬ R (T h / 3)) 78 ≤ hs_s (fun h => hs_i (R (h / 3))) 78 := by
      refine hs_le fun h _ => ?_
      show hs_i (R (h / 3) ∧ ¬ R (T h / 3)) ≤ _
      rcases Classical.em (R (h / 3)) with c | c
      · rw [hs_it c]; exact hs_i1 _
      · rw [hs_if (p := R (h / 3) ∧ ¬ R (T h / 3)) (fun x => c x.1)]; exact hs_i0 _
    have e3 : hs_s (fun h => hs_i (R (h / 3))) 78 = hs_s (fun t => 3 * hs_i (R t)) 26 := by
      rw [show (78 : Nat) = 3 * 26 from rfl, hs_3]
      refine hs_cg fun t _ => ?_
      rw [show 3 * t / 3 = t by omega, show (3 * t + 1) / 3 = t by omega, show (3 * t + 2) / 3 = t by omega]
      omega
    rw [hs_mul] at e3
    have e4 : hs_s (fun t => hs_i (R t)) 26 = 1 := cnt
    omega
end
section
variable {P : Nat → hu_V} {S : Nat → Prop} {O T : Nat → Nat} {A : Nat → Prop}
/-- what is seen has a rim -/
theorem xf_rx (M : hm_M P S O T A) {p : hu_V} (hp : p.1 = 1) {t0 : Nat} (ht0 : t0 < 26) (a0 : A t0) (v0 : 0 < hm_t P O t0 p) : ∃ h, hr_R P O T A p h := by
  refine Classical.byContradiction fun k => ?_
  have s1 := hx_st (O := O) (T := T) (G := fun t => t < 26 ∧ A t ∧ 0 < hm_t P O t p) (fun h hh g _ => by
      obtain ⟨x1, _, x3, x4, x5⟩ := hm_T M hh g.2.1
      exact ⟨x1, x3, x4, x5⟩) (f := fun i j => - hu_d (P i) (P j) p (hm_x P O t0))
    (fun i j => by show -hu_d (P j) (P i) _ _ = - -hu_d (P i) (P j) _ _; rw [hu_d12 (P i) (P j)])
  have e2 : hs_s (fun h => hs_i ((h / 3 < 26 ∧ A (h / 3) ∧ 0 < hm_t P O (h / 3) p) ∧ ¬ (T h / 3 < 26 ∧ A (T h / 3) ∧ 0 < hm_t P O (T h / 3) p)) * - hu_d (P (O h)) (P (O (hn_n h))) p (hm_x P O t0)) 78 = 0 := by
    refine hs_0 fun h hh => ?_
    rw [hs_if, Int.zero_mul]
    intro c
    obtain ⟨⟨c1, c2, c3⟩, c4⟩ := c
    obtain ⟨m1, m2, _⟩ := hm_T M hh c2
    exact k ⟨h, hh, c2, c3, Int.not_lt.mp fun x => c4 ⟨by omega, m2, x⟩⟩
  rw [e2] at s1
  have p1 : 0 < hs_s (fun t => hs_i (t < 26 ∧ A t ∧ 0 < hm_t P O t p) * (-hu_d (P (O (3 * t))) (P (O (3 * t + 1))) p (hm_x P O t0) + -hu_d (P (O (3 * t + 1))) (P (O (3 * t + 2))) p (hm_x P O t0)
      + -hu_d (P (O (3 * t + 2))) (P (O (3 * t))) p (hm_x P O t0))) 26 := by
    have val : ∀ t, (t < 26 ∧ A t ∧ 0 < hm_t P O t p) → 0 < -hu_d (P (O (3 * t))) (P (O (3 * t + 1))) p (hm_x P O t0) + -hu_d (P (O (3 * t + 1))) (P (O (3 * t + 2))) p (hm_x P O t0)
      + -hu_d (P (O (3 * t + 2))) (P (O (3 * t))) p (hm_x P O t0) := by
      intro t ⟨ht, a, v⟩
      rw [hu_ds (hm_w M _) (hm_w M _) (hm_w M _) hp, hm_x1 M]
      have h1 := hm_xnp M ht0 ht a0 a
      unfold hm_t at v h1
      omega
    refine Int.lt_of_lt_of_le ?_ (hs_ge (k := t0) ?_ ht0)
    · show 0 < hs_i (t0 < 26 ∧ A t0 ∧ 0 < hm_t P O t0 p) * _
      rw [hs_it ⟨ht0, a0, v0⟩, Int.one_mul]; exact val t0 ⟨ht0, a0, v0⟩
    · intro t ht
      rcases Classical.em (t < 26 ∧ A t ∧ 0 < hm_t P O t p) with c | c
      · rw [hs_it c, Int.one_mul]; exact Int.le_of_lt (val t c)
      · rw [hs_if c]; omega
  have s1' : hs_s (fun t => hs_i (t < 26 ∧ A t ∧ 0 < hm_t P O t p) * (-hu_d (P (O (3 * t))) (P (O (3 * t + 1))) p (hm_x P O t0) + -hu_d (P (O (3 * t + 1))) (P (O (3 * t + 2))) p (hm_x P O t0)
      + -hu_d (P (O (3 * t + 2))) (P (O (3 * t))) p (hm_x P O t0))) 26 = 0 := s1
  omega
/-- turning on from g until the neighbour isn't in R -/
noncomputable def xr_n (T : Nat → Nat) (R : Nat → Prop) : Nat → Nat → Nat
  | 0, g => g
  | f + 1, g => @ite Nat (R (T g / 3)) (Classical.propDecidable _) (xr_n T R f (hn_n (T g))) g
theorem xr_st {R : Nat → Prop} {f g : Nat} (h : ¬ R (T g / 3)) : xr_n T R (f + 1) g = g := by unfold xr_n; exact if_neg h
theorem xr_go {R : Nat → Prop} {f g : Nat} (h : R (T g / 3)) : xr_n T R (f + 1) g = xr_n T R f (hn_n (T g)) := by
  rw [xr_n]
  exact if_pos h
/-- where it stops: the k-th -/
theorem xr_k {R : Nat → Prop} : ∀ (f g : Nat), (∃ k, k < f ∧ ¬ R (T (hi_t (fun h => hn_n (T h)) k g) / 3)) →
    ∃ k, k < f ∧ xr_n T R f g = hi_t (fun h => hn_n (T h)) k g ∧ ¬ R (T (hi_t (fun h => hn_n (T h)) k g) / 3) ∧ ∀ j, j < k → R (T (hi_t (fun h => hn_n (T h)) j g) / 3)
  | 0, _, h => by obtain ⟨k, hk, _⟩ := h; omega
  | f + 1, g, h => by
    rcases Classical.em (R (T g / 3)) with c | c
    · obtain ⟨k, hk, nk⟩ := h
      have k0 : 0 < k := by
        rcases Nat.eq_zero_or_pos k with e | e
        · rw [e] at nk; exact absurd c nk
        · exact e
      have sh : ∀ j, hi_t (fun h => hn_n (T h)) (1 + j) g = hi_t (fun h => hn_n (T h)) j (hn_n (T g)) := fun j => hi_add _ 1 j g
      obtain ⟨k', hk', e1, e2, e3⟩ := xr_k f (hn_n (T g)) ⟨k - 1, by omega, by rw [← sh, show 1 + (k - 1) = k by omega]; exact nk⟩
      refine ⟨1 + k', by omega, ?_, ?_, ?_⟩
      · rw [xr_go c, e1, sh]
      · rw [sh]; exact e2
      · intro j hj
        rcases Nat.eq_zero_or_pos j with e | e
        · rw [e]; exact c
        · rw [show j = 1 + (j - 1) by omega, sh]; exact e3 _ (by omega)
    · exact ⟨0, by omega, xr_st c, c, fun j hj => by omega⟩
end
end
section
section
variable {P : Nat → hu_V} {S : Nat → Prop} {O T : Nat → Nat} {A R : Nat → Prop} {p : hu_V}
/-- a triangle's corners are three -/
theorem xr_ne (M : hm_M P S O T A) {h k : Nat} (hh : h < 78) (a : A (h / 3)) (e : h / 3 = k / 3) (eo : O h = O k) : h = k := by
  obtain ⟨y, _, ny⟩ := hm_ng M (show h / 3 < 26 by omega) a
  obtain ⟨t, e1, c1⟩ := hn_c h
  have c2 : k = 3 * t ∨ k = 3 * t + 1 ∨ k = 3 * t + 2 := by omega
  rw [e1] at ny
  unfold hm_t at ny
  rcases c1 with c1 | c1 | c1 <;> rcases c2 with c2 | c2 | c2 <;> first | (exact c1.trans c2.symm) | skip
  all_goals
    exfalso
    subst c1; subst c2
    rw [eo] at ny
    first
      | (rw [hu_z12] at ny; omega)
      | (rw [hu_z13] at ny; omega)
      | (rw [hu_z23] at ny; omega)
theorem xr_q (M : hm_M P S O T A) : ∀ h, (h < 78 ∧ A (h / 3)) → (hn_n (T h) < 78 ∧ A (hn_n (T h) / 3)) := by
  intro h ⟨hh, a⟩
  obtain ⟨m1, m2, _⟩ := hm_T M hh a
  exact ⟨hn_lt m1, by rw [hn_d]; exact m2⟩
theorem xr_qi (M : hm_M P S O T A) : ∀ i j, (i < 78 ∧ A (i / 3)) → (j < 78 ∧ A (j / 3)) → hn_n (T i) = hn_n (T j) → i = j := by
  intro i j ⟨hi, ai⟩ ⟨hj, aj⟩ e
  obtain ⟨_, _, m3, _⟩ := hm_T M hi ai
  obtain ⟨_, _, m3', _⟩ := hm_T M hj aj
  rw [← m3, hn_inj e, m3']
/-- while it turns it stays at the corner and in R -/
theorem xr_at (M : hm_M P S O T A) (hR : ∀ t, t < 26 → (R t ↔ (A t ∧ 0 < hm_t P O t p))) {g : Nat} (hg : g < 78) (rg : R (g / 3)) :
    ∀ i, (∀ j, j < i → R (T (hi_t (fun h => hn_n (T h)) j g) / 3)) →
      hi_t (fun h => hn_n (T h)) i g < 78 ∧ R (hi_t (fun h => hn_n (T h)) i g / 3) ∧ O (hi_t (fun h => hn_n (T h)) i g) = O g := by
  intro i
  induction i with
  | zero => intro _; exact ⟨hg, rg, rfl⟩
  | succ i ih =>
    intro h
    obtain ⟨i1, i2, i3⟩ := ih (fun j hj => h j (by omega))
    obtain ⟨m1, _, _, _, m5⟩ := hm_T M i1 ((hR _ (by omega)).mp i2).1
    have := h i (by omega)
    refine ⟨hn_lt m1, ?_, ?_⟩
    · show R (hn_n (T (hi_t (fun h => hn_n (T h)) i g)) / 3)
      rw [hn_d]; exact this
    · show O (hn_n (T (hi_t (fun h => hn_n (T h)) i g))) = O g
      rw [m5, i3]
/-- a half-edge whose turn began at the rim doesn't come back to it -/
theorem xr_nb (M : hm_M P S O T A) (hR : ∀ t, t < 26 → (R t ↔ (A t ∧ 0 < hm_t P O t p))) {h h' : Nat} (r : hr_R P O T A p h) (r' : hr_R P O T A p h') {i : Nat} (i0 : 0 < i)
    (st : ∀ j, j < i → R (T (hi_t (fun h => hn_n (T h)) j (hn_n h')) / 3)) : hn_n h ≠ hi_t (fun h => hn_n (T h)) i (hn_n h') := by
  intro e
  obtain ⟨hh, a, v, nv⟩ := r
  obtain ⟨hh', a', v', nv'⟩ := r'
  obtain ⟨k, ek⟩ : ∃ k, i = k + 1 := ⟨i - 1, by omega⟩
  subst ek
  have e' : hn_n h = hn_n (T (hi_t (fun h => hn_n (T h)) k (hn_n h'))) := e
  have e2 := hn_inj e'
  obtain ⟨q1, q2, _⟩ := xr_at M hR (hn_lt hh') (by rw [hn_d]; exact (hR _ (by omega)).mpr ⟨a', v'⟩) k (fun j hj => st j (by omega))
  obtain ⟨m1, m2, m3, _⟩ := hm_T M q1 ((hR _ (by omega)).mp q2).1
  rw [e2, m3] at nv
  have := ((hR _ (by omega)).mp q2).2
  omega
theorem xr_stop (M : hm_M P S O T A) (hR : ∀ t, t < 26 → (R t ↔ (A t ∧ 0 < hm_t P O t p))) (cnt : hs_n R 26 < 26) {h : Nat} (r : hr_R P O T A p h) :
    ∃ k, k < 26 ∧ ¬ R (T (hi_t (fun h => hn_n (T h)) k (hn_n h)) / 3) := by
  refine Classical.byContradiction fun no => ?_
  have r' := r
  obtain ⟨hh, a, v, nv⟩ := r
  have all : ∀ k, k < 26 → R (T (hi_t (fun h => hn_n (T h)) k (hn_n h)) / 3) := fun k hk => Classical.byContradiction fun c => no ⟨k, hk, c⟩
  have at' := fun i (hi : i < 26) => xr_at M hR (hn_lt hh) (by rw [hn_d]; exact (hR _ (by omega)).mpr ⟨a, v⟩) i (fun j hj => all j (by omega))
  have key := hs_ninj (Q := R) (n := 26) (k := 26) (f := fun i => hi_t (fun h => hn_n (T h)) i (hn_n h) / 3) (fun i hi => by
      obtain ⟨x1, x2, _⟩ := at' i hi
      exact ⟨by omega, x2⟩) (by
      have lem : ∀ i j, i < j → j < 26 → hi_t (fun h => hn_n (T h)) i (hn_n h) / 3 = hi_t (fun h => hn_n (T h)) j (hn_n h) / 3 → False := by
        intro i j hij hj e
        obtain ⟨x1, x2, x3⟩ := at' i (by omega)
        obtain ⟨y1, y2, y3⟩ := at' j hj
        have e2 := xr_ne M x1 ((hR _ (by omega)).mp x2).1 e (x3.trans y3.symm)
        have e3 : hi_t (fun h => hn_n (T h)) j (hn_n h) = hi_t (fun h => hn_n (T h)) i (hi_t (fun h => hn_n (T h)) (j - i) (hn_n h)) := by
          rw [← hi_add, show j - i + i = j by omega]
        rw [e3] at e2
        have q0 : hn_n h < 78 ∧ A (hn_n h / 3) := ⟨hn_lt hh, by rw [hn_d]; exact a⟩
        have e4 := hi_inj (xr_q M) (xr_qi M) i _ _ q0 (hi_q (xr_q M) q0 (j - i)) e2
        exact xr_nb M hR r' r' (show 0 < j - i by omega) (fun k hk => all k (by omega)) e4
      intro i j hi hj e
      rcases Nat.lt_trichotomy i j with c | c | c
      · exact (lem i j c hj e).elim
      · exact c
      · exact (lem j i c hi e.symm).elim)
  omega
/-- the next one on the rim -/
theorem xr_nu (M : hm_M P S O T A) (hR : ∀ t, t < 26 → (R t ↔ (A t ∧ 0 < hm_t P O t p))) (cnt : hs_n R 26 < 26) {h : Nat} (r : hr_R P O T A p h) :
    hr_R P O T A p (xr_n T R 26 (hn_n h)) ∧ O (xr_n T R 26 (hn_n h)) = O (hn_n h) := by
  obtain ⟨k, hk, e, nr, st⟩ := xr_k 26 (hn_n h) (xr_stop M hR cnt r)
  obtain ⟨hh, a, v, nv⟩ := r
  obtain ⟨x1, x2, x3⟩ := xr_at M hR (hn_lt hh) (by rw [hn_d]; exact (hR _ (by omega)).mpr ⟨a, v⟩) k st
  rw [e]
  have x4 := (hR _ (by omega)).mp x2
  obtain ⟨m1, m2, _⟩ := hm_T M x1 x4.1
  exact ⟨⟨x1, x4.1, x4.2, Int.not_lt.mp fun c => nr ((hR _ (by omega)).mpr ⟨m2, c⟩)⟩, x3⟩
theorem xr_inj (M : hm_M P S O T A) (hR : ∀ t, t < 26 → (R t ↔ (A t ∧ 0 < hm_t P O t p))) (cnt : hs_n R 26 < 26) {h h' : Nat} (r : hr_R P O T A p h) (r' : hr_R P O T A p h')
    (e : xr_n T R 26 (hn_n h) = xr_n T R 26 (hn_n h')) : h = h' := by
  obtain ⟨k, hk, e1, _, st⟩ := xr_k 26 (hn_n h) (xr_stop M hR cnt r)
  obtain ⟨k', hk', e2, _, st'⟩ := xr_k 26 (hn_n h') (xr_stop M hR cnt r')
  rw [e1, e2] at e
  have q0 : hn_n h < 78 ∧ A (hn_n h / 3) := ⟨hn_lt r.1, by rw [hn_d]; exact r.2.1⟩
  have q0' : hn_n h' < 78 ∧ A (hn_n h' / 3) := ⟨hn_lt r'.1, by rw [hn_d]; exact r'.2.1⟩
  rcases Nat.lt_trichotomy k k' with c | c | c
  · exfalso
    have e3 : hi_t (fun h => hn_n (T h)) k' (hn_n h') = hi_t (fun h => hn_n (T h)) k (hi_t (fun h => hn_n (T h)) (k' - k) (hn_n h')) := by
      rw [← hi_add, show k' - k + k = k' by omega]
    rw [e3] at e
    exact xr_nb M hR r r' (show 0 < k' - k by omega) (fun j hj => st' j (by omega)) (hi_inj (xr_q M) (xr_qi M) k _ _ q0 (hi_q (xr_q M) q0' _) e)
  · rw [c] at e
    exact hn_inj (hi_inj (xr_q M) (xr_qi M) k' _ _ q0 q0' e)
  · exfalso
    have e3 : hi_t (fun h => hn_n (T h)) k (hn_n h) = hi_t (fun h => hn_n (T h)) k' (hi_t (fun h => hn_n (T h)) (k - k') (hn_n h)) := by
      rw [← hi_add, show k - k' + k' = k by omega]
    rw [e3] at e
    exact xr_nb M hR r' r (show 0 < k - k' by omega) (fun j hj => st j (by omega)) (hi_inj (xr_q M) (xr_qi M) k' _ _ q0' (hi_q (xr_q M) q0 _) e.symm)
/-- the closed walk -/
theorem xr_cyc (M : hm_M P S O T A) (hR : ∀ t, t < 26 → (R t ↔ (A t ∧ 0 < hm_t P O t p))) (cnt : hs_n R 26 < 26) {h0 : Nat} (r0 : hr_R P O T A p h0) :
    ∃ n : Nat, 0 < n ∧ (n : Int) ≤ hs_n (fun h => R (h / 3) ∧ ¬ R (T h / 3)) 78 ∧ hi_t (fun h => xr_n T R 26 (hn_n h)) n h0 = h0 ∧
      (∀ i, 0 < i → i < n → hi_t (fun h => xr_n T R 26 (hn_n h)) i h0 ≠ h0) ∧
      (∀ i j, i < n → j < n → hi_t (fun h => xr_n T R 26 (hn_n h)) i h0 = hi_t (fun h => xr_n T R 26 (hn_n h)) j h0 → i = j) ∧
      ∀ i, hr_R P O T A p (hi_t (fun h => xr_n T R 26 (hn_n h)) i h0) := by
  have cl : ∀ h, hr_R P O T A p h → hr_R P O T A p (xr_n T R 26 (hn_n h)) := fun h r => (xr_nu M hR cnt r).1
  have inj : ∀ i j, hr_R P O T A p i → hr_R P O T A p j → xr_n T R 26 (hn_n i) = xr_n T R 26 (hn_n j) → i = j := fun i j a b e => xr_inj M hR cnt a b e
  have all := hi_q (f := fun h => xr_n T R 26 (hn_n h)) cl r0
  obtain ⟨n1, n10, _, n1e⟩ := hi_ret (f := fun h => xr_n T R 26 (hn_n h)) (N := 78) cl (fun i r => r.1) inj r0
  obtain ⟨n, ⟨n0, ne⟩, mn⟩ := pk_least (fun k => 0 < k ∧ hi_t (fun h => xr_n T R 26 (hn_n h)) k h0 = h0) ⟨n1, n10, n1e⟩
  have dist : ∀ i j, i < n → j < n → hi_t (fun h => xr_n T R 26 (hn_n h)) i h0 = hi_t (fun h => xr_n T R 26 (hn_n h)) j h0 → i = j := by
    have lem : ∀ i j, i < j → j < n → hi_t (fun h => xr_n T R 26 (hn_n h)) i h0 = hi_t (fun h => xr_n T R 26 (hn_n h)) j h0 → False := by
      intro i j hij hj e
      have e3 : hi_t (fun h => xr_n T R 26 (hn_n h)) j h0 = hi_t (fun h => xr_n T R 26 (hn_n h)) i (hi_t (fun h => xr_n T R 26 (hn_n h)) (j - i) h0) := by
        rw [← hi_add, show j - i + i = j by omega]
      rw [e3] at e
      have := hi_inj (f := fun h => xr_n T R 26 (hn_n h)) cl inj i _ _ r0 (all (j - i)) e
      exact mn (j - i) (by omega) ⟨by omega, this.symm⟩
    intro i j hi hj e
    rcases Nat.lt_trichotomy i j with c | c | c
    · exact (lem i j c hj e).elim
    · exact c
    · exact (lem j i c hi e.symm).elim
  refine ⟨n, n0, ?_, ne, fun i i0 hi e => mn i hi ⟨i0, e⟩, dist, all⟩
  refine hs_ninj (f := fun i => hi_t (fun h => xr_n T R 26 (hn_n h)) i h0) (fun i _ => ?_) dist
  obtain ⟨x1, x2, x3, x4⟩ := all i
  refine ⟨x1, (hR _ (by omega)).mpr ⟨x2, x3⟩, fun c => ?_⟩
  obtain ⟨m1, _⟩ := hm_T M x1 x2
  have := ((hR _ (by omega)).mp c).2
  omega
end
end
section
/-! the component's mesh in its arrays -/
def xm_V (alive origin twin : Nat → Int32) : Prop := ∀ h, h < 78 → ¬ alive (h / 3) = 0 → vp_in (origin h) 14 ∧ vp_in (twin h) 78
def xm_M (px py pz alive origin twin : Nat → Int32) (S : Nat → Prop) : Prop :=
  hm_M (xp_P px py pz) S (xp_O origin) (xp_O twin) (fun t => ¬ alive t = 0) ∧ xm_V alive origin twin ∧ xp_B px py pz ∧ ∀ x, S x → x < 14
def xm_vis (px py pz alive origin : Nat → Int32) (p t : Nat) : Prop :=
  ¬ alive t = 0 ∧ 0 < hm_t (xp_P px py pz) (xp_O origin) t (xp_P px py pz p)
section
variable {f_room f_count f_isSolid f_facetCount f_cornerCount f_edgeCount f_volume : Int32} {a_px a_py a_pz a_alive a_origin a_twin a_sees a_stack a_rimFrom a_rimTo a_rimOuter a_fan a_facetOf a_leader a_planes a_joined : Nat → Int32}
variable {S : Nat → Prop}
theorem xm_o (M : xm_M a_px a_py a_pz a_alive a_origin a_twin S) {t : Nat} (ht : t < 26) (a : ¬ a_alive t = 0) : ∀ k, k < 3 → vp_in (a_origin (3 * t + k)) 14 :=
  fun k hk => (M.2.1 (3 * t + k) (by omega) (by rw [show (3 * t + k) / 3 = t by omega]; exact a)).1
theorem xm_t (M : xm_M a_px a_py a_pz a_alive a_origin a_twin S) {h : Nat} (hh : h < 78) (a : ¬ a_alive (h / 3) = 0) :
    a_twin h = nI (xp_O a_twin h) ∧ xp_O a_twin h < 78 := xp_in (M.2.1 h hh a).2 (by decide)
theorem xm_or (M : xm_M a_px a_py a_pz a_alive a_origin a_twin S) {h : Nat} (hh : h < 78) (a : ¬ a_alive (h / 3) = 0) :
    a_origin h = nI (xp_O a_origin h) ∧ xp_O a_origin h < 14 := xp_in (M.2.1 h hh a).1 (by decide)
theorem xw_fl44 {post : SX → Prop} {J19 : Int32 → Int32 → (Nat → Int32) → (Nat → Int32) → (Nat → Int32) → (Nat → Int32) → (Nat → Int32) → (Nat → Int32) → (Nat → Int32) → (Nat → Int32) → (Nat → Int32) → (Nat → Int32) → (Nat → Int32) → (Nat → Int32) → (Nat → Int32) → (Nat → Int32) → (Nat → Int32) → (Nat → Int32) → Prop}
    (M : xm_M a_px a_py a_pz a_alive a_origin a_twin S) {p t step sd : Nat} (hp : p < 14) (ht : t < 26) (hst : step < 26)
    (hJ : ∀ sees stack depth, xf_J (xm_vis a_px a_py a_pz a_alive a_origin p) (xp_O a_twin) (fun u => ¬ sees u = 0) stack depth (step + 1 + depth) (fun _ _ => False) → ¬ sees sd = 0 →
      J19 (nI depth) (nI (step + 1)) a_px a_py a_pz a_alive a_origin a_twin sees stack a_rimFrom a_rimTo a_rimOuter a_fan a_facetOf a_leader a_planes a_joined) :
    ∀ e k n sees stack depth, k + e = 3 → e < n →
      xf_J (xm_vis a_px a_py a_pz a_alive a_origin p) (xp_O a_twin) (fun u => ¬ sees u = 0) stack depth (step + 1 + depth) (fun u j => u = t ∧ k ≤ j) → ¬ sees t = 0 → ¬ sees sd = 0 →
      wX_floodVisible_44 post J19 (nI p) (nI step) (nI t) f_room f_count f_isSolid f_facetCount f_cornerCount f_edgeCount f_volume n (nI depth) (nI k) a_px a_py a_pz a_alive a_origin a_twin sees stack a_rimFrom a_rimTo a_rimOuter a_fan a_facetOf a_leader a_planes a_joined := by
  intro e
  induction e with
  | zero =>
    intro k n sees stack depth hk hn J rt rs
    obtain ⟨n, rfl⟩ : ∃ m, n = m + 1 := ⟨n - 1, by omega⟩
    have : k = 3 := by omega
    subst this
    exact br_t (show (3 : Int32) ≤ nI 3 from nI_le (a := 3) (b := 3) (Nat.le_refl 3) (by decide)) (nm_r (nI_1 step) (hJ sees stack depth (xf_end J) rs))
  | succ e ih =>
    intro k n sees stack depth hk hn J rt rs
    obtain ⟨n, rfl⟩ : ∃ m, n = m + 1 := ⟨n - 1, by omega⟩
    have tot := xf_tot J
    have at' : ¬ a_alive t = 0 := (J.1 t ht rt).1
    have hh : 3 * t + k < 78 := by omega
    have e3 : (3 * t + k) / 3 = t := by omega
    obtain ⟨tw, tl⟩ := xm_t M hh (by rw [e3]; exact at')
    obtain ⟨m1, m2, m3, _, _⟩ := hm_T M.1 hh (by rw [e3]; exact at')
    have e1 : (3 : Int32) * nI t + nI k = nI (3 * t + k) := by rw [show (3 : Int32) * nI t = nI (3 * t) from pk_mul 3 t, nI_add]
    have e2 : a_twin (3 * t + k) / 3 = nI (xp_O a_twin (3 * t + k) / 3) := by rw [tw]; exact pk_div (d := 3) (by omega) (by omega) (by decide)
    have hu : xp_O a_twin (3 * t + k) / 3 < 26 := by omega
    unfold wX_floodVisible_44
    rw [e1, nI_clamp (show 3 * t + k < 2 ^ 31 by omega)]
    refine br_f (nI_ge (b := 3) (by omega) (by decide)) ⟨vp_in_nI hh (by decide), by decide, nm_r e2 ⟨vp_in_nI hu (by decide), ?_⟩⟩
    rw [nI_clamp (show xp_O a_twin (3 * t + k) / 3 < 2 ^ 31 by omega)]
    refine br_c (fun z => ?_) (fun z => ?_)
    · refine xw_hop hu hp (xm_o M hu m2) M.2.2.1 fun r hr => br_c (fun z2 => nm_r (nI_1 k) ?_) (fun z2 => ⟨vp_in_nI hu (by decide), nm_e ⟨vp_in_nI (show depth < 80 by omega) (by decide), nm_e (nm_r (nI_1 depth) (nm_r (nI_1 k) ?_))⟩⟩)
      · refine ih (k + 1) n sees stack depth (by omega) (by omega) (xf_skip J ?_) rt rs
        intro v
        have := v.2
        rw [← hr] at this
        rw [xp_le0] at z2
        omega
      · rw [nI_clamp (show depth < 2 ^ 31 by omega), xp_b1]
        have vu : xm_vis a_px a_py a_pz a_alive a_origin p (xp_O a_twin (3 * t + k) / 3) := by
          refine ⟨m2, ?_⟩
          rw [← hr]
          rw [xp_le0] at z2
          omega
        have hR : ∀ i, i < 26 → ((¬ upd sees (xp_O a_twin (3 * t + k) / 3) 1 i = 0) ↔ ((¬ sees i = 0) ∨ i = xp_O a_twin (3 * t + k) / 3)) := by
          intro i _
          rcases Nat.decEq i (xp_O a_twin (3 * t + k) / 3) with c | c
          · rw [pk_un c]
            exact ⟨Or.inl, fun x => x.resolve_right c⟩
          · rw [c, pk_us]
            exact ⟨fun _ => Or.inr rfl, fun _ => by decide⟩
        have J' := xf_push (R' := fun u => ¬ upd sees (xp_O a_twin (3 * t + k) / 3) 1 u = 0) J ht (show k < 3 by omega) rt rfl hu tl m3 (fun x => x z) vu hR (fun h hh' r => by
          have r' : ¬ a_alive (h / 3) = 0 := by
            rcases (hR _ (by omega)).mp r with r | r
            · exact (J.1 _ (by omega) r).1
            · rw [r]; exact m2
          have := (hm_T M.1 hh' r').1
          omega)
        rw [show step + 1 + depth + 1 = step + 1 + (depth + 1) by omega] at J'
        refine ih (k + 1) n _ _ (depth + 1) (by omega) (by omega) J' ?_ ?_
        · exact (hR t ht).mpr (Or.inl rt)
        · show ¬ upd sees (xp_O a_twin (3 * t + k) / 3) 1 sd = 0
          rcases Nat.decEq sd (xp_O a_twin (3 * t + k) / 3) with c | c
          · rw [pk_un c]; exact rs
          · rw [c, pk_us]; decide
    · exact nm_r (nI_1 k) (ih (k + 1) n sees stack depth (by omega) (by omega) (xf_skip J fun _ => z) rt rs)
theorem xw_fl19 {post : SX → Prop} (M : xm_M a_px a_py a_pz a_alive a_origin a_twin S) {p sd : Nat} (hp : p < 14)
    (K : ∀ sees stack, xf_J (xm_vis a_px a_py a_pz a_alive a_origin p) (xp_O a_twin) (fun u => ¬ sees u = 0) stack 0 (hs_n (fun u => ¬ sees u = 0) 26).toNat (fun _ _ => False) → ¬ sees sd = 0 →
      post (f_room, f_count, f_isSolid, f_facetCount, f_cornerCount, f_edgeCount, f_volume, a_px, a_py, a_pz, a_alive, a_origin, a_twin, sees, stack, a_rimFrom, a_rimTo, a_rimOuter, a_fan, a_facetOf, a_leader, a_planes, a_joined)) :
    ∀ e step n sees stack depth, step + e = 26 → e < n →
      xf_J (xm_vis a_px a_py a_pz a_alive a_origin p) (xp_O a_twin) (fun u => ¬ sees u = 0) stack depth (step + depth) (fun _ _ => False) → ¬ sees sd = 0 →
      wX_floodVisible_19 post (nI p) f_room f_count f_isSolid f_facetCount f_cornerCount f_edgeCount f_volume n (nI depth) (nI step) a_px a_py a_pz a_alive a_origin a_twin sees stack a_rimFrom a_rimTo a_rimOuter a_fan a_facetOf a_leader a_planes a_joined := by
  intro e
  induction e with
  | zero =>
    intro step n sees stack depth hk hn J rs
    obtain ⟨n, rfl⟩ : ∃ m, n = m + 1 := ⟨n - 1, by omega⟩
    have tot := xf_tot J
    have : step = 26 := by omega
    subst this
    have d0 : depth = 0 := by omega
    subst d0
    have c := J.2.2.1
    refine br_t (show (26 : Int32) ≤ nI 26 from nI_le (a := 26) (b := 26) (Nat.le_refl 26) (by decide)) (K sees stack ?_ rs)
    rw [c]; exact J
  | succ e ih =>
    intro step n sees stack depth hk hn J rs
    obtain ⟨n, rfl⟩ : ∃ m, n = m + 1 := ⟨n - 1, by omega⟩
    have tot := xf_tot J
    unfold wX_floodVisible_19
    refine br_f (nI_ge (b := 26) (by omega) (by decide)) ?_
    rcases Nat.eq_zero_or_pos depth with d0 | d0
    · subst d0
      refine br_t (show nI 0 ≤ 0 from nI_le (a := 0) (b := 0) (Nat.le_refl 0) (by decide)) (K sees stack ?_ rs)
      have c := J.2.2.1
      rw [c]; exact J
    · obtain ⟨d, rfl⟩ : ∃ d, depth = d + 1 := ⟨depth - 1, by omega⟩
      obtain ⟨w, hw, ew, rw'⟩ := J.2.1 d (by omega)
      refine br_f (nI_nle (by omega) (by omega)) (nm_r (pk_m1 d) ⟨vp_in_nI (by omega) (by decide), ?_⟩)
      rw [nI_clamp (show d < 2 ^ 31 by omega)]
      refine nm_r ew ⟨4, xw_fl44 M hp hw (show step < 26 by omega) ?_ 3 0 4 sees stack d (by omega) (by omega) ?_ rw' rs⟩
      · intro sees' stack' depth' J' rs'
        exact ih (step + 1) n sees' stack' depth' (by omega) (by omega) J' rs'
      · have := xf_pop J hw ew
        rw [show step + 1 + d = step + (d + 1) by omega]; exact this
theorem xw_flood {post : SX → Prop} (M : xm_M a_px a_py a_pz a_alive a_origin a_twin S) {p sd : Nat} (hp : p < 14) (hs : sd < 26) (vs : xm_vis a_px a_py a_pz a_alive a_origin p sd)
    (zs : ∀ t, t < 26 → a_sees t = 0)
    (K : ∀ sees stack, (∀ t, t < 26 → ((¬ sees t = 0) ↔ xm_vis a_px a_py a_pz a_alive a_origin p t)) →
      hs_n (fun h => ¬ sees (h / 3) = 0 ∧ ¬ ¬ sees (xp_O a_twin h / 3) = 0) 78 ≤ hs_n (fun u => ¬ sees u = 0) 26 + 2 → post (f_room, f_count, f_isSolid, f_facetCount, f_cornerCount, f_edgeCount, f_volume, a_px, a_py, a_pz, a_alive, a_origin, a_twin, sees, stack, a_rimFrom, a_rimTo, a_rimOuter, a_fan, a_facetOf, a_leader, a_planes, a_joined)) :
    wpX_floodVisible post (f_room, f_count, f_isSolid, f_facetCount, f_cornerCount, f_edgeCount, f_volume, a_px, a_py, a_pz, a_alive, a_origin, a_twin, a_sees, a_stack, a_rimFrom, a_rimTo, a_rimOuter, a_fan, a_facetOf, a_leader, a_planes, a_joined) (nI sd) (nI p) := by
  unfold wpX_floodVisible
  dsimp only
  rw [nI_clamp (show sd < 2 ^ 31 by omega), xp_b1]
  refine ⟨vp_in_nI hs (by decide), nm_e (nm_e ⟨27, ?_⟩)⟩
  refine xw_fl19 (sd := sd) M hp ?_ 26 0 27 _ _ 1 (by omega) (by omega) ?_ (by rw [pk_us]; decide)
  · intro sees stack J rs
    have cl : ∀ t, t < 26 → ((¬ sees t = 0) ↔ xm_vis a_px a_py a_pz a_alive a_origin p t) := by
      intro t ht
      refine ⟨fun r => J.1 t ht r, fun v => ?_⟩
      refine hm_flood M.1 (p := xp_P a_px a_py a_pz p) rfl (R := fun t => ¬ sees t = 0) (fun t ht r => J.1 t ht r) ?_ ⟨sd, hs, rs⟩ ht v.1 v.2
      intro h hh r v'
      have hh3 : h / 3 < 26 := by omega
      have ah := (J.1 _ hh3 r).1
      obtain ⟨m1, m2, _⟩ := hm_T M.1 hh ah
      rcases J.2.2.2.1 _ hh3 r with ⟨i, hi, _⟩ | k
      · omega
      · have e : 3 * (h / 3) + h % 3 = h := by omega
        have := k (h % 3) (by omega) (fun x => x)
        rw [e] at this
        exact this ⟨m2, v'⟩
    refine K sees stack cl ?_
    have b := J.2.2.2.2
    have c := hs_n0 (fun u => ¬ sees u = 0) 26
    have e : hs_n (fun h => ¬ sees (h / 3) = 0 ∧ ¬ ¬ sees (xp_O a_twin h / 3) = 0) 78 ≤ (((hs_n (fun u => ¬ sees u = 0) 26).toNat : Nat) : Int) + 2 := b
    omega
  · refine xf_start hs vs ?_ pk_us
    intro i hi
    rcases Nat.decEq i sd with c | c
    · rw [pk_un c, zs i hi]
      exact ⟨fun x => absurd rfl x, fun x => absurd x c⟩
    · rw [c, pk_us]
      exact ⟨fun _ => rfl, fun _ => by decide⟩
end
end
section
theorem xw_next {post : Int32 → Prop} {h : Nat} (hh : h < 78) (k : post (nI (hn_n h))) : wpX_next post (nI h) := by
  have e : nI h - nI h / 3 * 3 = nI (h % 3) := pk_rem (d := 3) (by omega) (by omega) (by decide)
  unfold wpX_next
  rw [e]
  refine ⟨by decide, pk_eq (h % 3) 2 (fun c => ?_) (fun c => ?_)⟩
  · have : nI h - 2 = nI (hn_n h) := by
      rw [show nI h - 2 = nI (h - 2) from pk_sub (b := 2) (by omega)]; unfold hn_n; rw [if_pos c]
    rw [this]; exact k
  · have : nI h + 1 = nI (hn_n h) := by
      rw [nI_1]; unfold hn_n; rw [if_neg c]
    rw [this]; exact k
section
variable {f_room f_count f_isSolid f_facetCount f_cornerCount f_edgeCount f_volume : Int32} {a_px a_py a_pz a_alive a_origin a_twin a_sees a_stack a_rimFrom a_rimTo a_rimOuter a_fan a_facetOf a_leader a_planes a_joined : Nat → Int32}
variable {S : Nat → Prop}
theorem xw_dest {post : Int32 → Prop} {h : Nat} (hh : h < 78) (k : post (a_origin (hn_n h))) : wpX_destination post (f_room, f_count, f_isSolid, f_facetCount, f_cornerCount, f_edgeCount, f_volume, a_px, a_py, a_pz, a_alive, a_origin, a_twin, a_sees, a_stack, a_rimFrom, a_rimTo, a_rimOuter, a_fan, a_facetOf, a_leader, a_planes, a_joined) (nI h) := by
  have e : nI h - nI h / 3 * 3 = nI (h % 3) := pk_rem (d := 3) (by omega) (by omega) (by decide)
  have l := hn_lt hh
  unfold wpX_destination
  dsimp only
  rw [e]
  refine ⟨by decide, pk_eq (h % 3) 2 (fun c => ?_) (fun c => ?_)⟩
  · have : nI h - 2 = nI (hn_n h) := by
      rw [show nI h - 2 = nI (h - 2) from pk_sub (b := 2) (by omega)]; unfold hn_n; rw [if_pos c]
    rw [this, nI_clamp (by omega)]
    exact ⟨vp_in_nI l (by decide), k⟩
  · have : nI h + 1 = nI (hn_n h) := by
      rw [nI_1]; unfold hn_n; rw [if_neg c]
    rw [this, nI_clamp (by omega)]
    exact ⟨vp_in_nI l (by decide), k⟩
theorem xw_onRim {post : Int32 → Prop} {h : Nat} (hh : h < 78) (vt : ¬ a_sees (h / 3) = 0 → a_twin h = nI (xp_O a_twin h) ∧ xp_O a_twin h < 78)
    (k1 : ¬ a_sees (h / 3) = 0 → a_sees (xp_O a_twin h / 3) = 0 → post 1) (k0 : ¬ (¬ a_sees (h / 3) = 0 ∧ a_sees (xp_O a_twin h / 3) = 0) → post 0) :
    wpX_onRim post (f_room, f_count, f_isSolid, f_facetCount, f_cornerCount, f_edgeCount, f_volume, a_px, a_py, a_pz, a_alive, a_origin, a_twin, a_sees, a_stack, a_rimFrom, a_rimTo, a_rimOuter, a_fan, a_facetOf, a_leader, a_planes, a_joined) (nI h) := by
  have e : nI h / 3 = nI (h / 3) := pk_div (d := 3) (by omega) (by omega) (by decide)
  unfold wpX_onRim
  dsimp only
  rw [e, nI_clamp (show h / 3 < 2 ^ 31 by omega), nI_clamp (show h < 2 ^ 31 by omega)]
  refine ⟨by decide, vp_in_nI (by omega) (by decide), br_c (fun z => k0 fun c => c.1 z) fun z => ⟨vp_in_nI hh (by decide), by decide, ?_⟩⟩
  obtain ⟨t1, t2⟩ := vt z
  have e2 : a_twin h / 3 = nI (xp_O a_twin h / 3) := by
    conv => lhs; rw [t1]
    exact pk_div (d := 3) (by omega) (by omega) (by decide)
  rw [e2, nI_clamp (show xp_O a_twin h / 3 < 2 ^ 31 by omega)]
  exact ⟨vp_in_nI (by omega) (by decide), br_c (fun z2 => k1 z z2) (fun z2 => k0 fun c => z2 c.2)⟩
theorem xw_nor7 {post : Int32 → Prop} (M : xm_M a_px a_py a_pz a_alive a_origin a_twin S) :
    ∀ e i n g, i + e = 26 → e < n → g < 78 → ¬ a_alive (g / 3) = 0 → post (nI (xr_n (xp_O a_twin) (fun u => ¬ a_sees u = 0) e g)) →
      wX_nextOnRim_7 post f_room f_count f_isSolid f_facetCount f_cornerCount f_edgeCount f_volume a_px a_py a_pz a_alive a_origin a_twin a_sees a_stack a_rimFrom a_rimTo a_rimOuter a_fan a_facetOf a_leader a_planes a_joined n (nI g) (nI i) := by
  intro e
  induction e with
  | zero =>
    intro i n g hi hn hg ag k
    obtain ⟨n, rfl⟩ : ∃ m, n = m + 1 := ⟨n - 1, by omega⟩
    have : i = 26 := by omega
    subst this
    exact br_t (show (26 : Int32) ≤ nI 26 from nI_le (a := 26) (b := 26) (Nat.le_refl 26) (by decide)) k
  | succ e ih =>
    intro i n g hi hn hg ag k
    obtain ⟨n, rfl⟩ : ∃ m, n = m + 1 := ⟨n - 1, by omega⟩
    obtain ⟨t1, t2⟩ := xm_t M hg ag
    obtain ⟨m1, m2, _⟩ := hm_T M.1 hg ag
    unfold wX_nextOnRim_7
    rw [nI_clamp (show g < 2 ^ 31 by omega)]
    refine br_f (nI_ge (b := 26) (by omega) (by decide)) ⟨vp_in_nI hg (by decide), nm_r t1 ⟨by decide, ?_⟩⟩
    have e2 : nI (xp_O a_twin g) / 3 = nI (xp_O a_twin g / 3) := pk_div (d := 3) (by omega) (by omega) (by decide)
    rw [e2, nI_clamp (show xp_O a_twin g / 3 < 2 ^ 31 by omega)]
    refine ⟨vp_in_nI (by omega) (by decide), br_c (fun z => ?_) (fun z => ?_)⟩
    · rw [xr_st (fun c => c z)] at k; exact k
    · rw [xr_go z] at k
      exact xw_next t2 (nm_r (nI_1 i) (ih (i + 1) n _ (by omega) (by omega) (hn_lt m1) (by rw [hn_d]; exact m2) k))
theorem xw_nor {post : Int32 → Prop} (M : xm_M a_px a_py a_pz a_alive a_origin a_twin S) {h : Nat} (hh : h < 78) (a : ¬ a_alive (h / 3) = 0)
    (k : post (nI (xr_n (xp_O a_twin) (fun u => ¬ a_sees u = 0) 26 (hn_n h)))) : wpX_nextOnRim post (f_room, f_count, f_isSolid, f_facetCount, f_cornerCount, f_edgeCount, f_volume, a_px, a_py, a_pz, a_alive, a_origin, a_twin, a_sees, a_stack, a_rimFrom, a_rimTo, a_rimOuter, a_fan, a_facetOf, a_leader, a_planes, a_joined) (nI h) := by
  unfold wpX_nextOnRim
  dsimp only
  exact xw_next hh ⟨27, xw_nor7 M 26 0 27 _ (by omega) (by omega) (hn_lt hh) (by rw [hn_d]; exact a) k⟩
theorem xw_wr48 {post : Int32 → SX → Prop} (M : xm_M a_px a_py a_pz a_alive a_origin a_twin S) {h0 N : Nat} (hN : N < 26)
    (rh : ∀ i, hi_t (fun h => xr_n (xp_O a_twin) (fun u => ¬ a_sees u = 0) 26 (hn_n h)) i h0 < 78 ∧ ¬ a_alive (hi_t (fun h => xr_n (xp_O a_twin) (fun u => ¬ a_sees u = 0) 26 (hn_n h)) i h0 / 3) = 0)
    (rN : hi_t (fun h => xr_n (xp_O a_twin) (fun u => ¬ a_sees u = 0) 26 (hn_n h)) N h0 = h0)
    (rn : ∀ i, 0 < i → i < N → hi_t (fun h => xr_n (xp_O a_twin) (fun u => ¬ a_sees u = 0) 26 (hn_n h)) i h0 ≠ h0)
    (K : ∀ rf rt ro, (∀ j, j < N → rf j = a_origin (hi_t (fun h => xr_n (xp_O a_twin) (fun u => ¬ a_sees u = 0) 26 (hn_n h)) j h0) ∧ rt j = a_origin (hn_n (hi_t (fun h => xr_n (xp_O a_twin) (fun u => ¬ a_sees u = 0) 26 (hn_n h)) j h0))
      ∧ ro j = a_twin (hi_t (fun h => xr_n (xp_O a_twin) (fun u => ¬ a_sees u = 0) 26 (hn_n h)) j h0)) → post (nI N) (f_room, f_count, f_isSolid, f_facetCount, f_cornerCount, f_edgeCount, f_volume, a_px, a_py, a_pz, a_alive, a_origin, a_twin, a_sees, a_stack, rf, rt, ro, a_fan, a_facetOf, a_leader, a_planes, a_joined)) :
    ∀ e i n rf rt ro, i + e = N → e < n → (∀ j, j < i → rf j = a_origin (hi_t (fun h => xr_n (xp_O a_twin) (fun u => ¬ a_sees u = 0) 26 (hn_n h)) j h0) ∧ rt j = a_origin (hn_n (hi_t (fun h => xr_n (xp_O a_twin) (fun u => ¬ a_sees u = 0) 26 (hn_n h)) j h0))
      ∧ ro j = a_twin (hi_t (fun h => xr_n (xp_O a_twin) (fun u => ¬ a_sees u = 0) 26 (hn_n h)) j h0)) →
      wX_walkRim_48 post (nI h0) f_room f_count f_isSolid f_facetCount f_cornerCount f_edgeCount f_volume n (nI i) (nI (hi_t (fun h => xr_n (xp_O a_twin) (fun u => ¬ a_sees u = 0) 26 (hn_n h)) i h0)) (if e = 0 then 0 else 1) (nI i) a_px a_py a_pz a_alive a_origin a_twin a_sees a_stack rf rt ro a_fan a_facetOf a_leader a_planes a_joined := by
  generalize hr : (fun i => hi_t (fun h => xr_n (xp_O a_twin) (fun u => ¬ a_sees u = 0) 26 (hn_n h)) i h0) = r
  have er : ∀ i, hi_t (fun h => xr_n (xp_O a_twin) (fun u => ¬ a_sees u = 0) 26 (hn_n h)) i h0 = r i := fun i => congrFun hr i
  have nx : ∀ i, xr_n (xp_O a_twin) (fun u => ¬ a_sees u = 0) 26 (hn_n (r i)) = r (i + 1) := by
    intro i; rw [← er (i + 1), ← er i]; rfl
  have h0l : h0 < 78 := (rh 0).1
  simp only [er] at rh rN rn K ⊢
  clear hr er
  intro e
  induction e with
  | zero =>
    intro i n rf rt ro hi hn h
    obtain ⟨n, rfl⟩ : ∃ m, n = m + 1 := ⟨n - 1, by omega⟩
    have : i = N := by omega
    subst this
    rw [if_pos rfl]
    exact br_f (nI_ge (b := 26) hN (by decide)) (br_t rfl (K rf rt ro h))
  | succ e ih =>
    intro i n rf rt ro hi hn h
    obtain ⟨n, rfl⟩ : ∃ m, n = m + 1 := ⟨n - 1, by omega⟩
    rw [if_neg (by omega)]
    obtain ⟨r1, r2⟩ := rh i
    have ci : (nI i).toNatClampNeg = i := nI_clamp (by omega)
    have cr : (nI (r i)).toNatClampNeg = r i := nI_clamp (by omega)
    unfold wX_walkRim_48
    rw [ci, cr]
    refine br_f (nI_ge (b := 26) (by omega) (by decide)) (br_f (by decide) ⟨vp_in_nI r1 (by decide), vp_in_nI (show i < 26 by omega) (by decide), nm_e (xw_dest r1 ⟨vp_in_nI (show i < 26 by omega) (by decide), nm_e ⟨vp_in_nI r1 (by decide),
      vp_in_nI (show i < 26 by omega) (by decide), nm_e (nm_r (nI_1 i) ?_)⟩⟩)⟩)
    refine xw_nor (a_sees := a_sees) M r1 r2 ?_
    rw [nx i]
    have facts : ∀ j, j < i + 1 → upd rf i (a_origin (r i)) j = a_origin (r j) ∧ upd rt i (a_origin (hn_n (r i))) j = a_origin (hn_n (r j)) ∧ upd ro i (a_twin (r i)) j = a_twin (r j) := by
      intro j hj
      rcases Nat.decEq j i with c | c
      · rw [pk_un c, pk_un c, pk_un c]; exact h j (by omega)
      · rw [c, pk_us, pk_us, pk_us]; exact ⟨rfl, rfl, rfl⟩
    have go := ih (i + 1) n _ _ _ (by omega) (by omega) facts
    rcases Nat.eq_zero_or_pos e with c | c
    · have eN : i + 1 = N := by omega
      rw [if_pos c] at go
      refine br_t (by rw [eN, rN]) (nm_r (nI_1 i) go)
    · have := (rh (i + 1)).1
      rw [if_neg (by omega)] at go
      refine br_f (fun x => rn (i + 1) (by omega) (by omega) ((nI_eq (by omega) (by omega)).mp x)) (nm_r (nI_1 i) go)
theorem xw_wr4 {post : Int32 → SX → Prop} (vt : ∀ h, h < 78 → ¬ a_sees (h / 3) = 0 → a_twin h = nI (xp_O a_twin h) ∧ xp_O a_twin h < 78)
    (ex : ∃ h, h < 78 ∧ ¬ a_sees (h / 3) = 0 ∧ a_sees (xp_O a_twin h / 3) = 0)
    (K : ∀ h, h < 78 → ¬ a_sees (h / 3) = 0 → a_sees (xp_O a_twin h / 3) = 0 → wX_walkRim_30 post (nI h) f_room f_count f_isSolid f_facetCount f_cornerCount f_edgeCount f_volume a_px a_py a_pz a_alive a_origin a_twin a_sees a_stack a_rimFrom a_rimTo a_rimOuter a_fan a_facetOf a_leader a_planes a_joined) :
    ∀ e i n, i + e = 78 → e < n → (∀ j, j < i → ¬ (¬ a_sees (j / 3) = 0 ∧ a_sees (xp_O a_twin j / 3) = 0)) → wX_walkRim_4 post f_room f_count f_isSolid f_facetCount f_cornerCount f_edgeCount f_volume a_px a_py a_pz a_alive a_origin a_twin a_sees a_stack a_rimFrom a_rimTo a_rimOuter a_fan a_facetOf a_leader a_planes a_joined n (-1) (nI i) := by
  intro e
  induction e with
  | zero =>
    intro i n hi hn h
    obtain ⟨k, k1, k2, k3⟩ := ex
    exact absurd ⟨k2, k3⟩ (h k (by omega))
  | succ e ih =>
    intro i n hi hn h
    obtain ⟨n, rfl⟩ : ∃ m, n = m + 1 := ⟨n - 1, by omega⟩
    have hi' : i < 78 := by omega
    unfold wX_walkRim_4
    refine br_f (nI_ge (b := 78) (by omega) (by decide)) (br_f (by decide) (xw_onRim hi' (vt i hi') (fun z1 z2 => br_f (by decide) (nm_r (nI_1 i) ?_)) (fun z => br_t rfl (nm_r (nI_1 i) ?_))))
    · obtain ⟨n, rfl⟩ : ∃ m, n = m + 1 := ⟨n - 1, by omega⟩
      unfold wX_walkRim_4
      exact br_c (fun _ => K i hi' z1 z2) (fun _ => br_t (nI_pos' (by omega)) (K i hi' z1 z2))
    · refine ih (i + 1) n (by omega) (by omega) fun j hj => ?_
      rcases Nat.lt_or_ge j i with c | c
      · exact h j c
      · rw [show j = i by omega]; exact z
theorem xw_walk {post : Int32 → SX → Prop} (M : xm_M a_px a_py a_pz a_alive a_origin a_twin S) {p t0 : Nat}
    (hR : ∀ t, t < 26 → ((¬ a_sees t = 0) ↔ xm_vis a_px a_py a_pz a_alive a_origin p t)) (cnt : hs_n (fun u => ¬ a_sees u = 0) 26 < 24)
    (cb : hs_n (fun h => ¬ a_sees (h / 3) = 0 ∧ ¬ ¬ a_sees (xp_O a_twin h / 3) = 0) 78 ≤ hs_n (fun u => ¬ a_sees u = 0) 26 + 2)
    (ht0 : t0 < 26) (v0 : xm_vis a_px a_py a_pz a_alive a_origin p t0)
    (K : ∀ (N : Nat) (r : Nat → Nat) rf rt ro, 0 < N → N < 26 → (N : Int) ≤ hs_n (fun u => ¬ a_sees u = 0) 26 + 2 →
      (∀ i, i < N → hr_R (xp_P a_px a_py a_pz) (xp_O a_origin) (xp_O a_twin) (fun t => ¬ a_alive t = 0) (xp_P a_px a_py a_pz p) (r i)) →
      (∀ i, i < N → xp_O a_origin (r (if i + 1 = N then 0 else i + 1)) = xp_O a_origin (hn_n (r i))) →
      (∀ i j, i < N → j < N → r i = r j → i = j) →
      (∀ j, j < N → rf j = a_origin (r j) ∧ rt j = a_origin (hn_n (r j)) ∧ ro j = a_twin (r j)) → post (nI N) (f_room, f_count, f_isSolid, f_facetCount, f_cornerCount, f_edgeCount, f_volume, a_px, a_py, a_pz, a_alive, a_origin, a_twin, a_sees, a_stack, rf, rt, ro, a_fan, a_facetOf, a_leader, a_planes, a_joined)) :
    wpX_walkRim post (f_room, f_count, f_isSolid, f_facetCount, f_cornerCount, f_edgeCount, f_volume, a_px, a_py, a_pz, a_alive, a_origin, a_twin, a_sees, a_stack, a_rimFrom, a_rimTo, a_rimOuter, a_fan, a_facetOf, a_leader, a_planes, a_joined) := by
  unfold wpX_walkRim
  dsimp only
  have al : ∀ h, h < 78 → ¬ a_sees (h / 3) = 0 → ¬ a_alive (h / 3) = 0 := fun h hh s => ((hR _ (by omega)).mp s).1
  refine ⟨79, xw_wr4 (fun h hh s => xm_t M hh (al h hh s)) ?_ ?_ 78 0 79 (by omega) (by omega) (fun j hj => absurd hj (Nat.not_lt_zero j))⟩
  · obtain ⟨h, hh, a, v, nv⟩ := xf_rx M.1 (p := xp_P a_px a_py a_pz p) rfl ht0 v0.1 v0.2
    obtain ⟨m1, m2, _⟩ := hm_T M.1 hh a
    refine ⟨h, hh, (hR _ (by omega)).mpr ⟨a, v⟩, ?_⟩
    refine Classical.byContradiction fun c => ?_
    have c' : ¬ a_sees (xp_O a_twin h / 3) = 0 := c
    have := ((hR _ (by omega)).mp c').2
    omega
  · intro h0 hh0 s0 s0'
    have v := (hR _ (by omega)).mp s0
    obtain ⟨m1, m2, _⟩ := hm_T M.1 hh0 v.1
    have r0 : hr_R (xp_P a_px a_py a_pz) (xp_O a_origin) (xp_O a_twin) (fun t => ¬ a_alive t = 0) (xp_P a_px a_py a_pz p) h0 :=
      ⟨hh0, v.1, v.2, Int.not_lt.mp fun c => ((hR _ (by omega)).mpr ⟨m2, c⟩) s0'⟩
    obtain ⟨N, N0, Nb, rN, rn, inj, all⟩ := xr_cyc (R := fun u => ¬ a_sees u = 0) M.1 hR (by omega) r0
    have nu := fun i => (xr_nu (R := fun u => ¬ a_sees u = 0) M.1 hR (by omega) (all i)).2
    unfold wX_walkRim_30
    have hN : N < 26 := by omega
    refine br_f (nI_pos (by omega)) ⟨N + 1, ?_⟩
    have go := xw_wr48 (post := post) (f_room := f_room) (f_count := f_count) (f_isSolid := f_isSolid) (f_facetCount := f_facetCount) (f_cornerCount := f_cornerCount) (f_edgeCount := f_edgeCount) (f_volume := f_volume)
      (a_stack := a_stack) (a_fan := a_fan) (a_facetOf := a_facetOf) (a_leader := a_leader) (a_planes := a_planes) (a_joined := a_joined)
      M hN (fun i => ⟨(all i).1, (all i).2.1⟩) rN rn (fun rf rt ro f => K N _ rf rt ro N0 hN (by omega) (fun i _ => all i) (by
        intro i hi
        rcases Nat.decEq (i + 1) N with c | c
        · rw [if_neg c]; exact nu i
        · rw [if_pos c, ← nu i]
          have e2 : xr_n (xp_O a_twin) (fun u => ¬ a_sees u = 0) 26 (hn_n (hi_t (fun h => xr_n (xp_O a_twin) (fun u => ¬ a_sees u = 0) 26 (hn_n h)) i h0)) = h0 := by
            have e3 : hi_t (fun h => xr_n (xp_O a_twin) (fun u => ¬ a_sees u = 0) 26 (hn_n h)) (i + 1) h0 = h0 := by rw [c]; exact rN
            exact e3
          rw [e2]; rfl) inj f)
      N 0 (N + 1) a_rimFrom a_rimTo a_rimOuter (by omega) (by omega) (fun j hj => absurd hj (Nat.not_lt_zero j))
    rw [if_neg (by omega)] at go
    exact go
end
end
section
/-! the fan: i triangles F 0 .. F (i-1) stand -/
def xb_I (alive0 origin0 twin0 rf rt : Nat → Int32) (Z : Nat → Nat) (p i : Nat) (F : Nat → Nat) (alive origin twin : Nat → Int32) : Prop :=
  (∀ j, j < i → F j < 26 ∧ alive0 (F j) = 0) ∧
  (∀ j k, j < i → k < i → F j = F k → j = k) ∧
  (∀ t, t < 26 → ((¬ alive t = 0) ↔ (¬ alive0 t = 0 ∨ ∃ j, j < i ∧ t = F j))) ∧
  (∀ j, j < i → origin (3 * F j) = rf j ∧ origin (3 * F j + 1) = rt j ∧ origin (3 * F j + 2) = nI p) ∧
  (∀ h, h < 78 → ¬ alive0 (h / 3) = 0 → origin h = origin0 h) ∧
  (∀ j, j < i → twin (3 * F j) = nI (Z j) ∧ twin (Z j) = nI (3 * F j)) ∧
  (∀ h, h < 78 → ¬ alive0 (h / 3) = 0 → (∀ j, j < i → h ≠ Z j) → twin h = twin0 h) ∧
  (hs_n (fun t => ¬ alive t = 0) 26 = hs_n (fun t => ¬ alive0 t = 0) 26 + i)
theorem xb_0 (alive0 origin0 twin0 rf rt : Nat → Int32) (Z : Nat → Nat) (p : Nat) (F : Nat → Nat) : xb_I alive0 origin0 twin0 rf rt Z p 0 F alive0 origin0 twin0 := by
  refine ⟨fun j hj => absurd hj (Nat.not_lt_zero j), fun j k hj => absurd hj (Nat.not_lt_zero j), fun t _ => ⟨Or.inl, fun x => ?_⟩, fun j hj => absurd hj (Nat.not_lt_zero j), fun _ _ _ => rfl,
    fun j hj => absurd hj (Nat.not_lt_zero j), fun _ _ _ _ => rfl, by omega⟩
  rcases x with x | ⟨j, hj, _⟩
  · exact x
  · exact absurd hj (Nat.not_lt_zero j)
theorem xb_1 {alive0 origin0 twin0 rf rt : Nat → Int32} {Z : Nat → Nat} {p i : Nat} {F : Nat → Nat} {alive origin twin : Nat → Int32}
    (I : xb_I alive0 origin0 twin0 rf rt Z p i F alive origin twin) {t : Nat} (ht : t < 26) (ft : alive t = 0) (zl : Z i < 78) (za : ¬ alive0 (Z i / 3) = 0)
    (zj : ∀ j, j < i → ¬ alive0 (Z j / 3) = 0 ∧ Z j ≠ Z i) :
    xb_I alive0 origin0 twin0 rf rt Z p (i + 1) (fun j => if j = i then t else F j) (upd alive t 1)
      (upd (upd (upd origin (3 * t) (rf i)) (3 * t + 1) (rt i)) (3 * t + 2) (nI p)) (upd (upd twin (3 * t) (nI (Z i))) (Z i) (nI (3 * t))) := by
  obtain ⟨f1, f2, aa, o1, o2, t1, t2, cn⟩ := I
  have a0 : alive0 t = 0 := Classical.byContradiction fun c => (aa t ht).mpr (Or.inl c) ft
  have tF : ∀ j, j < i → t ≠ F j := fun j hj e => (aa t ht).mpr (Or.inr ⟨j, hj, e⟩) ft
  have Fi : (fun j => if j = i then t else F j) i = t := if_pos rfl
  have Fj : ∀ j, j < i → (fun j => if j = i then t else F j) j = F j := fun j hj => if_neg (by omega)
  have old : ∀ h, h < 78 → ¬ alive0 (h / 3) = 0 → h / 3 ≠ t := fun h _ ha e => ha (by rw [e]; exact a0)
  generalize (fun j => if j = i then t else F j) = G at Fi Fj
  have zt := old (Z i) zl za
  refine ⟨?_, ?_, ?_, ?_, ?_, ?_, ?_, ?_⟩
  · intro j hj
    rcases Nat.lt_or_ge j i with c | c
    · rw [Fj j c]; exact f1 j c
    · rw [show j = i by omega, Fi]; exact ⟨ht, a0⟩
  · intro j k hj hk e
    rcases Nat.lt_or_ge j i with c | c <;> rcases Nat.lt_or_ge k i with d | d
    · rw [Fj j c, Fj k d] at e; exact f2 j k c d e
    · rw [Fj j c, show k = i by omega, Fi] at e; exact absurd e.symm (tF j c)
    · rw [Fj k d, show j = i by omega, Fi] at e; exact absurd e (tF k d)
    · omega
  · intro u hu
    rcases Nat.decEq u t with c | c
    · rw [pk_un c, aa u hu]
      constructor
      · rintro (x | ⟨j, hj, e⟩)
        · exact Or.inl x
        · exact Or.inr ⟨j, by omega, by rw [Fj j hj]; exact e⟩
      · rintro (x | ⟨j, hj, e⟩)
        · exact Or.inl x
        · rcases Nat.lt_or_ge j i with d | d
          · rw [Fj j d] at e; exact Or.inr ⟨j, d, e⟩
          · rw [show j = i by omega, Fi] at e; exact absurd e c
    · rw [c, pk_us]
      exact ⟨fun _ => Or.inr ⟨i, by omega, Fi.symm⟩, fun _ => by decide⟩
  · intro j hj
    rcases Nat.lt_or_ge j i with c | c
    · have := tF j c
      rw [Fj j c, pk_un (by omega), pk_un (by omega), pk_un (by omega), pk_un (by omega), pk_un (by omega), pk_un (by omega), pk_un (by omega), pk_un (by omega), pk_un (by omega)]
      exact o1 j c
    · rw [show j = i by omega, Fi]
      refine ⟨?_, ?_, pk_us⟩
      · rw [pk_un (by omega), pk_un (by omega), pk_us]
      · rw [pk_un (by omega), pk_us]
  · intro h hh ha
    have := old h hh ha
    rw [pk_un (by omega), pk_un (by omega), pk_un (by omega)]
    exact o2 h hh ha
  · intro j hj
    rcases Nat.lt_or_ge j i with c | c
    · have k1 := tF j c
      obtain ⟨k2, k3⟩ := zj j c
      have k4 : F j ≠ Z i / 3 := fun e => za (by rw [← e]; exact (f1 j c).2)
      have k5 : Z j / 3 ≠ t := fun e => k2 (by rw [e]; exact a0)
      rw [Fj j c, pk_un (by omega), pk_un (by omega), pk_un k3, pk_un (by omega)]
      exact t1 j c
    · rw [show j = i by omega, Fi]
      refine ⟨?_, pk_us⟩
      rw [pk_un (by omega), pk_us]
  · intro h hh ha hz
    have := old h hh ha
    rw [pk_un (hz i (by omega)), pk_un (by omega)]
    exact t2 h hh ha fun j hj => hz j (by omega)
  · have e := hs_nput (Q := fun u => ¬ alive u = 0) (R := fun u => ¬ upd alive t 1 u = 0) ht (fun c => c ft) (fun u _ => by
      rcases Nat.decEq u t with c | c
      · rw [pk_un c]; exact ⟨Or.inl, fun x => x.resolve_right c⟩
      · rw [c, pk_us]; exact ⟨fun _ => Or.inr rfl, fun _ => by decide⟩)
    rw [e, cn]; omega
section
variable {f_room f_count f_isSolid f_facetCount f_cornerCount f_edgeCount f_volume : Int32} {a_px a_py a_pz a_alive a_origin a_twin a_sees a_stack a_rimFrom a_rimTo a_rimOuter a_fan a_facetOf a_leader a_planes a_joined : Nat → Int32}
variable {S : Nat → Prop}
theorem xw_free2 {post : Int32 → Prop} (ex : ∃ t, t < 26 ∧ a_alive t = 0) (K : ∀ t, t < 26 → a_alive t = 0 → post (nI t)) :
    ∀ e i n, i + e = 26 → e < n → (∀ j, j < i → ¬ a_alive j = 0) → wX_freeTriangle_2 post f_room f_count f_isSolid f_facetCount f_cornerCount f_edgeCount f_volume a_px a_py a_pz a_alive a_origin a_twin a_sees a_stack a_rimFrom a_rimTo a_rimOuter a_fan a_facetOf a_leader a_planes a_joined n (nI i) := by
  intro e
  induction e with
  | zero =>
    intro i n hi hn h
    obtain ⟨t, ht, z⟩ := ex
    exact absurd z (h t (by omega))
  | succ e ih =>
    intro i n hi hn h
    obtain ⟨n, rfl⟩ : ∃ m, n = m + 1 := ⟨n - 1, by omega⟩
    unfold wX_freeTriangle_2
    rw [nI_clamp (show i < 2 ^ 31 by omega)]
    refine br_f (nI_ge (b := 26) (by omega) (by decide)) ⟨vp_in_nI (show i < 26 by omega) (by decide), br_c (fun z => K i (by omega) z) (fun z => nm_r (nI_1 i) (ih (i + 1) n (by omega) (by omega) fun j hj => ?_))⟩
    rcases Nat.lt_or_ge j i with c | c
    · exact h j c
    · rw [show j = i by omega]; exact z
theorem xw_free {post : Int32 → Prop} (ex : ∃ t, t < 26 ∧ a_alive t = 0) (K : ∀ t, t < 26 → a_alive t = 0 → post (nI t)) : wpX_freeTriangle post (f_room, f_count, f_isSolid, f_facetCount, f_cornerCount, f_edgeCount, f_volume, a_px, a_py, a_pz, a_alive, a_origin, a_twin, a_sees, a_stack, a_rimFrom, a_rimTo, a_rimOuter, a_fan, a_facetOf, a_leader, a_planes, a_joined) := by
  unfold wpX_freeTriangle
  exact ⟨27, xw_free2 ex K 26 0 27 (by omega) (by omega) (fun j hj => absurd hj (Nat.not_lt_zero j))⟩
theorem xw_set {post : SX → Prop} {t : Nat} (ht : t < 26) {a b c : Int32}
    (K : post (f_room, f_count, f_isSolid, f_facetCount, f_cornerCount, f_edgeCount, f_volume, a_px, a_py, a_pz, upd a_alive t 1, upd (upd (upd a_origin (3 * t) a) (3 * t + 1) b) (3 * t + 2) c, a_twin, a_sees, a_stack, a_rimFrom, a_rimTo, a_rimOuter, a_fan, a_facetOf, a_leader, a_planes, a_joined)) : wpX_setTriangle post (f_room, f_count, f_isSolid, f_facetCount, f_cornerCount, f_edgeCount, f_volume, a_px, a_py, a_pz, a_alive, a_origin, a_twin, a_sees, a_stack, a_rimFrom, a_rimTo, a_rimOuter, a_fan, a_facetOf, a_leader, a_planes, a_joined) (nI t) a b c := by
  have e0 : (3 : Int32) * nI t = nI (3 * t) := pk_mul 3 t
  have e1 : nI (3 * t) + 1 = nI (3 * t + 1) := nI_1 _
  have e2 : nI (3 * t) + 2 = nI (3 * t + 2) := nI_add (3 * t) 2
  unfold wpX_setTriangle
  dsimp only
  rw [e0, e1, e2, nI_clamp (show t < 2 ^ 31 by omega), nI_clamp (show 3 * t < 2 ^ 31 by omega), nI_clamp (show 3 * t + 1 < 2 ^ 31 by omega), nI_clamp (show 3 * t + 2 < 2 ^ 31 by omega), xp_b1]
  exact ⟨vp_in_nI ht (by decide), nm_e ⟨vp_in_nI (by omega) (by decide), nm_e ⟨vp_in_nI (by omega) (by decide), nm_e ⟨vp_in_nI (by omega) (by decide), nm_e K⟩⟩⟩⟩
theorem xw_join {post : SX → Prop} {h g : Nat} (hh : h < 78) (hg : g < 78) (K : post (f_room, f_count, f_isSolid, f_facetCount, f_cornerCount, f_edgeCount, f_volume, a_px, a_py, a_pz, a_alive, a_origin, upd (upd a_twin h (nI g)) g (nI h), a_sees, a_stack, a_rimFrom, a_rimTo, a_rimOuter, a_fan, a_facetOf, a_leader, a_planes, a_joined)) : wpX_join post (f_room, f_count, f_isSolid, f_facetCount, f_cornerCount, f_edgeCount, f_volume, a_px, a_py, a_pz, a_alive, a_origin, a_twin, a_sees, a_stack, a_rimFrom, a_rimTo, a_rimOuter, a_fan, a_facetOf, a_leader, a_planes, a_joined) (nI h) (nI g) := by
  unfold wpX_join
  dsimp only
  rw [nI_clamp (show h < 2 ^ 31 by omega), nI_clamp (show g < 2 ^ 31 by omega)]
  exact ⟨vp_in_nI hh (by decide), nm_e ⟨vp_in_nI hg (by decide), nm_e K⟩⟩
/-- the second pass: neighbours in the fan -/
theorem xw_fan62 {post : SX → Prop} {N : Nat} {F : Nat → Nat} (hN : N < 26) (f1 : ∀ j, j < N → F j < 26) (fi : ∀ j k, j < N → k < N → F j = F k → j = k)
    (ff : ∀ j, j < N → a_fan j = nI (F j)) (B : Nat → Prop) (hB : ∀ h, B h → ∀ j, j < N → h ≠ 3 * F j + 1 ∧ h ≠ 3 * F j + 2)
    {tw0 : Nat → Int32}
    (K : ∀ tw, (∀ h, B h → tw h = tw0 h) →
      (∀ j, j < N → tw (3 * F j + 1) = nI (3 * F (if j + 1 = N then 0 else j + 1) + 2) ∧ tw (3 * F (if j + 1 = N then 0 else j + 1) + 2) = nI (3 * F j + 1)) → post (f_room, f_count, f_isSolid, f_facetCount, f_cornerCount, f_edgeCount, f_volume, a_px, a_py, a_pz, a_alive, a_origin, tw, a_sees, a_stack, a_rimFrom, a_rimTo, a_rimOuter, a_fan, a_facetOf, a_leader, a_planes, a_joined)) :
    ∀ e i n tw, i + e = N → e < n → (∀ h, B h → tw h = tw0 h) →
      (∀ j, j < i → tw (3 * F j + 1) = nI (3 * F (if j + 1 = N then 0 else j + 1) + 2) ∧ tw (3 * F (if j + 1 = N then 0 else j + 1) + 2) = nI (3 * F j + 1)) →
      wX_buildFan_62 post (nI N) n (nI i) f_room f_count f_isSolid f_facetCount f_cornerCount f_edgeCount f_volume a_px a_py a_pz a_alive a_origin tw a_sees a_stack a_rimFrom a_rimTo a_rimOuter a_fan a_facetOf a_leader a_planes a_joined := by
  intro e
  induction e with
  | zero =>
    intro i n tw hi hn h1 h2
    obtain ⟨n, rfl⟩ : ∃ m, n = m + 1 := ⟨n - 1, by omega⟩
    have : i = N := by omega
    subst this
    exact br_t (nI_le (Nat.le_refl _) (by omega)) (K tw h1 h2)
  | succ e ih =>
    intro i n tw hi hn h1 h2
    obtain ⟨n, rfl⟩ : ∃ m, n = m + 1 := ⟨n - 1, by omega⟩
    have hi' : i < N := by omega
    have fl := f1 i hi'
    have hc : (if i + 1 = N then 0 else i + 1) < N := hw_nx hi'
    have fc := f1 _ hc
    have step : ∀ z, z < N → z = (if i + 1 = N then 0 else i + 1) → wX_buildFan_85 post (wX_buildFan_62 post (nI N) n) (nI N) (nI i) (nI z) f_room f_count f_isSolid f_facetCount f_cornerCount f_edgeCount f_volume a_px a_py a_pz a_alive a_origin tw a_sees a_stack a_rimFrom a_rimTo a_rimOuter a_fan a_facetOf a_leader a_planes a_joined := by
      intro z hz ez
      have e1 : (3 : Int32) * nI (F i) + 1 = nI (3 * F i + 1) := by rw [show (3 : Int32) * nI (F i) = nI (3 * F i) from pk_mul 3 _, nI_1]
      have e2 : (3 : Int32) * nI (F z) + 2 = nI (3 * F z + 2) := by rw [show (3 : Int32) * nI (F z) = nI (3 * F z) from pk_mul 3 _]; exact nI_add _ 2
      have fz := f1 z hz
      unfold wX_buildFan_85
      rw [nI_clamp (show z < 2 ^ 31 by omega), nI_clamp (show i < 2 ^ 31 by omega), ff i hi']
      refine ⟨vp_in_nI (show z < 26 by omega) (by decide), nm_r (ff z hz) ⟨vp_in_nI (show i < 26 by omega) (by decide), ?_⟩⟩
      rw [e1, e2]
      refine xw_join (by omega) (by omega) (nm_r (nI_1 i) ?_)
      refine ih (i + 1) n _ (by omega) (by omega) ?_ ?_
      · intro h b
        obtain ⟨b1, _⟩ := hB h b i hi'
        obtain ⟨_, b2⟩ := hB h b z hz
        rw [pk_un b2, pk_un b1]; exact h1 h b
      · intro j hj
        have cj : (if j + 1 = N then 0 else j + 1) < N := hw_nx (by omega)
        rcases Nat.lt_or_ge j i with c | c
        · have k1 : F j ≠ F i := fun x => by have := fi j i (by omega) hi' x; omega
          have k2 : (if j + 1 = N then 0 else j + 1) ≠ z := by rw [ez]; split <;> split <;> omega
          have k3 : F (if j + 1 = N then 0 else j + 1) ≠ F z := fun x => k2 (fi _ _ cj hz x)
          rw [pk_un (by omega), pk_un (by omega), pk_un (by omega), pk_un (by omega)]
          exact h2 j c
        · have : j = i := by omega
          subst this
          rw [← ez]
          refine ⟨?_, pk_us⟩
          rw [pk_un (by omega), pk_us]
    unfold wX_buildFan_62
    refine br_f (nI_ge hi' (by omega)) ?_
    rw [nI_1]
    refine pk_eq (i + 1) N (fun c => ?_) (fun c => ?_)
    · exact step 0 (by omega) (by rw [if_pos c])
    · exact step (i + 1) (by omega) (by rw [if_neg c])
/-- the first pass -/
theorem xw_fan2 {post : SX → Prop} {N p : Nat} {Z : Nat → Nat} (hN : N < 26) {alive0 origin0 twin0 : Nat → Int32}
    (zz : ∀ j, j < N → a_rimOuter j = nI (Z j) ∧ Z j < 78 ∧ ¬ alive0 (Z j / 3) = 0) (zi : ∀ j k, j < N → k < N → Z j = Z k → j = k)
    (cn : hs_n (fun t => ¬ alive0 t = 0) 26 + N ≤ 26)
    (K : ∀ F alive origin twin fan, xb_I alive0 origin0 twin0 a_rimFrom a_rimTo Z p N F alive origin twin → (∀ j, j < N → fan j = nI (F j)) →
      ∃ n62, wX_buildFan_62 post (nI N) n62 0 f_room f_count f_isSolid f_facetCount f_cornerCount f_edgeCount f_volume a_px a_py a_pz alive origin twin a_sees a_stack a_rimFrom a_rimTo a_rimOuter fan a_facetOf a_leader a_planes a_joined) :
    ∀ e i n F alive origin twin fan, i + e = N → e < n → xb_I alive0 origin0 twin0 a_rimFrom a_rimTo Z p i F alive origin twin → (∀ j, j < i → fan j = nI (F j)) →
      wX_buildFan_2 post (nI N) (nI p) n (nI i) f_room f_count f_isSolid f_facetCount f_cornerCount f_edgeCount f_volume a_px a_py a_pz alive origin twin a_sees a_stack a_rimFrom a_rimTo a_rimOuter fan a_facetOf a_leader a_planes a_joined := by
  intro e
  induction e with
  | zero =>
    intro i n F alive origin twin fan hi hn I hf
    obtain ⟨n, rfl⟩ : ∃ m, n = m + 1 := ⟨n - 1, by omega⟩
    have : i = N := by omega
    subst this
    exact br_t (nI_le (Nat.le_refl _) (by omega)) (K F alive origin twin fan I hf)
  | succ e ih =>
    intro i n F alive origin twin fan hi hn I hf
    obtain ⟨n, rfl⟩ : ∃ m, n = m + 1 := ⟨n - 1, by omega⟩
    have hi' : i < N := by omega
    obtain ⟨z1, z2, z3⟩ := zz i hi'
    have ci : (nI i).toNatClampNeg = i := nI_clamp (by omega)
    unfold wX_buildFan_2
    refine br_f (nI_ge hi' (by omega)) (xw_free ?_ ?_)
    · have c := I.2.2.2.2.2.2.2
      obtain ⟨t, ht, nt⟩ := hs_nfree (Q := fun t => ¬ alive t = 0) (n := 26) (by omega)
      exact ⟨t, ht, Classical.byContradiction nt⟩
    · intro t ht ft
      refine ⟨vp_in_nI (show i < 26 by omega) (by decide), vp_in_nI (show i < 26 by omega) (by decide), ?_⟩
      rw [ci]
      refine xw_set ht ⟨vp_in_nI (show i < 26 by omega) (by decide), ?_⟩
      rw [z1, show (3 : Int32) * nI t = nI (3 * t) from pk_mul 3 t]
      refine xw_join (by omega) z2 ⟨vp_in_nI (show i < 26 by omega) (by decide), nm_e (nm_r (nI_1 i) ?_)⟩
      refine ih (i + 1) n _ _ _ _ _ (by omega) (by omega) (xb_1 I ht ft z2 z3 fun j hj => ⟨(zz j (by omega)).2.2, fun x => by have := zi j i (by omega) hi' x; omega⟩) ?_
      intro j hj
      show upd fan i (nI t) j = nI (if j = i then t else F j)
      rcases Nat.decEq j i with c | c
      · rw [pk_un c, if_neg c]; exact hf j (by omega)
      · rw [c, pk_us, if_pos rfl]
end
end
section
/-- the mesh after an insertion, in its arrays -/
theorem xb_fin {px py pz al0 origin0 twin0 al1 rf rt alive origin tw1 twin : Nat → Int32} {S : Nat → Prop} {p N : Nat} {r Z F : Nat → Nat}
    (M : xm_M px py pz al0 origin0 twin0 S) (hp : p < 14) (N0 : 0 < N)
    (hal : ∀ t, t < 26 → ((¬ al1 t = 0) ↔ (¬ al0 t = 0 ∧ ¬ xm_vis px py pz al0 origin0 p t)))
    (rr : ∀ i, i < N → hr_R (xp_P px py pz) (xp_O origin0) (xp_O twin0) (fun t => ¬ al0 t = 0) (xp_P px py pz p) (r i))
    (cy : ∀ i, i < N → xp_O origin0 (r (if i + 1 = N then 0 else i + 1)) = xp_O origin0 (hn_n (r i)))
    (ri : ∀ i j, i < N → j < N → r i = r j → i = j)
    (rff : ∀ j, j < N → rf j = origin0 (r j) ∧ rt j = origin0 (hn_n (r j))) (zz : ∀ j, j < N → Z j = xp_O twin0 (r j))
    (I : xb_I al1 origin0 twin0 rf rt Z p N F alive origin tw1)
    (tk : ∀ h, (∀ j, j < N → h ≠ 3 * F j + 1 ∧ h ≠ 3 * F j + 2) → twin h = tw1 h)
    (t3 : ∀ j, j < N → twin (3 * F j + 1) = nI (3 * F (if j + 1 = N then 0 else j + 1) + 2) ∧ twin (3 * F (if j + 1 = N then 0 else j + 1) + 2) = nI (3 * F j + 1)) :
    xm_M px py pz alive origin twin (fun x => S x ∨ x = p) := by
  obtain ⟨f1, f2, aa, o1, o2, t1, t2, cn⟩ := I
  have M1 := M.1
  have un : ∀ t, t < 26 → ¬ al0 t = 0 → hm_t (xp_P px py pz) (xp_O origin0) t (xp_P px py pz p) ≤ 0 → ¬ al1 t = 0 := fun t ht a v =>
    (hal t ht).mpr ⟨a, fun x => by have := x.2; omega⟩
  have un' : ∀ t, t < 26 → ¬ al1 t = 0 → ¬ al0 t = 0 ∧ hm_t (xp_P px py pz) (xp_O origin0) t (xp_P px py pz p) ≤ 0 := fun t ht a => by
    obtain ⟨b, c⟩ := (hal t ht).mp a
    exact ⟨b, Int.not_lt.mp fun x => c ⟨b, x⟩⟩
  -- an old half-edge isn't one of the fan's
  have oldF : ∀ h, h < 78 → ¬ al1 (h / 3) = 0 → ∀ j, j < N → h / 3 ≠ F j := fun h _ a j hj e => a (by rw [e]; exact (f1 j hj).2)
  have zr : ∀ j, j < N → Z j < 78 ∧ ¬ al1 (Z j / 3) = 0 ∧ xp_O twin0 (Z j) = r j := by
    intro j hj
    obtain ⟨h1, h2, h3, h4⟩ := rr j hj
    obtain ⟨m1, m2, m3, _⟩ := hm_T M1 h1 h2
    rw [zz j hj]
    exact ⟨m1, un _ (by omega) m2 h4, m3⟩
  have tF : ∀ i, i < N → twin (3 * F i) = nI (Z i) := fun i hi => by
    rw [tk _ fun j _ => ⟨by omega, by omega⟩]; exact (t1 i hi).1
  have tZ : ∀ i, i < N → twin (Z i) = nI (3 * F i) := fun i hi => by
    obtain ⟨z1, z2, _⟩ := zr i hi
    rw [tk _ fun j hj => by have := oldF _ z1 z2 j hj; omega]; exact (t1 i hi).2
  have told : ∀ h, h < 78 → ¬ al1 (h / 3) = 0 → (∀ j, j < N → h ≠ Z j) → twin h = twin0 h := fun h hh a nz => by
    rw [tk _ fun j hj => by have := oldF _ hh a j hj; omega]; exact t2 h hh a nz
  have N' : hw_N (xp_P px py pz) (xp_O origin0) (xp_O twin0) (fun t => ¬ al0 t = 0) p N r F (xp_O origin) (xp_O twin) (fun t => ¬ alive t = 0) := by
    refine ⟨N0, rr, cy, ri, fun i hi => ⟨(f1 i hi).1, fun x => un _ (f1 i hi).1 x.1 x.2 (f1 i hi).2⟩, f2, ?_, ?_, ?_, ?_, ?_, ?_⟩
    · intro t ht
      refine (aa t ht).trans ?_
      constructor
      · rintro (x | x)
        · exact Or.inl (un' t ht x)
        · exact Or.inr x
      · rintro (x | x)
        · exact Or.inl (un t ht x.1 x.2)
        · exact Or.inr x
    · intro i hi
      obtain ⟨x1, x2, x3⟩ := o1 i hi
      obtain ⟨y1, y2⟩ := rff i hi
      unfold xp_O
      rw [x1, x2, x3, y1, y2, nI_clamp (by omega)]
      exact ⟨rfl, rfl, rfl⟩
    · intro h hh a v
      unfold xp_O
      rw [o2 h hh (un _ (by omega) a v)]
    · intro i hi
      obtain ⟨z1, z2, z3⟩ := zr i hi
      have := (f1 i hi).1
      rw [← zz i hi]
      unfold xp_O
      rw [tF i hi, tZ i hi, nI_clamp (by omega), nI_clamp (by omega)]
      exact ⟨rfl, rfl⟩
    · intro i hi
      obtain ⟨x1, x2⟩ := t3 i hi
      have := (f1 i hi).1
      have := (f1 _ (hw_nx hi)).1
      unfold xp_O
      rw [x1, x2, nI_clamp (by omega), nI_clamp (by omega)]
      exact ⟨rfl, rfl⟩
    · intro h hh a v v'
      unfold xp_O
      rw [told h hh (un _ (by omega) a v)]
      intro j hj e
      obtain ⟨_, _, z3⟩ := zr j hj
      rw [e, z3] at v'
      have := (rr j hj).2.2.1
      omega
  refine ⟨hw_M M1 N', ?_, M.2.2.1, ?_⟩
  · intro h hh a
    rcases (aa _ (by omega)).mp a with x | ⟨j, hj, e⟩
    · have a0 := (un' _ (by omega) x).1
      obtain ⟨v1, v2⟩ := M.2.1 h hh a0
      rw [o2 h hh x]
      refine ⟨v1, ?_⟩
      rcases Classical.em (∃ j, j < N ∧ h = Z j) with ⟨j, hj, ez⟩ | nz
      · have := (f1 j hj).1
        rw [ez, tZ j hj]; exact vp_in_nI (by omega) (by decide)
      · rw [told h hh x fun j hj ez => nz ⟨j, hj, ez⟩]; exact v2
    · obtain ⟨x1, x2, x3⟩ := o1 j hj
      obtain ⟨y1, y2⟩ := rff j hj
      obtain ⟨r1, r2, _, _⟩ := rr j hj
      have fj := (f1 j hj).1
      have c : h = 3 * F j ∨ h = 3 * F j + 1 ∨ h = 3 * F j + 2 := by omega
      rcases c with c | c | c
      · rw [c, x1, y1, tF j hj]
        exact ⟨(M.2.1 _ r1 r2).1, vp_in_nI (zr j hj).1 (by decide)⟩
      · have := (f1 _ (hw_nx hj)).1
        rw [c, x2, y2, (t3 j hj).1]
        exact ⟨(M.2.1 _ (hn_lt r1) (by rw [hn_d]; exact r2)).1, vp_in_nI (by omega) (by decide)⟩
      · obtain ⟨i, hi, ei⟩ := hw_pr hj
        have t3i := (t3 i hi).2
        rw [ei] at t3i
        have := (f1 i hi).1
        rw [c, x3, t3i]
        exact ⟨vp_in_nI hp (by decide), vp_in_nI (by omega) (by decide)⟩
  · rintro x (s | s)
    · exact M.2.2.2 x s
    · rw [s]; exact hp
section
variable {f_room f_count f_isSolid f_facetCount f_cornerCount f_edgeCount f_volume : Int32} {a_px a_py a_pz a_alive a_origin a_twin a_sees a_stack a_rimFrom a_rimTo a_rimOuter a_fan a_facetOf a_leader a_planes a_joined : Nat → Int32}
variable {S : Nat → Prop}
theorem xw_fan {post : SX → Prop} {N p : Nat} {Z : Nat → Nat} (hN : N < 26)
    (zz : ∀ j, j < N → a_rimOuter j = nI (Z j) ∧ Z j < 78 ∧ ¬ a_alive (Z j / 3) = 0) (zi : ∀ j k, j < N → k < N → Z j = Z k → j = k)
    (cn : hs_n (fun t => ¬ a_alive t = 0) 26 + N ≤ 26)
    (K : ∀ F alive origin tw1 twin fan, xb_I a_alive a_origin a_twin a_rimFrom a_rimTo Z p N F alive origin tw1 →
      (∀ h, (∀ j, j < N → h ≠ 3 * F j + 1 ∧ h ≠ 3 * F j + 2) → twin h = tw1 h) →
      (∀ j, j < N → twin (3 * F j + 1) = nI (3 * F (if j + 1 = N then 0 else j + 1) + 2) ∧ twin (3 * F (if j + 1 = N then 0 else j + 1) + 2) = nI (3 * F j + 1)) →
      post (f_room, f_count, f_isSolid, f_facetCount, f_cornerCount, f_edgeCount, f_volume, a_px, a_py, a_pz, alive, origin, twin, a_sees, a_stack, a_rimFrom, a_rimTo, a_rimOuter, fan, a_facetOf, a_leader, a_planes, a_joined)) : wpX_buildFan post (f_room, f_count, f_isSolid, f_facetCount, f_cornerCount, f_edgeCount, f_volume, a_px, a_py, a_pz, a_alive, a_origin, a_twin, a_sees, a_stack, a_rimFrom, a_rimTo, a_rimOuter, a_fan, a_facetOf, a_leader, a_planes, a_joined) (nI N) (nI p) := by
  unfold wpX_buildFan
  dsimp only
  refine ⟨N + 1, xw_fan2 hN zz zi cn ?_ N 0 (N + 1) (fun _ => 0) _ _ _ _ (by omega) (by omega) (xb_0 a_alive a_origin a_twin a_rimFrom a_rimTo Z p _) (fun j hj => absurd hj (Nat.not_lt_zero j))⟩
  intro F alive origin tw1 fan I hf
  exact ⟨N + 1, xw_fan62 hN (fun j hj => (I.1 j hj).1) I.2.1 hf (fun h => ∀ j, j < N → h ≠ 3 * F j + 1 ∧ h ≠ 3 * F j + 2) (fun h b => b)
    (fun tw h1 h2 => K F alive origin tw1 tw fan I h1 h2) N 0 (N + 1) tw1 (by omega) (by omega) (fun _ _ => rfl) (fun j hj => absurd hj (Nat.not_lt_zero j))⟩
theorem xw_ins66 {post : SX → Prop} {N p : Nat} {Z : Nat → Nat} (hN : N < 26)
    (zz : ∀ j, j < N → a_rimOuter j = nI (Z j) ∧ Z j < 78 ∧ ¬ a_alive (Z j / 3) = 0 ∧ a_sees (Z j / 3) = 0) (zi : ∀ j k, j < N → k < N → Z j = Z k → j = k)
    (cn : hs_n (fun t => ¬ a_alive t = 0 ∧ a_sees t = 0) 26 + N ≤ 26)
    (K : ∀ F al1 alive origin tw1 twin fan, (∀ t, t < 26 → ((¬ al1 t = 0) ↔ (¬ a_alive t = 0 ∧ a_sees t = 0))) → xb_I al1 a_origin a_twin a_rimFrom a_rimTo Z p N F alive origin tw1 →
      (∀ h, (∀ j, j < N → h ≠ 3 * F j + 1 ∧ h ≠ 3 * F j + 2) → twin h = tw1 h) →
      (∀ j, j < N → twin (3 * F j + 1) = nI (3 * F (if j + 1 = N then 0 else j + 1) + 2) ∧ twin (3 * F (if j + 1 = N then 0 else j + 1) + 2) = nI (3 * F j + 1)) →
      post (f_room, f_count, f_isSolid, f_facetCount, f_cornerCount, f_edgeCount, f_volume, a_px, a_py, a_pz, alive, origin, twin, a_sees, a_stack, a_rimFrom, a_rimTo, a_rimOuter, fan, a_facetOf, a_leader, a_planes, a_joined)) :
    ∀ e i n al, i + e = 26 → e < n → (∀ t, t < 26 → ((¬ al t = 0) ↔ (¬ a_alive t = 0 ∧ ¬ (t < i ∧ ¬ a_sees t = 0)))) →
      wX_insert_66 post (nI p) (nI N) f_room f_count f_isSolid f_facetCount f_cornerCount f_edgeCount f_volume n (nI i) a_px a_py a_pz al a_origin a_twin a_sees a_stack a_rimFrom a_rimTo a_rimOuter a_fan a_facetOf a_leader a_planes a_joined := by
  intro e
  induction e with
  | zero =>
    intro i n al hi hn h
    obtain ⟨n, rfl⟩ : ∃ m, n = m + 1 := ⟨n - 1, by omega⟩
    have : i = 26 := by omega
    subst this
    have h' : ∀ t, t < 26 → ((¬ al t = 0) ↔ (¬ a_alive t = 0 ∧ a_sees t = 0)) := by
      intro t ht
      refine (h t ht).trans ⟨fun x => ⟨x.1, Classical.byContradiction fun c => x.2 ⟨ht, c⟩⟩, fun x => ⟨x.1, fun c => c.2 x.2⟩⟩
    refine br_t (show (26 : Int32) ≤ nI 26 from nI_le (a := 26) (b := 26) (Nat.le_refl 26) (by decide)) (xw_fan hN (fun j hj => ?_) zi ?_ (fun F alive origin tw1 twin fan I k1 k2 => K F al alive origin tw1 twin fan h' I k1 k2))
    · obtain ⟨z1, z2, z3, z4⟩ := zz j hj
      exact ⟨z1, z2, (h' _ (by omega)).mpr ⟨z3, z4⟩⟩
    · rw [hs_ncg h']; exact cn
  | succ e ih =>
    intro i n al hi hn h
    obtain ⟨n, rfl⟩ : ∃ m, n = m + 1 := ⟨n - 1, by omega⟩
    have hi' : i < 26 := by omega
    unfold wX_insert_66
    rw [nI_clamp (show i < 2 ^ 31 by omega), xp_b0]
    refine br_f (nI_ge (b := 26) hi' (by decide)) ⟨vp_in_nI hi' (by decide), br_c (fun z => nm_r (nI_1 i) (ih (i + 1) n al (by omega) (by omega) ?_)) (fun z => ⟨vp_in_nI hi' (by decide), nm_e (nm_r (nI_1 i) (ih (i + 1) n _ (by omega) (by omega) ?_))⟩)⟩
    · intro t ht
      refine (h t ht).trans ⟨fun x => ⟨x.1, fun c => x.2 ⟨?_, c.2⟩⟩, fun x => ⟨x.1, fun c => x.2 ⟨by omega, c.2⟩⟩⟩
      rcases Nat.lt_or_ge t i with d | d
      · exact d
      · exact absurd z (by rw [show i = t by omega]; exact c.2)
    · intro t ht
      rcases Nat.decEq t i with c | c
      · rw [pk_un c]
        exact (h t ht).trans ⟨fun x => ⟨x.1, fun d => x.2 ⟨by omega, d.2⟩⟩, fun x => ⟨x.1, fun d => x.2 ⟨by omega, d.2⟩⟩⟩
      · rw [c, pk_us]
        exact ⟨fun x => absurd rfl x, fun x => absurd ⟨by omega, z⟩ x.2⟩
theorem xw_ins4 {post : SX → Prop} (M : xm_M a_px a_py a_pz a_alive a_origin a_twin S) {p c : Nat} (hp : p < 14)
    (cn : hs_n (fun t => ¬ a_alive t = 0) 26 + 4 ≤ 2 * (c : Int)) (hc : c ≤ 13)
    (K : ∀ alive origin twin sees stack rf rt ro fan, xm_M a_px a_py a_pz alive origin twin (fun x => S x ∨ x = p) → hs_n (fun t => ¬ alive t = 0) 26 + 4 ≤ 2 * ((c + 1 : Nat) : Int) →
      post (f_room, f_count, f_isSolid, f_facetCount, f_cornerCount, f_edgeCount, f_volume, a_px, a_py, a_pz, alive, origin, twin, sees, stack, rf, rt, ro, fan, a_facetOf, a_leader, a_planes, a_joined)) :
    ∀ e i n sees x2, i + e = 26 → e < n → (∀ t, t < i → sees t = 0) →
      ((x2 = -1 ∧ ∀ t, t < i → ¬ xm_vis a_px a_py a_pz a_alive a_origin p t) ∨ (∃ s, s < i ∧ x2 = nI s ∧ xm_vis a_px a_py a_pz a_alive a_origin p s)) →
      wX_insert_4 post (nI p) f_room f_count f_isSolid f_facetCount f_cornerCount f_edgeCount f_volume n x2 (nI i) a_px a_py a_pz a_alive a_origin a_twin sees a_stack a_rimFrom a_rimTo a_rimOuter a_fan a_facetOf a_leader a_planes a_joined := by
  intro e
  induction e with
  | zero =>
    intro i n sees x2 hi hn hz hx
    obtain ⟨n, rfl⟩ : ∃ m, n = m + 1 := ⟨n - 1, by omega⟩
    have : i = 26 := by omega
    subst this
    refine br_t (show (26 : Int32) ≤ nI 26 from nI_le (a := 26) (b := 26) (Nat.le_refl 26) (by decide)) ?_
    rcases hx with ⟨e1, nv⟩ | ⟨s, hs, e1, vs⟩
    · rw [e1]
      refine br_f (by decide) (K a_alive a_origin a_twin sees a_stack a_rimFrom a_rimTo a_rimOuter a_fan ⟨hw_no M.1 fun t ht a => ?_, M.2.1, M.2.2.1, ?_⟩ (by omega))
      · exact Int.not_lt.mp fun x => nv t ht ⟨a, x⟩
      · rintro x (s | s)
        · exact M.2.2.2 x s
        · rw [s]; exact hp
    · rw [e1]
      refine br_t (nI_pos' (by omega)) (xw_flood M hp hs vs hz fun sees' stack' hR cb => ?_)
      have vle : hs_n (fun u => ¬ sees' u = 0) 26 ≤ hs_n (fun t => ¬ a_alive t = 0) 26 := hs_nmono fun t ht x => ((hR t ht).mp x).1
      refine xw_walk (a_sees := sees') M hR (by omega) cb hs vs fun N r rf rt ro N0 hN Nb rr cy ri rff => ⟨27, ?_⟩
      have split : hs_n (fun t => ¬ a_alive t = 0 ∧ sees' t = 0) 26 + hs_n (fun u => ¬ sees' u = 0) 26 = hs_n (fun t => ¬ a_alive t = 0) 26 := by
        unfold hs_n
        rw [← hs_add]
        refine hs_cg fun t ht => ?_
        show hs_i (¬ a_alive t = 0 ∧ sees' t = 0) + hs_i (¬ sees' t = 0) = hs_i (¬ a_alive t = 0)
        rcases Classical.em (sees' t = 0) with d | d
        · rw [hs_if (p := ¬ sees' t = 0) (fun x => x d), hs_iff (show (¬ a_alive t = 0 ∧ sees' t = 0) ↔ ¬ a_alive t = 0 from ⟨fun x => x.1, fun x => ⟨x, d⟩⟩)]; omega
        · rw [hs_it (p := ¬ sees' t = 0) d, hs_it (p := ¬ a_alive t = 0) ((hR t ht).mp d).1, hs_if (p := ¬ a_alive t = 0 ∧ sees' t = 0) (fun x => d x.2)]; omega
      have tr : ∀ j, j < N → xp_O a_twin (r j) < 78 ∧ a_twin (r j) = nI (xp_O a_twin (r j)) ∧ ¬ a_alive (xp_O a_twin (r j) / 3) = 0 ∧ sees' (xp_O a_twin (r j) / 3) = 0 ∧ xp_O a_twin (xp_O a_twin (r j)) = r j := by
        intro j hj
        obtain ⟨h1, h2, h3, h4⟩ := rr j hj
        obtain ⟨m1, m2, m3, _⟩ := hm_T M.1 h1 h2
        refine ⟨m1, (xm_t M h1 h2).1, m2, Classical.byContradiction fun x => ?_, m3⟩
        have := ((hR _ (by omega)).mp x).2
        omega
      refine xw_ins66 (a_alive := a_alive) (a_sees := sees') (a_rimOuter := ro) (Z := fun j => xp_O a_twin (r j)) hN ?_ ?_ (by omega) ?_ 26 0 27 a_alive (by omega) (by omega) ?_
      · intro j hj
        obtain ⟨h1, h2, h3, h4, _⟩ := tr j hj
        exact ⟨by rw [(rff j hj).2.2]; exact h2, h1, h3, h4⟩
      · intro j k hj hk e2
        have e3 : xp_O a_twin (r j) = xp_O a_twin (r k) := e2
        refine ri j k hj hk ?_
        rw [← (tr j hj).2.2.2.2, e3, (tr k hk).2.2.2.2]
      · intro F al1 alive origin tw1 twin fan hal I k1 k2
        refine K alive origin twin sees' stack' rf rt ro fan ?_ ?_
        · refine xb_fin M hp N0 ?_ rr cy ri (fun j hj => ⟨(rff j hj).1, (rff j hj).2.1⟩) (fun _ _ => rfl) I k1 k2
          intro t ht
          refine (hal t ht).trans ⟨fun x => ⟨x.1, fun v => (hR t ht).mpr v x.2⟩, fun x => ⟨x.1, Classical.byContradiction fun d => x.2 ((hR t ht).mp d)⟩⟩
        · have c1 := I.2.2.2.2.2.2.2
          rw [hs_ncg hal] at c1
          omega
      · intro t ht
        exact ⟨fun x => ⟨x, fun d => absurd d.1 (Nat.not_lt_zero t)⟩, fun x => x.1⟩
  | succ e ih =>
    intro i n sees x2 hi hn hz hx
    obtain ⟨n, rfl⟩ : ∃ m, n = m + 1 := ⟨n - 1, by omega⟩
    have hi' : i < 26 := by omega
    have hz' : ∀ t, t < i + 1 → upd sees i 0 t = 0 := by
      intro t ht
      rcases Nat.decEq t i with d | d
      · rw [pk_un d]; exact hz t (by omega)
      · rw [d, pk_us]
    unfold wX_insert_4
    rw [nI_clamp (show i < 2 ^ 31 by omega), xp_b0]
    refine br_f (nI_ge (b := 26) hi' (by decide)) ⟨vp_in_nI hi' (by decide), nm_e ?_⟩
    rcases hx with ⟨e1, nv⟩ | ⟨s, hs, e1, vs⟩
    · have nv' : ¬ xm_vis a_px a_py a_pz a_alive a_origin p i → ∀ t, t < i + 1 → ¬ xm_vis a_px a_py a_pz a_alive a_origin p t := by
        intro ni t ht
        rcases Nat.lt_or_ge t i with d | d
        · exact nv t d
        · rw [show t = i by omega]; exact ni
      subst e1
      refine br_f (by decide) ⟨vp_in_nI hi' (by decide), br_c (fun z => nm_r (nI_1 i) (ih (i + 1) n _ _ (by omega) (by omega) hz' (Or.inl ⟨rfl, nv' fun v => v.1 z⟩))) (fun z => ?_)⟩
      refine xw_hop hi' hp (xm_o M hi' z) M.2.2.1 fun q hq => br_c (fun z2 => nm_r (nI_1 i) (ih (i + 1) n _ _ (by omega) (by omega) hz' (Or.inl ⟨rfl, nv' fun v => ?_⟩)))
        (fun z2 => nm_r (nI_1 i) (ih (i + 1) n _ _ (by omega) (by omega) hz' (Or.inr ⟨i, by omega, rfl, z, ?_⟩)))
      · have := v.2
        rw [← hq] at this
        rw [xp_le0] at z2
        omega
      · rw [← hq]
        rw [xp_le0] at z2
        omega
    · subst e1
      exact br_t (nI_pos' (by omega)) (nm_r (nI_1 i) (ih (i + 1) n _ _ (by omega) (by omega) hz' (Or.inr ⟨s, by omega, rfl, vs⟩)))
theorem xw_insert {post : SX → Prop} (M : xm_M a_px a_py a_pz a_alive a_origin a_twin S) {p c : Nat} (hp : p < 14)
    (cn : hs_n (fun t => ¬ a_alive t = 0) 26 + 4 ≤ 2 * (c : Int)) (hc : c ≤ 13)
    (K : ∀ alive origin twin sees stack rf rt ro fan, xm_M a_px a_py a_pz alive origin twin (fun x => S x ∨ x = p) → hs_n (fun t => ¬ alive t = 0) 26 + 4 ≤ 2 * ((c + 1 : Nat) : Int) →
      post (f_room, f_count, f_isSolid, f_facetCount, f_cornerCount, f_edgeCount, f_volume, a_px, a_py, a_pz, alive, origin, twin, sees, stack, rf, rt, ro, fan, a_facetOf, a_leader, a_planes, a_joined)) :
    wpX_insert post (f_room, f_count, f_isSolid, f_facetCount, f_cornerCount, f_edgeCount, f_volume, a_px, a_py, a_pz, a_alive, a_origin, a_twin, a_sees, a_stack, a_rimFrom, a_rimTo, a_rimOuter, a_fan, a_facetOf, a_leader, a_planes, a_joined) (nI p) := by
  unfold wpX_insert
  dsimp only
  exact ⟨27, xw_ins4 M hp cn hc K 26 0 27 a_sees (-1) (by omega) (by omega) (fun t ht => absurd ht (Nat.not_lt_zero t)) (Or.inl ⟨rfl, fun t ht => absurd ht (Nat.not_lt_zero t)⟩)⟩
end
end
section
/-! counting bits -/
def xc_n (f : Nat → Bool) : Nat → Nat
  | 0 => 0
  | n + 1 => xc_n f n + (if f n then 1 else 0)
theorem xc_i (f : Nat → Bool) : ∀ n, (xc_n f n : Int) = hs_n (fun i => f i = true) n
  | 0 => rfl
  | n + 1 => by
    have e : hs_n (fun i => f i = true) (n + 1) = hs_n (fun i => f i = true) n + hs_i (f n = true) := rfl
    rw [e, ← xc_i f n]
    show ((xc_n f n + (if f n then 1 else 0) : Nat) : Int) = _
    by_cases c : f n = true
    · rw [hs_it c, if_pos c]; omega
    · rw [hs_if c, if_neg c]; omega
theorem xc_le (f : Nat → Bool) : ∀ n, xc_n f n ≤ n
  | 0 => Nat.le_refl 0
  | n + 1 => by
    have := xc_le f n
    show xc_n f n + (if f n then 1 else 0) ≤ n + 1
    split <;> omega
theorem xc_cg {f g : Nat → Bool} : ∀ {n : Nat}, (∀ i, i < n → f i = g i) → xc_n f n = xc_n g n
  | 0, _ => rfl
  | n + 1, h => by
    show xc_n f n + (if f n then 1 else 0) = xc_n g n + (if g n then 1 else 0)
    rw [xc_cg (fun i hi => h i (Nat.lt_succ_of_lt hi)), h n (Nat.lt_succ_self n)]
theorem xc_b1 : ∀ i, i < 32 → bt 1 i = decide (i = 0) := by decide +kernel
theorem xc_nI (b : Bool) : (if b then nI 1 else nI 0) = nI (if b then 1 else 0) := by cases b <;> rfl
/-- one bit -/
theorem xc_bit (x : Int32) {i : Nat} (hi : i < 32) :
    ((x.toUInt32 >>> ((nI i).toUInt32 &&& Int32.toUInt32 31)).toInt32 &&& 1) = nI (if bt x i then 1 else 0) := by
  apply b_ext
  intro j hj
  rw [b_and, b_ushr i hi, xc_b1 j hj]
  rcases Nat.eq_zero_or_pos j with c | c
  · subst c
    rw [Nat.add_zero]
    cases h : bt x i
    · rfl
    · rfl
  · have e : decide (j = 0) = false := decide_eq_false (by omega)
    rw [e, Bool.and_false]
    cases h : bt x i
    · exact (b_0 j).symm
    · have := xc_b1 j hj
      rw [e] at this
      exact this.symm
theorem xc_bit0 (x : Int32) {i : Nat} (hi : i < 32) :
    ((x.toUInt32 >>> ((nI i).toUInt32 &&& Int32.toUInt32 31)).toInt32 &&& 1) = 0 ↔ bt x i = false := by
  rw [xc_bit x hi]
  cases h : bt x i
  · exact ⟨fun _ => rfl, fun _ => rfl⟩
  · exact ⟨fun k => absurd k (by decide), fun k => by cases k⟩
/-- the same by the shift that keeps the sign -/
theorem xc_sbit (x : Int32) {i : Nat} (hi : i < 32) : ((x >>> (nI i &&& 31)) &&& 1) = 1 ↔ bt x i = true := by
  have e : ((x >>> (nI i &&& 31)) &&& 1) = nI (if bt x i then 1 else 0) := by
    apply b_ext
    intro j hj
    rw [b_and, b_sshr i hi x hj, xc_b1 j hj]
    rcases Nat.eq_zero_or_pos j with c | c
    · subst c
      rw [Nat.add_zero, if_pos hi]
      cases h : bt x i
      · rfl
      · rfl
    · have e : decide (j = 0) = false := decide_eq_false (by omega)
      rw [e, Bool.and_false]
      cases h : bt x i
      · exact (b_0 j).symm
      · have := xc_b1 j hj
        rw [e] at this
        exact this.symm
  rw [e]
  cases h : bt x i
  · exact ⟨fun k => absurd k (by decide), fun k => by cases k⟩
  · exact ⟨fun _ => rfl, fun _ => rfl⟩
/-- one bit more -/
theorem xc_put (x : Int32) {f : Nat} (hf : f < 32) {j : Nat} (hj : j < 32) : bt (x ||| ((1 : Int32) <<< (nI f &&& 31))) j = (bt x j || decide (j = f)) := by
  rw [b_or, b_shl f hf 1 hj]
  rcases Nat.lt_or_ge j f with c | c
  · rw [decide_eq_false (show ¬ f ≤ j by omega), decide_eq_false (show ¬ j = f by omega), Bool.false_and]
  · rw [decide_eq_true (show f ≤ j by omega), xc_b1 (j - f) (by omega), Bool.true_and]
    congr 1
    rcases Nat.decEq j f with d | d
    · rw [decide_eq_false d, decide_eq_false (by omega)]
    · rw [decide_eq_true d, decide_eq_true (by omega)]
theorem xw_size4 {post : Int32 → Prop} {x : Int32} (K : post (nI (xc_n (bt x) 26))) :
    ∀ e i n, i + e = 26 → e < n → wX_sizeOf_4 post x n (nI (xc_n (bt x) i)) (nI i) := by
  intro e
  induction e with
  | zero =>
    intro i n hi hn
    obtain ⟨n, rfl⟩ : ∃ m, n = m + 1 := ⟨n - 1, by omega⟩
    have : i = 26 := by omega
    subst this
    exact br_t (show (26 : Int32) ≤ nI 26 from nI_le (a := 26) (b := 26) (Nat.le_refl 26) (by decide)) K
  | succ e ih =>
    intro i n hi hn
    obtain ⟨n, rfl⟩ : ∃ m, n = m + 1 := ⟨n - 1, by omega⟩
    unfold wX_sizeOf_4
    rw [xc_bit x (by omega), nI_add]
    exact br_f (nI_ge (b := 26) (by omega) (by decide)) (nm_e (nm_r (nI_1 i) (ih (i + 1) n (by omega) (by omega))))
theorem xw_size {post : Int32 → Prop} {x : Int32} (K : post (nI (xc_n (bt x) 26))) : wpX_sizeOf post x := by
  unfold wpX_sizeOf
  exact ⟨27, xw_size4 K 26 0 27 (by omega) (by omega)⟩
section
variable {f_room f_count f_isSolid f_facetCount f_cornerCount f_edgeCount f_volume : Int32} {a_px a_py a_pz a_alive a_origin a_twin a_sees a_stack a_rimFrom a_rimTo a_rimOuter a_fan a_facetOf a_leader a_planes a_joined : Nat → Int32}
variable {S : Nat → Prop}
theorem xw_isCorner {post : Int32 → Prop} {p : Nat} (hp : p < 14) (K1 : 3 ≤ xc_n (bt (a_planes p)) 26 → post 1) (K0 : ¬ 3 ≤ xc_n (bt (a_planes p)) 26 → post 0) :
    wpX_isCorner post (f_room, f_count, f_isSolid, f_facetCount, f_cornerCount, f_edgeCount, f_volume, a_px, a_py, a_pz, a_alive, a_origin, a_twin, a_sees, a_stack, a_rimFrom, a_rimTo, a_rimOuter, a_fan, a_facetOf, a_leader, a_planes, a_joined) (nI p) := by
  unfold wpX_isCorner
  dsimp only
  rw [nI_clamp (show p < 2 ^ 31 by omega)]
  refine ⟨vp_in_nI hp (by decide), xw_size ?_⟩
  have := xc_le (bt (a_planes p)) 26
  exact pk_lt _ 3 (fun c => K0 (by omega)) (fun c => K1 c)
theorem xw_makeEdge {post : Int32 → Prop} {a b : Nat} (ha : a < 14) (hb : b < 14)
    (K1 : a ≠ b → 3 ≤ xc_n (bt (a_planes a)) 26 → 3 ≤ xc_n (bt (a_planes b)) 26 → 2 ≤ xc_n (bt (a_planes a &&& a_planes b)) 26 → post 1)
    (K0 : ¬ (a ≠ b ∧ 3 ≤ xc_n (bt (a_planes a)) 26 ∧ 3 ≤ xc_n (bt (a_planes b)) 26 ∧ 2 ≤ xc_n (bt (a_planes a &&& a_planes b)) 26) → post 0) :
    wpX_makeEdge post (f_room, f_count, f_isSolid, f_facetCount, f_cornerCount, f_edgeCount, f_volume, a_px, a_py, a_pz, a_alive, a_origin, a_twin, a_sees, a_stack, a_rimFrom, a_rimTo, a_rimOuter, a_fan, a_facetOf, a_leader, a_planes, a_joined) (nI a) (nI b) := by
  unfold wpX_makeEdge
  dsimp only
  refine pk_eq a b (fun c => K0 fun k => k.1 c) (fun c => xw_isCorner ha (fun c1 => br_f (by decide) (xw_isCorner hb (fun c2 => br_f (by decide) ?_) (fun c2 => br_t rfl (K0 fun k => c2 k.2.2.1)))) (fun c1 => br_t rfl (K0 fun k => c1 k.2.1)))
  rw [nI_clamp (show a < 2 ^ 31 by omega), nI_clamp (show b < 2 ^ 31 by omega)]
  refine ⟨vp_in_nI ha (by decide), vp_in_nI hb (by decide), xw_size ?_⟩
  have := xc_le (bt (a_planes a &&& a_planes b)) 26
  exact pk_lt _ 2 (fun c3 => K0 fun k => by have := k.2.2.2; omega) (fun c3 => K1 c c1 c2 c3)
end
end
section
/-- in the plane of s -/
def xm_cop (px py pz alive origin : Nat → Int32) (s t : Nat) : Prop := ¬ alive t = 0 ∧ hm_C (xp_P px py pz) (xp_O origin) s t
/-- the three corners of a triangle by one of its half-edges -/
theorem xm_C3 {P : Nat → hu_V} {O : Nat → Nat} {s h : Nat} : hm_C P O s (h / 3) ↔ (hm_t P O s (P (O h)) = 0 ∧ hm_t P O s (P (O (hn_n h))) = 0 ∧ hm_t P O s (P (O (hn_n (hn_n h)))) = 0) := by
  obtain ⟨t, e, c⟩ := hn_c h
  rw [e]
  constructor
  · intro z
    have z0 := z 0 (by omega)
    have z1 := z 1 (by omega)
    have z2 := z 2 (by omega)
    rw [Nat.add_zero] at z0
    rcases c with c | c | c
    · rw [c, hn_0, hn_1]; exact ⟨z0, z1, z2⟩
    · rw [c, hn_1, hn_2]; exact ⟨z1, z2, z0⟩
    · rw [c, hn_2, hn_0]; exact ⟨z2, z0, z1⟩
  · rintro ⟨z1, z2, z3⟩ k hk
    have ck : k = 0 ∨ k = 1 ∨ k = 2 := by omega
    rcases c with c | c | c
    · rw [c, hn_0] at z2; rw [c, hn_0, hn_1] at z3; rw [c] at z1
      rcases ck with ck | ck | ck
      · rw [ck]; exact z1
      · rw [ck]; exact z2
      · rw [ck]; exact z3
    · rw [c, hn_1] at z2; rw [c, hn_1, hn_2] at z3; rw [c] at z1
      rcases ck with ck | ck | ck
      · rw [ck]; exact z3
      · rw [ck]; exact z1
      · rw [ck]; exact z2
    · rw [c, hn_2] at z2; rw [c, hn_2, hn_0] at z3; rw [c] at z1
      rcases ck with ck | ck | ck
      · rw [ck]; exact z2
      · rw [ck]; exact z3
      · rw [ck]; exact z1
theorem xm_pv {h : Nat} (hh : h < 78) : (h % 3 = 0 → h + 2 = hn_n (hn_n h)) ∧ (h % 3 ≠ 0 → h - 1 = hn_n (hn_n h)) := by
  obtain ⟨t, e, c⟩ := hn_c h
  rcases c with c | c | c
  · rw [c, hn_0, hn_1]; exact ⟨fun _ => rfl, fun k => by omega⟩
  · rw [c, hn_1, hn_2]; exact ⟨fun k => by omega, fun _ => by omega⟩
  · rw [c, hn_2, hn_0]; exact ⟨fun k => by omega, fun _ => by omega⟩
section
variable {f_room f_count f_isSolid f_facetCount f_cornerCount f_edgeCount f_volume : Int32} {a_px a_py a_pz a_alive a_origin a_twin a_sees a_stack a_rimFrom a_rimTo a_rimOuter a_fan a_facetOf a_leader a_planes a_joined : Nat → Int32}
variable {S : Nat → Prop}
theorem xw_ff44 {post : SX → Prop} {J19 : Int32 → Int32 → (Nat → Int32) → (Nat → Int32) → (Nat → Int32) → (Nat → Int32) → (Nat → Int32) → (Nat → Int32) → (Nat → Int32) → (Nat → Int32) → (Nat → Int32) → (Nat → Int32) → (Nat → Int32) → (Nat → Int32) → (Nat → Int32) → (Nat → Int32) → (Nat → Int32) → (Nat → Int32) → Prop}
    (M : xm_M a_px a_py a_pz a_alive a_origin a_twin S) {s f t step : Nat} {fo0 : Nat → Int32} (hs : s < 26) (as : ¬ a_alive s = 0) (hf : f < 26) (ht : t < 26) (hst : step < 26)
    (H0 : ∀ u, u < 26 → ¬ a_alive u = 0 → 0 ≤ fo0 u → ¬ hm_C (xp_P a_px a_py a_pz) (xp_O a_origin) s u)
    (hJ : ∀ fo stack depth, xf_J (xm_cop a_px a_py a_pz a_alive a_origin s) (xp_O a_twin) (fun u => fo u = nI f) stack depth (step + 1 + depth) (fun _ _ => False) → fo s = nI f →
      (∀ u, u < 26 → fo u = nI f ∨ fo u = fo0 u) → J19 (nI depth) (nI (step + 1)) a_px a_py a_pz a_alive a_origin a_twin a_sees stack a_rimFrom a_rimTo a_rimOuter a_fan fo a_leader a_planes a_joined) :
    ∀ e k n fo stack depth, k + e = 3 → e < n →
      xf_J (xm_cop a_px a_py a_pz a_alive a_origin s) (xp_O a_twin) (fun u => fo u = nI f) stack depth (step + 1 + depth) (fun u j => u = t ∧ k ≤ j) → fo t = nI f → fo s = nI f →
      (∀ u, u < 26 → fo u = nI f ∨ fo u = fo0 u) →
      wX_floodFacet_44 post J19 (nI s) (nI f) (nI step) (nI t) f_room f_count f_isSolid f_facetCount f_cornerCount f_edgeCount f_volume n (nI depth) (nI k) a_px a_py a_pz a_alive a_origin a_twin a_sees stack a_rimFrom a_rimTo a_rimOuter a_fan fo a_leader a_planes a_joined := by
  intro e
  induction e with
  | zero =>
    intro k n fo stack depth hk hn J rt rs hfo
    obtain ⟨n, rfl⟩ : ∃ m, n = m + 1 := ⟨n - 1, by omega⟩
    have : k = 3 := by omega
    subst this
    exact br_t (show (3 : Int32) ≤ nI 3 from nI_le (a := 3) (b := 3) (Nat.le_refl 3) (by decide)) (nm_r (nI_1 step) (hJ fo stack depth (xf_end J) rs hfo))
  | succ e ih =>
    intro k n fo stack depth hk hn J rt rs hfo
    obtain ⟨n, rfl⟩ : ∃ m, n = m + 1 := ⟨n - 1, by omega⟩
    have tot := xf_tot J
    obtain ⟨at', ct⟩ := J.1 t ht rt
    have hh : 3 * t + k < 78 := by omega
    have e3 : (3 * t + k) / 3 = t := by omega
    obtain ⟨tw, tl⟩ := xm_t M hh (by rw [e3]; exact at')
    obtain ⟨m1, m2, m3, m4, m5⟩ := hm_T M.1 hh (by rw [e3]; exact at')
    have e1 : (3 : Int32) * nI t + nI k = nI (3 * t + k) := by rw [show (3 : Int32) * nI t = nI (3 * t) from pk_mul 3 t, nI_add]
    have hu : xp_O a_twin (3 * t + k) / 3 < 26 := by omega
    have ct' := xm_C3.mp (show hm_C (xp_P a_px a_py a_pz) (xp_O a_origin) s ((3 * t + k) / 3) by rw [e3]; exact ct)
    unfold wX_floodFacet_44
    rw [e1, nI_clamp (show 3 * t + k < 2 ^ 31 by omega)]
    refine br_f (nI_ge (b := 3) (by omega) (by decide)) ⟨vp_in_nI hh (by decide), nm_r tw ⟨by decide, ?_⟩⟩
    generalize hov : xp_O a_twin (3 * t + k) = ov at m1 m2 m3 m4 m5 tl hu tw ⊢
    have e2 : nI ov / 3 = nI (ov / 3) := pk_div (d := 3) (by omega) (by omega) (by decide)
    have e4 : nI ov - nI ov / 3 * 3 = nI (ov % 3) := pk_rem (d := 3) (by omega) (by omega) (by decide)
    refine nm_r e2 ⟨by decide, ?_⟩
    rw [e4]
    -- the join
    have step1 : ∀ z0, z0 = nI (hn_n (hn_n ov)) → wX_floodFacet_92 post J19 (wX_floodFacet_44 post J19 (nI s) (nI f) (nI step) (nI t) f_room f_count f_isSolid f_facetCount f_cornerCount f_edgeCount f_volume n) (nI s) (nI f) (nI depth) (nI step) (nI t) (nI k) (nI (ov / 3)) z0 f_room f_count f_isSolid f_facetCount f_cornerCount f_edgeCount f_volume a_px a_py a_pz a_alive a_origin a_twin a_sees stack a_rimFrom a_rimTo a_rimOuter a_fan fo a_leader a_planes a_joined := by
      intro z0 ez
      subst ez
      have hp := hn_lt (hn_lt m1)
      have ap : ¬ a_alive (hn_n (hn_n ov) / 3) = 0 := by rw [hn_d, hn_d]; exact m2
      obtain ⟨or1, or2⟩ := xm_or M hp ap
      unfold wX_floodFacet_92
      rw [nI_clamp (show hn_n (hn_n ov) < 2 ^ 31 by omega), nI_clamp (show ov / 3 < 2 ^ 31 by omega)]
      refine ⟨vp_in_nI hp (by decide), nm_r or1 ⟨vp_in_nI hu (by decide), br_c (fun z => nm_r (nI_1 k) ?_) (fun z => ?_)⟩⟩
      · -- numbered already
        refine ih (k + 1) n fo stack depth (by omega) (by omega) (xf_skip J ?_) rt rs hfo
        rw [hov]
        intro v
        rcases hfo _ hu with c | c
        · exact c
        · rw [c] at z
          exact absurd v.2 (H0 _ hu m2 z)
      · refine xw_hop hs or2 (xm_o M hs as) M.2.2.1 fun r hr => br_c (fun z2 => ⟨vp_in_nI hu (by decide), nm_e ⟨vp_in_nI (show depth < 80 by omega) (by decide), nm_e (nm_r (nI_1 depth) (nm_r (nI_1 k) ?_))⟩⟩) (fun z2 => nm_r (nI_1 k) ?_)
        · rw [nI_clamp (show depth < 2 ^ 31 by omega)]
          have vu : xm_cop a_px a_py a_pz a_alive a_origin s (ov / 3) := by
            refine ⟨m2, xm_C3.mpr ⟨?_, ?_, ?_⟩⟩
            · rw [m4]; exact ct'.2.1
            · rw [m5]; exact ct'.1
            · rw [← hr]; exact xp_eq0.mp z2
          have nu : ¬ fo (ov / 3) = nI f := fun c => z (by rw [c]; exact nI_pos' (by omega))
          have hR : ∀ i, i < 26 → ((upd fo (ov / 3) (nI f) i = nI f) ↔ (fo i = nI f ∨ i = ov / 3)) := by
            intro i _
            rcases Nat.decEq i (ov / 3) with c | c
            · rw [pk_un c]
              exact ⟨Or.inl, fun x => x.resolve_right c⟩
            · rw [c, pk_us]
              exact ⟨fun _ => Or.inr rfl, fun _ => rfl⟩
          have J' := xf_push (R' := fun u => upd fo (ov / 3) (nI f) u = nI f) J ht (show k < 3 by omega) rt (by rw [hov]) hu (by rw [hov]; exact tl) (by rw [hov]; exact m3) nu vu hR (fun h hh' r => by
            have r' : ¬ a_alive (h / 3) = 0 := by
              rcases (hR _ (by omega)).mp r with r | r
              · exact (J.1 _ (by omega) r).1
              · rw [r]; exact m2
            have := (hm_T M.1 hh' r').1
            omega)
          rw [show step + 1 + depth + 1 = step + 1 + (depth + 1) by omega] at J'
          refine ih (k + 1) n _ _ (depth + 1) (by omega) (by omega) J' ((hR t ht).mpr (Or.inl rt)) ((hR s hs).mpr (Or.inl rs)) ?_
          intro u hu'
          rcases Nat.decEq u (ov / 3) with c | c
          · rw [pk_un c]; exact hfo u hu'
          · rw [c, pk_us]; exact Or.inl rfl
        · refine ih (k + 1) n fo stack depth (by omega) (by omega) (xf_skip J ?_) rt rs hfo
          rw [hov]
          intro v
          have := (xm_C3.mp v.2).2.2
          exact absurd (xp_eq0.mpr (hr.trans this)) z2
    obtain ⟨pv1, pv2⟩ := xm_pv m1
    refine pk_eq (ov % 3) 0 (fun c => step1 _ ?_) (fun c => step1 _ ?_)
    · rw [← pv1 c]; exact nI_add ov 2
    · rw [← pv2 c]; exact pk_sub (b := 1) (by omega)
theorem xw_ff19 {post : SX → Prop} (M : xm_M a_px a_py a_pz a_alive a_origin a_twin S) {s f : Nat} {fo0 : Nat → Int32} (hs : s < 26) (as : ¬ a_alive s = 0) (hf : f < 26)
    (H0 : ∀ u, u < 26 → ¬ a_alive u = 0 → 0 ≤ fo0 u → ¬ hm_C (xp_P a_px a_py a_pz) (xp_O a_origin) s u)
    (K : ∀ fo stack tot, xf_J (xm_cop a_px a_py a_pz a_alive a_origin s) (xp_O a_twin) (fun u => fo u = nI f) stack 0 tot (fun _ _ => False) → fo s = nI f →
      (∀ u, u < 26 → fo u = nI f ∨ fo u = fo0 u) → post (f_room, f_count, f_isSolid, f_facetCount, f_cornerCount, f_edgeCount, f_volume, a_px, a_py, a_pz, a_alive, a_origin, a_twin, a_sees, stack, a_rimFrom, a_rimTo, a_rimOuter, a_fan, fo, a_leader, a_planes, a_joined)) :
    ∀ e step n fo stack depth, step + e = 26 → e < n →
      xf_J (xm_cop a_px a_py a_pz a_alive a_origin s) (xp_O a_twin) (fun u => fo u = nI f) stack depth (step + depth) (fun _ _ => False) → fo s = nI f →
      (∀ u, u < 26 → fo u = nI f ∨ fo u = fo0 u) →
      wX_floodFacet_19 post (nI s) (nI f) f_room f_count f_isSolid f_facetCount f_cornerCount f_edgeCount f_volume n (nI depth) (nI step) a_px a_py a_pz a_alive a_origin a_twin a_sees stack a_rimFrom a_rimTo a_rimOuter a_fan fo a_leader a_planes a_joined := by
  intro e
  induction e with
  | zero =>
    intro step n fo stack depth hk hn J rs hfo
    obtain ⟨n, rfl⟩ : ∃ m, n = m + 1 := ⟨n - 1, by omega⟩
    have tot := xf_tot J
    have : step = 26 := by omega
    subst this
    have d0 : depth = 0 := by omega
    subst d0
    exact br_t (show (26 : Int32) ≤ nI 26 from nI_le (a := 26) (b := 26) (Nat.le_refl 26) (by decide)) (K fo stack _ J rs hfo)
  | succ e ih =>
    intro step n fo stack depth hk hn J rs hfo
    obtain ⟨n, rfl⟩ : ∃ m, n = m + 1 := ⟨n - 1, by omega⟩
    have tot := xf_tot J
    unfold wX_floodFacet_19
    refine br_f (nI_ge (b := 26) (by omega) (by decide)) ?_
    rcases Nat.eq_zero_or_pos depth with d0 | d0
    · subst d0
      exact br_t (show nI 0 ≤ 0 from nI_le (a := 0) (b := 0) (Nat.le_refl 0) (by decide)) (K fo stack _ J rs hfo)
    · obtain ⟨d, rfl⟩ : ∃ d, depth = d + 1 := ⟨depth - 1, by omega⟩
      obtain ⟨w, hw, ew, rw'⟩ := J.2.1 d (by omega)
      refine br_f (nI_nle (by omega) (by omega)) (nm_r (pk_m1 d) ⟨vp_in_nI (by omega) (by decide), ?_⟩)
      rw [nI_clamp (show d < 2 ^ 31 by omega)]
      refine nm_r ew ⟨4, xw_ff44 M hs as hf hw (show step < 26 by omega) H0 ?_ 3 0 4 fo stack d (by omega) (by omega) ?_ rw' rs hfo⟩
      · intro fo' stack' depth' J' rs' hfo'
        exact ih (step + 1) n fo' stack' depth' (by omega) (by omega) J' rs' hfo'
      · have := xf_pop J hw ew
        rw [show step + 1 + d = step + (d + 1) by omega]; exact this
theorem xw_ff {post : SX → Prop} (M : xm_M a_px a_py a_pz a_alive a_origin a_twin S) {s f : Nat} (hs : s < 26) (as : ¬ a_alive s = 0) (hf : f < 26)
    (H0 : ∀ u, u < 26 → ¬ a_alive u = 0 → 0 ≤ a_facetOf u → ¬ hm_C (xp_P a_px a_py a_pz) (xp_O a_origin) s u)
    (H1 : ∀ u, u < 26 → ¬ a_facetOf u = nI f)
    (K : ∀ fo stack, (∀ u, u < 26 → ¬ a_alive u = 0 → (0 ≤ fo u ↔ (0 ≤ a_facetOf u ∨ hm_C (xp_P a_px a_py a_pz) (xp_O a_origin) s u))) →
      (∀ u, u < 26 → fo u = nI f ∨ fo u = a_facetOf u) → post (f_room, f_count, f_isSolid, f_facetCount, f_cornerCount, f_edgeCount, f_volume, a_px, a_py, a_pz, a_alive, a_origin, a_twin, a_sees, stack, a_rimFrom, a_rimTo, a_rimOuter, a_fan, fo, a_leader, a_planes, a_joined)) :
    wpX_floodFacet post (f_room, f_count, f_isSolid, f_facetCount, f_cornerCount, f_edgeCount, f_volume, a_px, a_py, a_pz, a_alive, a_origin, a_twin, a_sees, a_stack, a_rimFrom, a_rimTo, a_rimOuter, a_fan, a_facetOf, a_leader, a_planes, a_joined) (nI s) (nI f) := by
  unfold wpX_floodFacet
  dsimp only
  rw [nI_clamp (show s < 2 ^ 31 by omega)]
  refine ⟨vp_in_nI hs (by decide), nm_e (nm_e ⟨27, ?_⟩)⟩
  refine xw_ff19 (fo0 := a_facetOf) M hs as hf H0 ?_ 26 0 27 _ _ 1 (by omega) (by omega) ?_ pk_us ?_
  · intro fo stack tot J rs hfo
    have cl : ∀ t, t < 26 → xm_cop a_px a_py a_pz a_alive a_origin s t → fo t = nI f := by
      intro t ht v
      refine hm_ff M.1 hs as (R := fun t => fo t = nI f) (fun t ht r => J.1 t ht r) ?_ ⟨s, hs, rs⟩ ht v.1 v.2
      intro h hh r v'
      have hh3 : h / 3 < 26 := by omega
      have ah := (J.1 _ hh3 r).1
      obtain ⟨m1, m2, _⟩ := hm_T M.1 hh ah
      rcases J.2.2.2.1 _ hh3 r with ⟨i, hi, _⟩ | k
      · omega
      · have e : 3 * (h / 3) + h % 3 = h := by omega
        have := k (h % 3) (by omega) (fun x => x)
        rw [e] at this
        exact this ⟨m2, v'⟩
    refine K fo stack (fun u hu au => ?_) hfo
    constructor
    · intro z
      rcases hfo u hu with c | c
      · exact Or.inr (J.1 u hu c).2
      · exact Or.inl (by rw [← c]; exact z)
    · rintro (z | z)
      · rcases hfo u hu with c | c
        · rw [c]; exact nI_pos' (by omega)
        · rw [c]; exact z
      · rw [cl u hu ⟨au, z⟩]; exact nI_pos' (by omega)
  · refine xf_start hs ⟨as, hm_Cr s⟩ ?_ pk_us
    intro i hi
    rcases Nat.decEq i s with c | c
    · rw [pk_un c]
      exact ⟨fun x => absurd x (H1 i hi), fun x => absurd x c⟩
    · rw [c, pk_us]
      exact ⟨fun _ => rfl, fun _ => rfl⟩
  · intro u hu
    rcases Nat.decEq u s with c | c
    · rw [pk_un c]; exact Or.inr rfl
    · rw [c, pk_us]; exact Or.inl rfl
end
end
section
/-- the facets' leaders: nf of them, those below T covered -/
def xg_I (px py pz alive origin leader : Nat → Int32) (nf t : Nat) : Prop :=
  (∀ f, f < nf → leader f = nI (xp_O leader f) ∧ xp_O leader f < 26 ∧ ¬ alive (xp_O leader f) = 0) ∧
  (∀ f f', f < nf → f' < nf → hm_C (xp_P px py pz) (xp_O origin) (xp_O leader f) (xp_O leader f') → f = f') ∧
  (∀ u, u < t → ¬ alive u = 0 → ∃ f, f < nf ∧ hm_C (xp_P px py pz) (xp_O origin) (xp_O leader f) u)
section
variable {f_room f_count f_isSolid f_facetCount f_cornerCount f_edgeCount f_volume : Int32} {a_px a_py a_pz a_alive a_origin a_twin a_sees a_stack a_rimFrom a_rimTo a_rimOuter a_fan a_facetOf a_leader a_planes a_joined : Nat → Int32}
variable {S : Nat → Prop}
theorem xw_ga28 {post : SX → Prop} (M : xm_M a_px a_py a_pz a_alive a_origin a_twin S)
    (K : ∀ nf fo stack leader, nf ≤ 26 → xg_I a_px a_py a_pz a_alive a_origin leader nf 26 → post (f_room, f_count, f_isSolid, nI nf, f_cornerCount, f_edgeCount, f_volume, a_px, a_py, a_pz, a_alive, a_origin, a_twin, a_sees, stack, a_rimFrom, a_rimTo, a_rimOuter, a_fan, fo, leader, a_planes, a_joined)) :
    ∀ e t n nf fo stack leader, t + e = 26 → e < n → nf ≤ t → xg_I a_px a_py a_pz a_alive a_origin leader nf t →
      (∀ u, u < 26 → ¬ a_alive u = 0 → (0 ≤ fo u ↔ ∃ f, f < nf ∧ hm_C (xp_P a_px a_py a_pz) (xp_O a_origin) (xp_O leader f) u)) →
      (∀ u, u < 26 → fo u = -1 ∨ ∃ f, f < nf ∧ fo u = nI f) →
      wX_gatherFacets_28 post n (nI t) f_room f_count f_isSolid (nI nf) f_cornerCount f_edgeCount f_volume a_px a_py a_pz a_alive a_origin a_twin a_sees stack a_rimFrom a_rimTo a_rimOuter a_fan fo leader a_planes a_joined := by
  intro e
  induction e with
  | zero =>
    intro t n nf fo stack leader hi hn hnf I h1 h2
    obtain ⟨n, rfl⟩ : ∃ m, n = m + 1 := ⟨n - 1, by omega⟩
    have : t = 26 := by omega
    subst this
    exact br_t (show (26 : Int32) ≤ nI 26 from nI_le (a := 26) (b := 26) (Nat.le_refl 26) (by decide)) (K nf fo stack leader hnf I)
  | succ e ih =>
    intro t n nf fo stack leader hi hn hnf I h1 h2
    obtain ⟨n, rfl⟩ : ∃ m, n = m + 1 := ⟨n - 1, by omega⟩
    have ht : t < 26 := by omega
    unfold wX_gatherFacets_28
    rw [nI_clamp (show t < 2 ^ 31 by omega), nI_clamp (show nf < 2 ^ 31 by omega)]
    obtain ⟨i1, i2, i3⟩ := I
    refine br_f (nI_ge (b := 26) ht (by decide)) ⟨vp_in_nI ht (by decide), br_c (fun z => nm_r (nI_1 t) ?_) (fun z => ⟨vp_in_nI ht (by decide), br_c (fun z2 => nm_r (nI_1 t) ?_) (fun z2 => ?_)⟩)⟩
    · refine ih (t + 1) n nf fo stack leader (by omega) (by omega) (by omega) ⟨i1, i2, fun u hu au => ?_⟩ h1 h2
      rcases Nat.lt_or_ge u t with c | c
      · exact i3 u c au
      · exact absurd z (by rw [show t = u by omega]; exact au)
    · refine ih (t + 1) n nf fo stack leader (by omega) (by omega) (by omega) ⟨i1, i2, fun u hu au => ?_⟩ h1 h2
      rcases Nat.lt_or_ge u t with c | c
      · exact i3 u c au
      · rw [show u = t by omega]; exact (h1 t ht z).mp z2
    · have new : ∀ f, f < nf → ¬ hm_C (xp_P a_px a_py a_pz) (xp_O a_origin) (xp_O leader f) t := fun f hf c => z2 ((h1 t ht z).mpr ⟨f, hf, c⟩)
      have ln : xp_O (upd leader nf (nI t)) nf = t := by unfold xp_O; rw [pk_us, nI_clamp (by omega)]
      have lo : ∀ f, f < nf → xp_O (upd leader nf (nI t)) f = xp_O leader f := fun f hf => by unfold xp_O; rw [pk_un (by omega)]
      refine ⟨vp_in_nI (by omega) (by decide), nm_e (xw_ff M ht z (by omega) ?_ ?_ ?_)⟩
      · -- the numbered ones lie in other planes
        intro u hu au zu c
        obtain ⟨f, hf, cf⟩ := (h1 u hu au).mp zu
        obtain ⟨_, l2, l3⟩ := i1 f hf
        exact new f hf (hm_Ct M.1 l2 hu l3 au cf (hm_Cs M.1 hu ht au z c))
      · intro u hu c
        rcases h2 u hu with d | ⟨f, hf, d⟩
        · rw [d] at c
          exact absurd c.symm (fun x => by
            have h3 : (0 : Int32) ≤ -1 := by rw [← x]; exact nI_pos' (by omega)
            exact absurd h3 (by decide))
        · rw [d, nI_eq (by omega) (by omega)] at c
          omega
      · intro fo' stack' k1 k2
        refine nm_r (nI_1 nf) (nm_r (nI_1 t) (ih (t + 1) n (nf + 1) fo' stack' _ (by omega) (by omega) (by omega) ⟨?_, ?_, ?_⟩ ?_ ?_))
        · intro f hf
          rcases Nat.lt_or_ge f nf with c | c
          · rw [lo f c, pk_un (by omega)]; exact i1 f c
          · rw [show f = nf by omega, ln, pk_us]; exact ⟨rfl, ht, z⟩
        · intro f f' hf hf' c
          rcases Nat.lt_or_ge f nf with d | d <;> rcases Nat.lt_or_ge f' nf with d' | d'
          · rw [lo f d, lo f' d'] at c; exact i2 f f' d d' c
          · rw [lo f d, show f' = nf by omega, ln] at c; exact absurd c (new f d)
          · rw [lo f' d', show f = nf by omega, ln] at c
            obtain ⟨_, l2, l3⟩ := i1 f' d'
            exact absurd (hm_Cs M.1 l2 ht l3 z c) (new f' d')
          · omega
        · intro u hu au
          rcases Nat.lt_or_ge u t with c | c
          · obtain ⟨f, hf, cf⟩ := i3 u c au
            exact ⟨f, by omega, by rw [lo f hf]; exact cf⟩
          · exact ⟨nf, by omega, by rw [ln, show u = t by omega]; exact hm_Cr t⟩
        · intro u hu au
          rw [k1 u hu au, h1 u hu au]
          constructor
          · rintro (⟨f, hf, cf⟩ | c)
            · exact ⟨f, by omega, by rw [lo f hf]; exact cf⟩
            · exact ⟨nf, by omega, by rw [ln]; exact c⟩
          · rintro ⟨f, hf, cf⟩
            rcases Nat.lt_or_ge f nf with c | c
            · rw [lo f c] at cf; exact Or.inl ⟨f, c, cf⟩
            · rw [show f = nf by omega, ln] at cf; exact Or.inr cf
        · intro u hu
          rcases k2 u hu with c | c
          · exact Or.inr ⟨nf, by omega, c⟩
          · rw [c]
            rcases h2 u hu with d | ⟨f, hf, d⟩
            · exact Or.inl d
            · exact Or.inr ⟨f, by omega, d⟩
theorem xw_ga2 {post : SX → Prop} (M : xm_M a_px a_py a_pz a_alive a_origin a_twin S)
    (K : ∀ nf fo stack leader, nf ≤ 26 → xg_I a_px a_py a_pz a_alive a_origin leader nf 26 → post (f_room, f_count, f_isSolid, nI nf, f_cornerCount, f_edgeCount, f_volume, a_px, a_py, a_pz, a_alive, a_origin, a_twin, a_sees, stack, a_rimFrom, a_rimTo, a_rimOuter, a_fan, fo, leader, a_planes, a_joined)) :
    ∀ e t n fo, t + e = 26 → e < n → (∀ u, u < t → fo u = -1) → wX_gatherFacets_2 post f_room f_count f_isSolid f_facetCount f_cornerCount f_edgeCount f_volume n (nI t) a_px a_py a_pz a_alive a_origin a_twin a_sees a_stack a_rimFrom a_rimTo a_rimOuter a_fan fo a_leader a_planes a_joined := by
  intro e
  induction e with
  | zero =>
    intro t n fo hi hn h
    obtain ⟨n, rfl⟩ : ∃ m, n = m + 1 := ⟨n - 1, by omega⟩
    have : t = 26 := by omega
    subst this
    refine br_t (show (26 : Int32) ≤ nI 26 from nI_le (a := 26) (b := 26) (Nat.le_refl 26) (by decide)) ⟨27, xw_ga28 M K 26 0 27 0 fo _ _ (by omega) (by omega) (by omega)
      ⟨fun f hf => absurd hf (Nat.not_lt_zero f), fun f f' hf => absurd hf (Nat.not_lt_zero f), fun u hu => absurd hu (Nat.not_lt_zero u)⟩ ?_ (fun u hu => Or.inl (h u hu))⟩
    intro u hu _
    rw [h u hu]
    exact ⟨fun z => absurd z (by decide), fun ⟨f, hf, _⟩ => absurd hf (Nat.not_lt_zero f)⟩
  | succ e ih =>
    intro t n fo hi hn h
    obtain ⟨n, rfl⟩ : ∃ m, n = m + 1 := ⟨n - 1, by omega⟩
    unfold wX_gatherFacets_2
    rw [nI_clamp (show t < 2 ^ 31 by omega)]
    refine br_f (nI_ge (b := 26) (by omega) (by decide)) ⟨vp_in_nI (by omega) (by decide), nm_e (nm_r (nI_1 t) (ih (t + 1) n _ (by omega) (by omega) fun u hu => ?_))⟩
    rcases Nat.decEq u t with c | c
    · rw [pk_un c]; exact h u (by omega)
    · rw [c, pk_us]
theorem xw_gather {post : SX → Prop} (M : xm_M a_px a_py a_pz a_alive a_origin a_twin S)
    (K : ∀ nf fo stack leader, nf ≤ 26 → xg_I a_px a_py a_pz a_alive a_origin leader nf 26 → post (f_room, f_count, f_isSolid, nI nf, f_cornerCount, f_edgeCount, f_volume, a_px, a_py, a_pz, a_alive, a_origin, a_twin, a_sees, stack, a_rimFrom, a_rimTo, a_rimOuter, a_fan, fo, leader, a_planes, a_joined)) :
    wpX_gatherFacets post (f_room, f_count, f_isSolid, f_facetCount, f_cornerCount, f_edgeCount, f_volume, a_px, a_py, a_pz, a_alive, a_origin, a_twin, a_sees, a_stack, a_rimFrom, a_rimTo, a_rimOuter, a_fan, a_facetOf, a_leader, a_planes, a_joined) := by
  unfold wpX_gatherFacets
  dsimp only
  exact ⟨27, xw_ga2 M K 26 0 27 a_facetOf (by omega) (by omega) (fun u hu => absurd hu (Nat.not_lt_zero u))⟩
/-- the planes that hold a point -/
theorem xw_po4 {post : Int32 → Prop} (M : xm_M a_px a_py a_pz a_alive a_origin a_twin S) {p nf : Nat} (hp : p < 14) (hnf : nf ≤ 26) (I : xg_I a_px a_py a_pz a_alive a_origin a_leader nf 26)
    (K : ∀ x, (∀ j, j < 32 → (bt x j = true ↔ (j < nf ∧ hm_t (xp_P a_px a_py a_pz) (xp_O a_origin) (xp_O a_leader j) (xp_P a_px a_py a_pz p) = 0))) → post x) :
    ∀ e i n x, i + e = nf → e < n → (∀ j, j < 32 → (bt x j = true ↔ (j < i ∧ hm_t (xp_P a_px a_py a_pz) (xp_O a_origin) (xp_O a_leader j) (xp_P a_px a_py a_pz p) = 0))) →
      wX_planesOf_4 post (nI p) f_room f_count f_isSolid (nI nf) f_cornerCount f_edgeCount f_volume a_px a_py a_pz a_alive a_origin a_twin a_sees a_stack a_rimFrom a_rimTo a_rimOuter a_fan a_facetOf a_leader a_planes a_joined n x (nI i) := by
  intro e
  induction e with
  | zero =>
    intro i n x hi hn h
    obtain ⟨n, rfl⟩ : ∃ m, n = m + 1 := ⟨n - 1, by omega⟩
    have : i = nf := by omega
    subst this
    exact br_t (nI_le (Nat.le_refl _) (by omega)) (K x h)
  | succ e ih =>
    intro i n x hi hn h
    obtain ⟨n, rfl⟩ : ∃ m, n = m + 1 := ⟨n - 1, by omega⟩
    have hi' : i < nf := by omega
    obtain ⟨l1, l2, l3⟩ := I.1 i hi'
    unfold wX_planesOf_4
    rw [nI_clamp (show i < 2 ^ 31 by omega), l1]
    refine br_f (nI_ge hi' (by omega)) ⟨vp_in_nI (by omega) (by decide), xw_hop l2 hp (xm_o M l2 l3) M.2.2.1 fun r hr => br_c (fun z => nm_e (nm_r (nI_1 i) (ih (i + 1) n _ (by omega) (by omega) fun j hj => ?_))) (fun z => nm_r (nI_1 i) (ih (i + 1) n _ (by omega) (by omega) fun j hj => ?_))⟩
    · rw [xp_eq0, hr] at z
      rw [xc_put x (by omega) hj, Bool.or_eq_true, decide_eq_true_eq, h j hj]
      constructor
      · rintro (k | k)
        · exact ⟨by omega, k.2⟩
        · rw [k]; exact ⟨by omega, z⟩
      · rintro ⟨k1, k2⟩
        rcases Nat.lt_or_ge j i with c | c
        · exact Or.inl ⟨c, k2⟩
        · exact Or.inr (by omega)
    · rw [xp_eq0, hr] at z
      rw [h j hj]
      constructor
      · rintro ⟨k1, k2⟩; exact ⟨by omega, k2⟩
      · rintro ⟨k1, k2⟩
        rcases Nat.lt_or_ge j i with c | c
        · exact ⟨c, k2⟩
        · exact absurd (by rw [show i = j by omega]; exact k2) z
theorem xw_po {post : Int32 → Prop} (M : xm_M a_px a_py a_pz a_alive a_origin a_twin S) {p nf : Nat} (hp : p < 14) (hnf : nf ≤ 26) (I : xg_I a_px a_py a_pz a_alive a_origin a_leader nf 26)
    (K : ∀ x, (∀ j, j < 32 → (bt x j = true ↔ (j < nf ∧ hm_t (xp_P a_px a_py a_pz) (xp_O a_origin) (xp_O a_leader j) (xp_P a_px a_py a_pz p) = 0))) → post x) :
    wpX_planesOf post (f_room, f_count, f_isSolid, nI nf, f_cornerCount, f_edgeCount, f_volume, a_px, a_py, a_pz, a_alive, a_origin, a_twin, a_sees, a_stack, a_rimFrom, a_rimTo, a_rimOuter, a_fan, a_facetOf, a_leader, a_planes, a_joined) (nI p) := by
  unfold wpX_planesOf
  dsimp only
  exact ⟨nf + 1, xw_po4 M hp hnf I K nf 0 (nf + 1) 0 (by omega) (by omega) (fun j _ => by
    rw [b_0]
    exact ⟨fun k => absurd k (by decide), fun k => absurd k.1 (Nat.not_lt_zero j)⟩)⟩
end
end
section
/-- an edge as the component's sets say -/
def xq_e (planes : Nat → Int32) (a b : Nat) : Bool :=
  decide (a ≠ b ∧ 3 ≤ xc_n (bt (planes a)) 26 ∧ 3 ≤ xc_n (bt (planes b)) 26 ∧ 2 ≤ xc_n (bt (planes a &&& planes b)) 26)
def xq_c (planes : Nat → Int32) (p : Nat) : Bool := decide (3 ≤ xc_n (bt (planes p)) 26)
def xq_s (f : Nat → Nat) : Nat → Nat
  | 0 => 0
  | n + 1 => xq_s f n + f n
theorem xq_sb {f : Nat → Nat} {k : Nat} (h : ∀ i, f i ≤ k) : ∀ n, xq_s f n ≤ k * n
  | 0 => Nat.le_refl 0
  | n + 1 => by
    have := xq_sb h n
    have := h n
    show xq_s f n + f n ≤ k * (n + 1)
    rw [Nat.mul_succ]; omega
/-- what refresh leaves -/
def xq_R (px py pz alive origin leader planes joined : Nat → Int32) (n nf : Nat) (cc ec vol : Int32) : Prop :=
  nf ≤ 26 ∧ xg_I px py pz alive origin leader nf 26 ∧
  (∀ p, p < n → ∀ j, j < 32 → (bt (planes p) j = true ↔ (j < nf ∧ hm_t (xp_P px py pz) (xp_O origin) (xp_O leader j) (xp_P px py pz p) = 0))) ∧
  (∀ a, a < n → ∀ b, b < 32 → (bt (joined a) b = true ↔ (b < n ∧ xq_e planes a b = true))) ∧
  cc = nI (xc_n (xq_c planes) n) ∧
  ec = nI (xq_s (fun a => xc_n (xq_e planes a) n) n / 2) ∧
  vol = Int32.ofInt (hs_s (fun t => hs_i (¬ alive t = 0) * - hm_t (xp_P px py pz) (xp_O origin) t (xp_P px py pz 0)) 26)
section
variable {f_room f_count f_isSolid f_facetCount f_cornerCount f_edgeCount f_volume : Int32} {a_px a_py a_pz a_alive a_origin a_twin a_sees a_stack a_rimFrom a_rimTo a_rimOuter a_fan a_facetOf a_leader a_planes a_joined : Nat → Int32}
variable {S : Nat → Prop}
theorem xw_re118 {post : SX → Prop} {J101 : Int32 → Int32 → (Nat → Int32) → (Nat → Int32) → (Nat → Int32) → (Nat → Int32) → (Nat → Int32) → (Nat → Int32) → (Nat → Int32) → (Nat → Int32) → (Nat → Int32) → (Nat → Int32) → (Nat → Int32) → (Nat → Int32) → (Nat → Int32) → (Nat → Int32) → (Nat → Int32) → (Nat → Int32) → Prop}
    {c a E : Nat} (hc : c ≤ 14) (ha : a < c) {jo0 : Nat → Int32}
    (hJ : ∀ jo, (∀ b, b < 32 → (bt (jo a) b = true ↔ (b < c ∧ xq_e a_planes a b = true))) → (∀ d, d ≠ a → jo d = jo0 d) → J101 (nI (E + xc_n (xq_e a_planes a) c)) (nI (a + 1)) a_px a_py a_pz a_alive a_origin a_twin a_sees a_stack a_rimFrom a_rimTo a_rimOuter a_fan a_facetOf a_leader a_planes jo) :
    ∀ e b n jo, b + e = c → e < n → (∀ j, j < 32 → (bt (jo a) j = true ↔ (j < b ∧ xq_e a_planes a j = true))) → (∀ d, d ≠ a → jo d = jo0 d) →
      wX_refresh_118 post J101 (nI a) f_room (nI c) f_isSolid f_facetCount f_cornerCount f_edgeCount f_volume n (nI (E + xc_n (xq_e a_planes a) b)) (nI b) a_px a_py a_pz a_alive a_origin a_twin a_sees a_stack a_rimFrom a_rimTo a_rimOuter a_fan a_facetOf a_leader a_planes jo := by
  intro e
  induction e with
  | zero =>
    intro b n jo hb hn h1 h2
    obtain ⟨n, rfl⟩ : ∃ m, n = m + 1 := ⟨n - 1, by omega⟩
    have : b = c := by omega
    subst this
    exact br_t (nI_le (Nat.le_refl _) (by omega)) (nm_r (nI_1 a) (hJ jo h1 h2))
  | succ e ih =>
    intro b n jo hb hn h1 h2
    obtain ⟨n, rfl⟩ : ∃ m, n = m + 1 := ⟨n - 1, by omega⟩
    have hb' : b < c := by omega
    have s1 : xc_n (xq_e a_planes a) (b + 1) = xc_n (xq_e a_planes a) b + (if xq_e a_planes a b then 1 else 0) := rfl
    have big := xc_le (xq_e a_planes a) b
    unfold wX_refresh_118
    refine br_f (nI_ge hb' (by omega)) (xw_makeEdge (by omega) (by omega) (fun k1 k2 k3 k4 => br_f (by decide) ?_) (fun k => br_t rfl (nm_r (nI_1 b) ?_)))
    · have ee : xq_e a_planes a b = true := decide_eq_true ⟨k1, k2, k3, k4⟩
      rw [if_pos ee] at s1
      rw [nI_clamp (show a < 2 ^ 31 by omega)]
      refine ⟨vp_in_nI (by omega) (by decide), vp_in_nI (by omega) (by decide), nm_e (nm_r (nI_1 _) (nm_r (nI_1 b) ?_))⟩
      rw [Nat.add_assoc, ← s1]
      refine ih (b + 1) n _ (by omega) (by omega) (fun j hj => ?_) (fun d hd => ?_)
      · rw [pk_us, xc_put _ (by omega) hj, Bool.or_eq_true, decide_eq_true_eq, h1 j hj]
        constructor
        · rintro (k | k)
          · exact ⟨by omega, k.2⟩
          · rw [k]; exact ⟨by omega, ee⟩
        · rintro ⟨q1, q2⟩
          rcases Nat.lt_or_ge j b with c1 | c1
          · exact Or.inl ⟨c1, q2⟩
          · exact Or.inr (by omega)
      · rw [pk_un hd]; exact h2 d hd
    · have ee : ¬ xq_e a_planes a b = true := fun x => k (of_decide_eq_true x)
      rw [if_neg ee] at s1
      have s2 : xc_n (xq_e a_planes a) b = xc_n (xq_e a_planes a) (b + 1) := by omega
      rw [s2]
      refine ih (b + 1) n _ (by omega) (by omega) (fun j hj => ?_) h2
      rw [h1 j hj]
      constructor
      · rintro ⟨q1, q2⟩; exact ⟨by omega, q2⟩
      · rintro ⟨q1, q2⟩
        rcases Nat.lt_or_ge j b with c1 | c1
        · exact ⟨c1, q2⟩
        · exact absurd (by rw [show b = j by omega]; exact q2) ee
theorem xw_re101 {post : SX → Prop} {c : Nat} (hc : c ≤ 14)
    (K : ∀ jo, (∀ a, a < c → ∀ b, b < 32 → (bt (jo a) b = true ↔ (b < c ∧ xq_e a_planes a b = true))) →
      post (f_room, nI c, f_isSolid, f_facetCount, f_cornerCount, nI (xq_s (fun a => xc_n (xq_e a_planes a) c) c / 2), f_volume, a_px, a_py, a_pz, a_alive, a_origin, a_twin, a_sees, a_stack, a_rimFrom, a_rimTo, a_rimOuter, a_fan, a_facetOf, a_leader, a_planes, jo)) :
    ∀ e a n jo, a + e = c → e < n → (∀ d, d < a → ∀ b, b < 32 → (bt (jo d) b = true ↔ (b < c ∧ xq_e a_planes d b = true))) →
      wX_refresh_101 post f_room (nI c) f_isSolid f_facetCount f_cornerCount f_edgeCount f_volume n (nI (xq_s (fun a => xc_n (xq_e a_planes a) c) a)) (nI a) a_px a_py a_pz a_alive a_origin a_twin a_sees a_stack a_rimFrom a_rimTo a_rimOuter a_fan a_facetOf a_leader a_planes jo := by
  intro e
  induction e with
  | zero =>
    intro a n jo ha hn h
    obtain ⟨n, rfl⟩ : ∃ m, n = m + 1 := ⟨n - 1, by omega⟩
    have : a = c := by omega
    subst this
    have b1 := xq_sb (f := fun d => xc_n (xq_e a_planes d) a) (k := 14) (fun d => by have := xc_le (xq_e a_planes d) a; omega) a
    have ed : nI (xq_s (fun d => xc_n (xq_e a_planes d) a) a) / 2 = nI (xq_s (fun d => xc_n (xq_e a_planes d) a) a / 2) := pk_div (d := 2) (by omega) (by omega) (by decide)
    exact br_t (nI_le (Nat.le_refl _) (by omega)) ⟨by decide, nm_r ed (K jo h)⟩
  | succ e ih =>
    intro a n jo ha hn h
    obtain ⟨n, rfl⟩ : ∃ m, n = m + 1 := ⟨n - 1, by omega⟩
    have ha' : a < c := by omega
    unfold wX_refresh_101
    rw [nI_clamp (show a < 2 ^ 31 by omega)]
    refine br_f (nI_ge ha' (by omega)) ⟨vp_in_nI (by omega) (by decide), nm_e ⟨c + 1, ?_⟩⟩
    refine xw_re118 (jo0 := upd jo a 0) hc ha' ?_ c 0 (c + 1) _ (by omega) (by omega) (fun j hj => ?_) (fun d hd => rfl)
    · intro jo' k1 k2
      refine ih (a + 1) n jo' (by omega) (by omega) (fun d hd b hb => ?_)
      rcases Nat.decEq d a with c1 | c1
      · rw [k2 d c1, pk_un c1]; exact h d (by omega) b hb
      · rw [c1]; exact k1 b hb
    · rw [pk_us, b_0]
      exact ⟨fun k => absurd k (by decide), fun k => absurd k.1 (Nat.not_lt_zero j)⟩
theorem xw_re54 {post : SX → Prop} (M : xm_M a_px a_py a_pz a_alive a_origin a_twin S) {c nf : Nat} (hc : c ≤ 14) (hnf : nf ≤ 26) (I : xg_I a_px a_py a_pz a_alive a_origin a_leader nf 26)
    (K : ∀ pl jo, (∀ p, p < c → ∀ j, j < 32 → (bt (pl p) j = true ↔ (j < nf ∧ hm_t (xp_P a_px a_py a_pz) (xp_O a_origin) (xp_O a_leader j) (xp_P a_px a_py a_pz p) = 0))) →
      (∀ a, a < c → ∀ b, b < 32 → (bt (jo a) b = true ↔ (b < c ∧ xq_e pl a b = true))) →
      post (f_room, nI c, f_isSolid, nI nf, nI (xc_n (xq_c pl) c), nI (xq_s (fun a => xc_n (xq_e pl a) c) c / 2), f_volume, a_px, a_py, a_pz, a_alive, a_origin, a_twin, a_sees, a_stack, a_rimFrom, a_rimTo, a_rimOuter, a_fan, a_facetOf, a_leader, pl, jo)) :
    ∀ e p n pl, p + e = c → e < n → (∀ q, q < p → ∀ j, j < 32 → (bt (pl q) j = true ↔ (j < nf ∧ hm_t (xp_P a_px a_py a_pz) (xp_O a_origin) (xp_O a_leader j) (xp_P a_px a_py a_pz q) = 0))) →
      wX_refresh_54 post f_room (nI c) f_isSolid (nI nf) f_edgeCount f_volume n (nI p) (nI (xc_n (xq_c pl) p)) a_px a_py a_pz a_alive a_origin a_twin a_sees a_stack a_rimFrom a_rimTo a_rimOuter a_fan a_facetOf a_leader pl a_joined := by
  intro e
  induction e with
  | zero =>
    intro p n pl hp hn h
    obtain ⟨n, rfl⟩ : ∃ m, n = m + 1 := ⟨n - 1, by omega⟩
    have : p = c := by omega
    subst this
    exact br_t (nI_le (Nat.le_refl _) (by omega)) ⟨p + 1, xw_re101 hc (fun jo k => K pl jo h k) p 0 (p + 1) _ (by omega) (by omega) (fun d hd => absurd hd (Nat.not_lt_zero d))⟩
  | succ e ih =>
    intro p n pl hp hn h
    obtain ⟨n, rfl⟩ : ∃ m, n = m + 1 := ⟨n - 1, by omega⟩
    have hp' : p < c := by omega
    have big := xc_le (xq_c pl) p
    unfold wX_refresh_54
    refine br_f (nI_ge hp' (by omega)) (xw_po M (show p < 14 by omega) hnf I fun x hx => ?_)
    rw [nI_clamp (show p < 2 ^ 31 by omega)]
    refine ⟨vp_in_nI (by omega) (by decide), nm_e ?_⟩
    have hq : ∀ q, q < p + 1 → ∀ j, j < 32 → (bt (upd pl p x q) j = true ↔ (j < nf ∧ hm_t (xp_P a_px a_py a_pz) (xp_O a_origin) (xp_O a_leader j) (xp_P a_px a_py a_pz q) = 0)) := by
      intro q hq j hj
      rcases Nat.decEq q p with d | d
      · rw [pk_un d]; exact h q (by omega) j hj
      · rw [d, pk_us]; exact hx j hj
    have same : xc_n (xq_c pl) p = xc_n (xq_c (upd pl p x)) p := xc_cg fun q hq' => by unfold xq_c; rw [pk_un (by omega)]
    have s1 : xc_n (xq_c (upd pl p x)) (p + 1) = xc_n (xq_c (upd pl p x)) p + (if xq_c (upd pl p x) p then 1 else 0) := rfl
    rw [same]
    have go := ih (p + 1) n (upd pl p x) (by omega) (by omega) hq
    refine xw_isCorner (a_planes := upd pl p x) (by omega) (fun k => br_f (by decide) ?_) (fun k => br_t rfl (nm_r (nI_1 p) ?_))
    · have ee : xq_c (upd pl p x) p = true := decide_eq_true k
      rw [if_pos ee] at s1
      rw [s1] at go
      exact nm_r (nI_1 _) (nm_r (nI_1 p) go)
    · have ee : ¬ xq_c (upd pl p x) p = true := fun y => k (of_decide_eq_true y)
      rw [if_neg ee] at s1
      rw [s1] at go
      exact go
theorem xw_re11 {post : SX → Prop} (M : xm_M a_px a_py a_pz a_alive a_origin a_twin S) {c nf : Nat} (hc : c ≤ 14) (hnf : nf ≤ 26) (I : xg_I a_px a_py a_pz a_alive a_origin a_leader nf 26)
    (K : ∀ cc ec vol pl jo, xq_R a_px a_py a_pz a_alive a_origin a_leader pl jo c nf cc ec vol →
      post (f_room, nI c, f_isSolid, nI nf, cc, ec, vol, a_px, a_py, a_pz, a_alive, a_origin, a_twin, a_sees, a_stack, a_rimFrom, a_rimTo, a_rimOuter, a_fan, a_facetOf, a_leader, pl, jo)) :
    ∀ e t n, t + e = 26 → e < n →
      wX_refresh_11 post f_room (nI c) f_isSolid (nI nf) f_cornerCount f_edgeCount a_px a_py a_pz a_alive a_origin a_twin a_sees a_stack a_rimFrom a_rimTo a_rimOuter a_fan a_facetOf a_leader a_planes a_joined n (nI t) (Int32.ofInt (hs_s (fun t => hs_i (¬ a_alive t = 0) * - hm_t (xp_P a_px a_py a_pz) (xp_O a_origin) t (xp_P a_px a_py a_pz 0)) t)) := by
  intro e
  induction e with
  | zero =>
    intro t n ht hn
    obtain ⟨n, rfl⟩ : ∃ m, n = m + 1 := ⟨n - 1, by omega⟩
    have : t = 26 := by omega
    subst this
    exact br_t (show (26 : Int32) ≤ nI 26 from nI_le (a := 26) (b := 26) (Nat.le_refl 26) (by decide)) ⟨c + 1, xw_re54 M hc hnf I (fun pl jo k1 k2 => K _ _ _ pl jo ⟨hnf, I, k1, k2, rfl, rfl, rfl⟩) c 0 (c + 1) _ (by omega) (by omega) (fun q hq => absurd hq (Nat.not_lt_zero q))⟩
  | succ e ih =>
    intro t n ht hn
    obtain ⟨n, rfl⟩ : ∃ m, n = m + 1 := ⟨n - 1, by omega⟩
    have ht' : t < 26 := by omega
    have go := ih (t + 1) n (by omega) (by omega)
    rw [hs_s1] at go
    unfold wX_refresh_11
    rw [nI_clamp (show t < 2 ^ 31 by omega)]
    refine br_f (nI_ge (b := 26) ht' (by decide)) ⟨vp_in_nI ht' (by decide), br_c (fun z => nm_r (nI_1 t) ?_) (fun z => ?_)⟩
    · rw [hs_if (p := ¬ a_alive t = 0) (fun x => x z), Int.zero_mul, Int.add_zero] at go
      exact go
    · rw [hs_it (p := ¬ a_alive t = 0) z, Int.one_mul] at go
      refine xw_hop ht' (show 0 < 14 by omega) (xm_o M ht' z) M.2.2.1 fun r hr => nm_r (e' := Int32.ofInt (hs_s (fun t => hs_i (¬ a_alive t = 0) * - hm_t (xp_P a_px a_py a_pz) (xp_O a_origin) t (xp_P a_px a_py a_pz 0)) t
        + - hm_t (xp_P a_px a_py a_pz) (xp_O a_origin) t (xp_P a_px a_py a_pz 0))) ?_ (nm_r (nI_1 t) go)
      rw [← hr, ← Int.sub_eq_add_neg, Int32.ofInt_sub, Int32.ofInt_toInt]
theorem xw_refresh {post : SX → Prop} (M : xm_M a_px a_py a_pz a_alive a_origin a_twin S) {c : Nat} (hc : c ≤ 14)
    (K : ∀ nf cc ec vol stack fo leader pl jo, xq_R a_px a_py a_pz a_alive a_origin leader pl jo c nf cc ec vol →
      post (f_room, nI c, f_isSolid, nI nf, cc, ec, vol, a_px, a_py, a_pz, a_alive, a_origin, a_twin, a_sees, stack, a_rimFrom, a_rimTo, a_rimOuter, a_fan, fo, leader, pl, jo)) :
    wpX_refresh post (f_room, nI c, f_isSolid, f_facetCount, f_cornerCount, f_edgeCount, f_volume, a_px, a_py, a_pz, a_alive, a_origin, a_twin, a_sees, a_stack, a_rimFrom, a_rimTo, a_rimOuter, a_fan, a_facetOf, a_leader, a_planes, a_joined) := by
  unfold wpX_refresh
  dsimp only
  exact xw_gather M fun nf fo stack leader hnf I => ⟨27, xw_re11 M hc hnf I (fun cc ec vol pl jo k => K nf cc ec vol stack fo leader pl jo k) 26 0 27 (by omega) (by omega)⟩
end
end
section
theorem xs_mul {x y : Int32} (hx : -120 ≤ x.toInt ∧ x.toInt ≤ 120) (hy : -120 ≤ y.toInt ∧ y.toInt ≤ 120) : (x * y).toInt = x.toInt * y.toInt := by
  have m := xp_m (u := x.toInt) (v := y.toInt) (U := 120) (V := 120) hx hy
  have e : x * y = Int32.ofInt (x.toInt * y.toInt) := by rw [Int32.ofInt_mul, Int32.ofInt_toInt, Int32.ofInt_toInt]
  rw [e, xp_ti (by omega)]
theorem xs_sub {x y : Int32} (hx : -60 ≤ x.toInt ∧ x.toInt ≤ 60) (hy : -60 ≤ y.toInt ∧ y.toInt ≤ 60) : (x - y).toInt = x.toInt - y.toInt := by
  have e : x - y = Int32.ofInt (x.toInt - y.toInt) := by rw [Int32.ofInt_sub, Int32.ofInt_toInt, Int32.ofInt_toInt]
  rw [e, xp_ti (by omega)]
/-- three points on a line -/
theorem xs_col {ax ay az bx bY bz cx cy cz : Int} :
    ((bY - ay) * (cz - az) = (bz - az) * (cy - ay) ∧ (bz - az) * (cx - ax) = (bx - ax) * (cz - az) ∧ (bx - ax) * (cy - ay) = (bY - ay) * (cx - ax))
      ↔ ∀ z, hu_d (1, ax, ay, az) (1, bx, bY, bz) (1, cx, cy, cz) z = 0 := by
  constructor
  · rintro ⟨h1, h2, h3⟩ ⟨z0, z1, z2, z3⟩
    have e : hu_d (1, ax, ay, az) (1, bx, bY, bz) (1, cx, cy, cz) (z0, z1, z2, z3)
        = ((bY - ay) * (cz - az) - (bz - az) * (cy - ay)) * (z1 - z0 * ax) + ((bz - az) * (cx - ax) - (bx - ax) * (cz - az)) * (z2 - z0 * ay)
          + ((bx - ax) * (cy - ay) - (bY - ay) * (cx - ax)) * (z3 - z0 * az) := by
      simp only [hu_d, hu_l, hu_c, hu_3]; grind
    rw [e, h1, h2, h3, Int.sub_self, Int.sub_self, Int.sub_self]; omega
  · intro h
    have h1 := h (0, 1, 0, 0)
    have h2 := h (0, 0, 1, 0)
    have h3 := h (0, 0, 0, 1)
    have e1 : hu_d (1, ax, ay, az) (1, bx, bY, bz) (1, cx, cy, cz) (0, 1, 0, 0) = (bY - ay) * (cz - az) - (bz - az) * (cy - ay) := by
      simp only [hu_d, hu_l, hu_c, hu_3]; grind
    have e2 : hu_d (1, ax, ay, az) (1, bx, bY, bz) (1, cx, cy, cz) (0, 0, 1, 0) = (bz - az) * (cx - ax) - (bx - ax) * (cz - az) := by
      simp only [hu_d, hu_l, hu_c, hu_3]; grind
    have e3 : hu_d (1, ax, ay, az) (1, bx, bY, bz) (1, cx, cy, cz) (0, 0, 0, 1) = (bx - ax) * (cy - ay) - (bY - ay) * (cx - ax) := by
      simp only [hu_d, hu_l, hu_c, hu_3]; grind
    omega
section
variable {f_room f_count f_isSolid f_facetCount f_cornerCount f_edgeCount f_volume : Int32} {a_px a_py a_pz a_alive a_origin a_twin a_sees a_stack a_rimFrom a_rimTo a_rimOuter a_fan a_facetOf a_leader a_planes a_joined : Nat → Int32}
theorem xw_line {post : Int32 → Prop} {i j k : Nat} (hi : i < 14) (hj : j < 14) (hk : k < 14) (hB : xp_B a_px a_py a_pz)
    (K1 : (∀ z, hu_d (xp_P a_px a_py a_pz i) (xp_P a_px a_py a_pz j) (xp_P a_px a_py a_pz k) z = 0) → post 1)
    (K0 : ¬ (∀ z, hu_d (xp_P a_px a_py a_pz i) (xp_P a_px a_py a_pz j) (xp_P a_px a_py a_pz k) z = 0) → post 0) :
    wpX_inOneLine post (f_room, f_count, f_isSolid, f_facetCount, f_cornerCount, f_edgeCount, f_volume, a_px, a_py, a_pz, a_alive, a_origin, a_twin, a_sees, a_stack, a_rimFrom, a_rimTo, a_rimOuter, a_fan, a_facetOf, a_leader, a_planes, a_joined) (nI i) (nI j) (nI k) := by
  have vi := vp_in_nI hi (show 14 < 2 ^ 31 by decide)
  have vj := vp_in_nI hj (show 14 < 2 ^ 31 by decide)
  have vk := vp_in_nI hk (show 14 < 2 ^ 31 by decide)
  obtain ⟨a1, a2, a3⟩ := hB i
  obtain ⟨b1, b2, b3⟩ := hB j
  obtain ⟨c1, c2, c3⟩ := hB k
  have s1 := xs_sub b1 a1
  have s2 := xs_sub b2 a2
  have s3 := xs_sub b3 a3
  have t1 := xs_sub c1 a1
  have t2 := xs_sub c2 a2
  have t3 := xs_sub c3 a3
  have col := xs_col (ax := (a_px i).toInt) (ay := (a_py i).toInt) (az := (a_pz i).toInt) (bx := (a_px j).toInt) (bY := (a_py j).toInt) (bz := (a_pz j).toInt)
    (cx := (a_px k).toInt) (cy := (a_py k).toInt) (cz := (a_pz k).toInt)
  have col' : _ ↔ ∀ z, hu_d (xp_P a_px a_py a_pz i) (xp_P a_px a_py a_pz j) (xp_P a_px a_py a_pz k) z = 0 := col
  unfold wpX_inOneLine
  dsimp only
  rw [nI_clamp (show i < 2 ^ 31 by omega), nI_clamp (show j < 2 ^ 31 by omega), nI_clamp (show k < 2 ^ 31 by omega)]
  refine ⟨vj, vi, nm_e ⟨vj, vi, nm_e ⟨vj, vi, nm_e ⟨vk, vi, nm_e ⟨vk, vi, nm_e ⟨vk, vi, nm_e ?_⟩⟩⟩⟩⟩⟩
  have m1 : ((a_py j - a_py i) * (a_pz k - a_pz i) = (a_pz j - a_pz i) * (a_py k - a_py i)) ↔ ((a_py j).toInt - (a_py i).toInt) * ((a_pz k).toInt - (a_pz i).toInt) = ((a_pz j).toInt - (a_pz i).toInt) * ((a_py k).toInt - (a_py i).toInt) := by
    rw [← Int32.toInt_inj, xs_mul (by omega) (by omega), xs_mul (by omega) (by omega), s2, s3, t2, t3]
  have m2 : ((a_pz j - a_pz i) * (a_px k - a_px i) = (a_px j - a_px i) * (a_pz k - a_pz i)) ↔ ((a_pz j).toInt - (a_pz i).toInt) * ((a_px k).toInt - (a_px i).toInt) = ((a_px j).toInt - (a_px i).toInt) * ((a_pz k).toInt - (a_pz i).toInt) := by
    rw [← Int32.toInt_inj, xs_mul (by omega) (by omega), xs_mul (by omega) (by omega), s1, s3, t1, t3]
  have m3 : ((a_px j - a_px i) * (a_py k - a_py i) = (a_py j - a_py i) * (a_px k - a_px i)) ↔ ((a_px j).toInt - (a_px i).toInt) * ((a_py k).toInt - (a_py i).toInt) = ((a_py j).toInt - (a_py i).toInt) * ((a_px k).toInt - (a_px i).toInt) := by
    rw [← Int32.toInt_inj, xs_mul (by omega) (by omega), xs_mul (by omega) (by omega), s1, s2, t1, t2]
  refine br_c (fun z1 => br_c (fun z2 => br_c (fun z3 => K1 (col'.mp ⟨m1.mp z1, m2.mp z2, m3.mp z3⟩)) (fun z3 => K0 fun h => z3 (m3.mpr (col'.mpr h).2.2))) (fun z2 => K0 fun h => z2 (m2.mpr (col'.mpr h).2.1))) (fun z1 => K0 fun h => z1 (m1.mpr (col'.mpr h).1))
theorem xw_third {post : Int32 → Prop} {c : Nat} (hc : c ≤ 14) (c2 : 2 ≤ c) (hB : xp_B a_px a_py a_pz)
    (K1 : ∀ p, 2 ≤ p → p < c → ¬ (∀ z, hu_d (xp_P a_px a_py a_pz 0) (xp_P a_px a_py a_pz 1) (xp_P a_px a_py a_pz p) z = 0) →
      (∀ q, 2 ≤ q → q < p → ∀ z, hu_d (xp_P a_px a_py a_pz 0) (xp_P a_px a_py a_pz 1) (xp_P a_px a_py a_pz q) z = 0) → post (nI p))
    (K0 : (∀ q, 2 ≤ q → q < c → ∀ z, hu_d (xp_P a_px a_py a_pz 0) (xp_P a_px a_py a_pz 1) (xp_P a_px a_py a_pz q) z = 0) → post (-1)) :
    wpX_thirdPoint post (f_room, nI c, f_isSolid, f_facetCount, f_cornerCount, f_edgeCount, f_volume, a_px, a_py, a_pz, a_alive, a_origin, a_twin, a_sees, a_stack, a_rimFrom, a_rimTo, a_rimOuter, a_fan, a_facetOf, a_leader, a_planes, a_joined) := by
  have loop : ∀ e p n, p + e = c → e < n → 2 ≤ p → (∀ q, 2 ≤ q → q < p → ∀ z, hu_d (xp_P a_px a_py a_pz 0) (xp_P a_px a_py a_pz 1) (xp_P a_px a_py a_pz q) z = 0) →
      wX_thirdPoint_2 post f_room (nI c) f_isSolid f_facetCount f_cornerCount f_edgeCount f_volume a_px a_py a_pz a_alive a_origin a_twin a_sees a_stack a_rimFrom a_rimTo a_rimOuter a_fan a_facetOf a_leader a_planes a_joined n (nI p) := by
    intro e
    induction e with
    | zero =>
      intro p n hp hn p2 h
      obtain ⟨n, rfl⟩ : ∃ m, n = m + 1 := ⟨n - 1, by omega⟩
      have : p = c := by omega
      subst this
      exact br_t (nI_le (Nat.le_refl _) (by omega)) (K0 h)
    | succ e ih =>
      intro p n hp hn p2 h
      obtain ⟨n, rfl⟩ : ∃ m, n = m + 1 := ⟨n - 1, by omega⟩
      unfold wX_thirdPoint_2
      refine br_f (nI_ge (show p < c by omega) (by omega)) (xw_line (i := 0) (j := 1) (by omega) (by omega) (show p < 14 by omega) hB (fun z => br_f (by decide) (nm_r (nI_1 p) (ih (p + 1) n (by omega) (by omega) (by omega) fun q q2 hq => ?_)))
        (fun z => br_t rfl (K1 p p2 (by omega) z h)))
      rcases Nat.lt_or_ge q p with d | d
      · exact h q q2 d
      · rw [show q = p by omega]; exact z
  unfold wpX_thirdPoint
  dsimp only
  exact ⟨c + 1, loop (c - 2) 2 (c + 1) (by omega) (by omega) (by omega) (fun q h1 h2 => by omega)⟩
theorem xw_fourth {post : Int32 → Prop} {c t : Nat} (hc : c ≤ 14) (ht : t < c) (hB : xp_B a_px a_py a_pz)
    (K1 : ∀ p, t < p → p < c → hu_d (xp_P a_px a_py a_pz 0) (xp_P a_px a_py a_pz 1) (xp_P a_px a_py a_pz t) (xp_P a_px a_py a_pz p) ≠ 0 → post (nI p))
    (K0 : (∀ q, t < q → q < c → hu_d (xp_P a_px a_py a_pz 0) (xp_P a_px a_py a_pz 1) (xp_P a_px a_py a_pz t) (xp_P a_px a_py a_pz q) = 0) → post (-1)) :
    wpX_fourthPoint post (f_room, nI c, f_isSolid, f_facetCount, f_cornerCount, f_edgeCount, f_volume, a_px, a_py, a_pz, a_alive, a_origin, a_twin, a_sees, a_stack, a_rimFrom, a_rimTo, a_rimOuter, a_fan, a_facetOf, a_leader, a_planes, a_joined) (nI t) := by
  have loop : ∀ e p n, p + e = c → e < n → t < p → (∀ q, t < q → q < p → hu_d (xp_P a_px a_py a_pz 0) (xp_P a_px a_py a_pz 1) (xp_P a_px a_py a_pz t) (xp_P a_px a_py a_pz q) = 0) →
      wX_fourthPoint_4 post (nI t) f_room (nI c) f_isSolid f_facetCount f_cornerCount f_edgeCount f_volume a_px a_py a_pz a_alive a_origin a_twin a_sees a_stack a_rimFrom a_rimTo a_rimOuter a_fan a_facetOf a_leader a_planes a_joined n (nI p) := by
    intro e
    induction e with
    | zero =>
      intro p n hp hn p2 h
      obtain ⟨n, rfl⟩ : ∃ m, n = m + 1 := ⟨n - 1, by omega⟩
      have : p = c := by omega
      subst this
      exact br_t (nI_le (Nat.le_refl _) (by omega)) (K0 h)
    | succ e ih =>
      intro p n hp hn p2 h
      obtain ⟨n, rfl⟩ : ∃ m, n = m + 1 := ⟨n - 1, by omega⟩
      have vp := vp_in_nI (show p < 14 by omega) (show 14 < 2 ^ 31 by decide)
      unfold wX_fourthPoint_4
      rw [nI_clamp (show p < 2 ^ 31 by omega)]
      refine br_f (nI_ge (show p < c by omega) (by omega)) ⟨vp, vp, vp, xw_vol (i := 0) (j := 1) (k := t) (by omega) (by omega) (by omega) hB (xp_bB hB p) fun r hr => br_c (fun z => nm_r (nI_1 p) (ih (p + 1) n (by omega) (by omega) (by omega) fun q q2 hq => ?_))
        (fun z => K1 p p2 (by omega) fun k => z (xp_eq0.mpr (hr.trans k)))⟩
      rcases Nat.lt_or_ge q p with d | d
      · exact h q q2 d
      · rw [show q = p by omega]; exact hr.symm.trans (xp_eq0.mp z)
  unfold wpX_fourthPoint
  dsimp only
  exact nm_r (nI_1 t) ⟨c + 1, loop (c - (t + 1)) (t + 1) (c + 1) (by omega) (by omega) (by omega) (fun q h1 h2 => by omega)⟩
end
end
section
/-! the first four: corners by label 0 .. 3 -/
def xt_s (h : Nat) : Nat := [0, 1, 2, 0, 3, 1, 1, 3, 2, 2, 3, 0].getD h 0
def xt_t (h : Nat) : Nat := [5, 8, 11, 10, 6, 0, 4, 9, 1, 7, 3, 2].getD h 0
def xt_o (t : Nat) : Nat := [3, 2, 0, 1].getD t 0
theorem xt_d1 : ∀ h, h < 12 → ∀ g, g < 12 → ((xt_s h = xt_s (hn_n g) ∧ xt_s g = xt_s (hn_n h)) ↔ g = xt_t h) := by decide +kernel
theorem xt_d2 : ∀ h, h < 12 → xt_t h < 12 ∧ xt_t (xt_t h) = h ∧ xt_s (xt_t h) = xt_s (hn_n h) ∧ xt_s (hn_n (xt_t h)) = xt_s h := by decide +kernel
theorem xt_d3 : ∀ h, h < 12 → xt_s h < 4 ∧ hn_n h < 12 := by decide +kernel
theorem xt_d4 : ∀ t, t < 4 → ∀ u, u < 4 → t ≠ u → xt_s (3 * t) = xt_o u ∨ xt_s (3 * t + 1) = xt_o u ∨ xt_s (3 * t + 2) = xt_o u := by decide +kernel
theorem xt_d5 : ∀ u, u < 4 → xt_o u < 4 ∧ xt_s (3 * u) ≠ xt_o u ∧ xt_s (3 * u + 1) ≠ xt_o u ∧ xt_s (3 * u + 2) ≠ xt_o u := by decide +kernel
theorem xt_v {P : Nat → hu_V} {O q : Nat → Nat} (hO : ∀ h, h < 12 → O h = q (xt_s h)) :
    ∀ t, t < 4 → ∀ k, k < 4 → hm_t P O t (P (q k)) = if k = xt_o t then hu_d (P (q 0)) (P (q 1)) (P (q 2)) (P (q 3)) else 0 := by
  intro t ht k hk
  have e0 : O 0 = q 0 := hO 0 (by decide)
  have e1 : O 1 = q 1 := hO 1 (by decide)
  have e2 : O 2 = q 2 := hO 2 (by decide)
  have e3 : O 3 = q 0 := hO 3 (by decide)
  have e4 : O 4 = q 3 := hO 4 (by decide)
  have e5 : O 5 = q 1 := hO 5 (by decide)
  have e6 : O 6 = q 1 := hO 6 (by decide)
  have e7 : O 7 = q 3 := hO 7 (by decide)
  have e8 : O 8 = q 2 := hO 8 (by decide)
  have e9 : O 9 = q 2 := hO 9 (by decide)
  have e10 : O 10 = q 3 := hO 10 (by decide)
  have e11 : O 11 = q 0 := hO 11 (by decide)
  have ct : t = 0 ∨ t = 1 ∨ t = 2 ∨ t = 3 := by omega
  have ck : k = 0 ∨ k = 1 ∨ k = 2 ∨ k = 3 := by omega
  rcases ct with c | c | c | c
  · subst c
    show hu_d (P (O 0)) (P (O 1)) (P (O 2)) _ = if k = 3 then _ else _
    rw [e0, e1, e2]
    rcases ck with d | d | d | d <;> subst d
    · rw [hu_z14]; rfl
    · rw [hu_z24]; rfl
    · rw [hu_z34]; rfl
    · rfl
  · subst c
    show hu_d (P (O 3)) (P (O 4)) (P (O 5)) _ = if k = 2 then _ else _
    rw [e3, e4, e5]
    rcases ck with d | d | d | d <;> subst d
    · rw [hu_z14]; rfl
    · rw [hu_z34]; rfl
    · rw [hu_mv]; rfl
    · rw [hu_z24]; rfl
  · subst c
    show hu_d (P (O 6)) (P (O 7)) (P (O 8)) _ = if k = 0 then _ else _
    rw [e6, e7, e8]
    rcases ck with d | d | d | d <;> subst d
    · rw [hu_dpq (P (q 2)) (P (q 0)) (P (q 1)) (P (q 3)), hu_dcy (P (q 1)) (P (q 2)) (P (q 0)) (P (q 3)), hu_dcy (P (q 0)) (P (q 1)) (P (q 2)) (P (q 3))]; rfl
    · rw [hu_z14]; rfl
    · rw [hu_z34]; rfl
    · rw [hu_z24]; rfl
  · subst c
    show hu_d (P (O 9)) (P (O 10)) (P (O 11)) _ = if k = 1 then _ else _
    rw [e9, e10, e11]
    rcases ck with d | d | d | d <;> subst d
    · rw [hu_z34]; rfl
    · rw [hu_dpq (P (q 0)) (P (q 1)) (P (q 2)) (P (q 3))]; rfl
    · rw [hu_z14]; rfl
    · rw [hu_z24]; rfl
theorem xt_M {P : Nat → hu_V} {O T q : Nat → Nat} {A : Nat → Prop} (hP : ∀ x, (P x).1 = 1) (hO : ∀ h, h < 12 → O h = q (xt_s h)) (hT : ∀ h, h < 12 → T h = xt_t h)
    (hA : ∀ t, t < 26 → (A t ↔ t < 4)) (w : hu_d (P (q 0)) (P (q 1)) (P (q 2)) (P (q 3)) < 0) : hm_M P (fun x => ∃ k, k < 4 ∧ x = q k) O T A := by
  have v := xt_v (P := P) hO
  have le : ∀ t, t < 4 → ∀ k, k < 4 → hm_t P O t (P (q k)) ≤ 0 := by
    intro t ht k hk
    rw [v t ht k hk]; split <;> omega
  refine ⟨hP, ?_, ?_, ?_, ?_, ?_, ⟨0, by omega, (hA 0 (by omega)).mpr (by omega)⟩, ⟨q 0, q 1, q 2, q 3, ⟨0, by omega, rfl⟩, ⟨1, by omega, rfl⟩, ⟨2, by omega, rfl⟩, ⟨3, by omega, rfl⟩, by omega⟩⟩
  · intro h hh a
    have l : h / 3 < 4 := (hA _ (by omega)).mp a
    exact ⟨xt_s h, (xt_d3 h (by omega)).1, hO h (by omega)⟩
  · rintro t ht a x ⟨k, hk, e⟩
    rw [e]; exact le t ((hA t ht).mp a) k hk
  · intro t ht a
    have l := (hA t ht).mp a
    refine ⟨q (xt_o t), ⟨_, (xt_d5 t l).1, rfl⟩, ?_⟩
    rw [v t l _ (xt_d5 t l).1, if_pos rfl]; exact w
  · intro h hh a
    have l : h / 3 < 4 := (hA _ (by omega)).mp a
    have l12 : h < 12 := by omega
    obtain ⟨d1, d2, d3, d4⟩ := xt_d2 h l12
    obtain ⟨_, d6⟩ := xt_d3 h l12
    obtain ⟨_, d7⟩ := xt_d3 _ d1
    rw [hT h l12]
    refine ⟨by omega, (hA _ (by omega)).mpr (by omega), ?_, ?_, ?_⟩
    · rw [hT _ d1, d2]
    · rw [hO _ d1, d3, hO _ d6]
    · rw [hO _ d7, d4, hO _ l12]
  · intro t u ht hu a b ne
    have lt := (hA t ht).mp a
    have lu := (hA u hu).mp b
    obtain ⟨_, u1, u2, u3⟩ := xt_d5 u lu
    obtain ⟨x1, _⟩ := xt_d3 (3 * t) (by omega)
    obtain ⟨x2, _⟩ := xt_d3 (3 * t + 1) (by omega)
    obtain ⟨x3, _⟩ := xt_d3 (3 * t + 2) (by omega)
    obtain ⟨y1, _⟩ := xt_d3 (3 * u) (by omega)
    obtain ⟨y2, _⟩ := xt_d3 (3 * u + 1) (by omega)
    obtain ⟨y3, _⟩ := xt_d3 (3 * u + 2) (by omega)
    have l1 := le u lu _ x1
    have l2 := le u lu _ x2
    have l3 := le u lu _ x3
    refine ⟨hu_c (P (O (3 * u))) (P (O (3 * u + 1))) (P (O (3 * u + 2))), ?_, ?_, ?_⟩
    · rw [← hm_l, ← hm_l, ← hm_l, hO (3 * t) (by omega), hO (3 * t + 1) (by omega), hO (3 * t + 2) (by omega)]
      exact ⟨l1, l2, l3⟩
    · rw [← hm_l, ← hm_l, ← hm_l, hO (3 * t) (by omega), hO (3 * t + 1) (by omega), hO (3 * t + 2) (by omega)]
      rcases xt_d4 t lt u lu ne with e | e | e
      · have := v u lu _ x1
        rw [if_pos e] at this
        omega
      · have := v u lu _ x2
        rw [if_pos e] at this
        omega
      · have := v u lu _ x3
        rw [if_pos e] at this
        omega
    · rw [← hm_l, ← hm_l, ← hm_l, hO (3 * u) (by omega), hO (3 * u + 1) (by omega), hO (3 * u + 2) (by omega), v u lu _ y1, v u lu _ y2, v u lu _ y3, if_neg u1, if_neg u2, if_neg u3]
      omega
section
variable {f_room f_count f_isSolid f_facetCount f_cornerCount f_edgeCount f_volume : Int32} {a_px a_py a_pz a_alive a_origin a_twin a_sees a_stack a_rimFrom a_rimTo a_rimOuter a_fan a_facetOf a_leader a_planes a_joined : Nat → Int32}
theorem xw_st99 {post : SX → Prop} {J89 : Int32 → (Nat → Int32) → (Nat → Int32) → (Nat → Int32) → (Nat → Int32) → (Nat → Int32) → (Nat → Int32) → (Nat → Int32) → (Nat → Int32) → (Nat → Int32) → (Nat → Int32) → (Nat → Int32) → (Nat → Int32) → (Nat → Int32) → (Nat → Int32) → (Nat → Int32) → (Nat → Int32) → Prop}
    {q : Nat → Nat} {h : Nat} (hh : h < 12) (ho : ∀ k, k < 12 → a_origin k = nI (q (xt_s k))) (qi : ∀ i j, i < 4 → j < 4 → q i = q j → i = j) (ql : ∀ i, i < 4 → q i < 14)
    {tw0 : Nat → Int32}
    (hJ : ∀ tw, tw h = nI (xt_t h) → (∀ k, k ≠ h → tw k = tw0 k) → J89 (nI (h + 1)) a_px a_py a_pz a_alive a_origin tw a_sees a_stack a_rimFrom a_rimTo a_rimOuter a_fan a_facetOf a_leader a_planes a_joined) :
    ∀ e g n tw, g + e = 12 → e < n → (xt_t h < g → tw h = nI (xt_t h)) → (∀ k, k ≠ h → tw k = tw0 k) →
      wX_startWith_99 post J89 (nI h) f_room f_count f_isSolid f_facetCount f_cornerCount f_edgeCount f_volume n (nI g) a_px a_py a_pz a_alive a_origin tw a_sees a_stack a_rimFrom a_rimTo a_rimOuter a_fan a_facetOf a_leader a_planes a_joined := by
  have eqo : ∀ i j, i < 12 → j < 12 → (a_origin i = a_origin j ↔ xt_s i = xt_s j) := by
    intro i j hi hj
    obtain ⟨i1, _⟩ := xt_d3 i hi
    obtain ⟨j1, _⟩ := xt_d3 j hj
    have := ql _ i1
    have := ql _ j1
    rw [ho i hi, ho j hj, nI_eq (by omega) (by omega)]
    exact ⟨fun e => qi _ _ i1 j1 e, fun e => by rw [e]⟩
  intro e
  induction e with
  | zero =>
    intro g n tw hg hn h1 h2
    obtain ⟨n, rfl⟩ : ∃ m, n = m + 1 := ⟨n - 1, by omega⟩
    have : g = 12 := by omega
    subst this
    exact br_t (show (12 : Int32) ≤ nI 12 from nI_le (a := 12) (b := 12) (Nat.le_refl 12) (by decide)) (nm_r (nI_1 h) (hJ tw (h1 (xt_d2 h hh).1) h2))
  | succ e ih =>
    intro g n tw hg hn h1 h2
    obtain ⟨n, rfl⟩ : ∃ m, n = m + 1 := ⟨n - 1, by omega⟩
    have hg' : g < 12 := by omega
    obtain ⟨_, d6⟩ := xt_d3 h hh
    obtain ⟨_, d7⟩ := xt_d3 g hg'
    have dd := xt_d1 h hh g hg'
    have no : ¬ (xt_s h = xt_s (hn_n g) ∧ xt_s g = xt_s (hn_n h)) → (xt_t h < g + 1 → tw h = nI (xt_t h)) := by
      intro k l
      have : g ≠ xt_t h := fun x => k (dd.mpr x)
      exact h1 (by omega)
    unfold wX_startWith_99
    rw [nI_clamp (show h < 2 ^ 31 by omega), nI_clamp (show g < 2 ^ 31 by omega)]
    refine br_f (nI_ge (b := 12) hg' (by decide)) ⟨vp_in_nI (by omega) (by decide), xw_dest (by omega) (br_c (fun z => ⟨vp_in_nI (by omega) (by decide), xw_dest (by omega) (br_c (fun z2 => ⟨vp_in_nI (by omega) (by decide), nm_e (nm_r (nI_1 g) ?_)⟩) (fun z2 => nm_r (nI_1 g) ?_))⟩) (fun z => nm_r (nI_1 g) ?_))⟩
    · have eg := dd.mp ⟨(eqo _ _ hh d7).mp z, (eqo _ _ hg' d6).mp z2⟩
      refine ih (g + 1) n _ (by omega) (by omega) (fun _ => by rw [pk_us, eg]) (fun k hk => by rw [pk_un hk]; exact h2 k hk)
    · exact ih (g + 1) n tw (by omega) (by omega) (no fun k => z2 ((eqo _ _ hg' d6).mpr k.2)) h2
    · exact ih (g + 1) n tw (by omega) (by omega) (no fun k => z ((eqo _ _ hh d7).mpr k.1)) h2
theorem xw_st89 {post : SX → Prop} {q : Nat → Nat} (ho : ∀ k, k < 12 → a_origin k = nI (q (xt_s k))) (qi : ∀ i j, i < 4 → j < 4 → q i = q j → i = j) (ql : ∀ i, i < 4 → q i < 14)
    (K : ∀ tw, (∀ k, k < 12 → tw k = nI (xt_t k)) → post (f_room, f_count, f_isSolid, f_facetCount, f_cornerCount, f_edgeCount, f_volume, a_px, a_py, a_pz, a_alive, a_origin, tw, a_sees, a_stack, a_rimFrom, a_rimTo, a_rimOuter, a_fan, a_facetOf, a_leader, a_planes, a_joined)) :
    ∀ e h n tw, h + e = 12 → e < n → (∀ k, k < h → tw k = nI (xt_t k)) → wX_startWith_89 post f_room f_count f_isSolid f_facetCount f_cornerCount f_edgeCount f_volume n (nI h) a_px a_py a_pz a_alive a_origin tw a_sees a_stack a_rimFrom a_rimTo a_rimOuter a_fan a_facetOf a_leader a_planes a_joined := by
  intro e
  induction e with
  | zero =>
    intro h n tw hg hn h1
    obtain ⟨n, rfl⟩ : ∃ m, n = m + 1 := ⟨n - 1, by omega⟩
    have : h = 12 := by omega
    subst this
    exact br_t (show (12 : Int32) ≤ nI 12 from nI_le (a := 12) (b := 12) (Nat.le_refl 12) (by decide)) (K tw h1)
  | succ e ih =>
    intro h n tw hg hn h1
    obtain ⟨n, rfl⟩ : ∃ m, n = m + 1 := ⟨n - 1, by omega⟩
    unfold wX_startWith_89
    refine br_f (nI_ge (b := 12) (by omega) (by decide)) ⟨13, xw_st99 (tw0 := tw) (show h < 12 by omega) ho qi ql ?_ 12 0 13 tw (by omega) (by omega) (fun k => absurd k (Nat.not_lt_zero _)) (fun _ _ => rfl)⟩
    intro tw' k1 k2
    refine ih (h + 1) n tw' (by omega) (by omega) fun k hk => ?_
    rcases Nat.decEq k h with c | c
    · rw [k2 k c]; exact h1 k (by omega)
    · rw [c]; exact k1
theorem xw_st46 {post : SX → Prop} (hB : xp_B a_px a_py a_pz) {b e d : Nat} (hb : b < 14) (he : e < 14) (hd : d < 14) (n1 : 0 ≠ b) (n2 : 0 ≠ e) (n3 : 0 ≠ d) (n4 : b ≠ e) (n5 : b ≠ d) (n6 : e ≠ d)
    (hz : ∀ t, t < 26 → a_alive t = 0)
    (w : hu_d (xp_P a_px a_py a_pz 0) (xp_P a_px a_py a_pz b) (xp_P a_px a_py a_pz e) (xp_P a_px a_py a_pz d) < 0)
    (K : ∀ alive origin twin, xm_M a_px a_py a_pz alive origin twin (fun x => x = 0 ∨ x = b ∨ x = e ∨ x = d) → hs_n (fun t => ¬ alive t = 0) 26 = 4 → post (f_room, f_count, f_isSolid, f_facetCount, f_cornerCount, f_edgeCount, f_volume, a_px, a_py, a_pz, alive, origin, twin, a_sees, a_stack, a_rimFrom, a_rimTo, a_rimOuter, a_fan, a_facetOf, a_leader, a_planes, a_joined)) :
    wX_startWith_46 post (nI d) (nI b) (nI e) f_room f_count f_isSolid f_facetCount f_cornerCount f_edgeCount f_volume a_px a_py a_pz a_alive a_origin a_twin a_sees a_stack a_rimFrom a_rimTo a_rimOuter a_fan a_facetOf a_leader a_planes a_joined := by
  unfold wX_startWith_46
  refine xw_set (t := 0) (by omega) (xw_set (t := 1) (by omega) (xw_set (t := 2) (by omega) (xw_set (t := 3) (by omega) ⟨13, ?_⟩)))
  generalize hal : upd (upd (upd (upd a_alive 0 1) 1 1) 2 1) 3 1 = al
  generalize hor : upd (upd (upd (upd (upd (upd (upd (upd (upd (upd (upd (upd a_origin (3 * 0) 0) (3 * 0 + 1) (nI b)) (3 * 0 + 2) (nI e)) (3 * 1) 0) (3 * 1 + 1) (nI d)) (3 * 1 + 2) (nI b)) (3 * 2) (nI b)) (3 * 2 + 1) (nI d)) (3 * 2 + 2) (nI e)) (3 * 3) (nI e)) (3 * 3 + 1) (nI d)) (3 * 3 + 2) 0 = og
  have hA : ∀ t, t < 26 → ((¬ al t = 0) ↔ t < 4) := by
    intro t ht
    rw [← hal]
    rcases Nat.lt_or_ge t 4 with c | c
    · have ct : t = 0 ∨ t = 1 ∨ t = 2 ∨ t = 3 := by omega
      refine ⟨fun _ => c, fun _ => ?_⟩
      rcases ct with d | d | d | d <;> subst d
      · rw [pk_un (by omega), pk_un (by omega), pk_un (by omega), pk_us]; decide
      · rw [pk_un (by omega), pk_un (by omega), pk_us]; decide
      · rw [pk_un (by omega), pk_us]; decide
      · rw [pk_us]; decide
    · rw [pk_un (by omega), pk_un (by omega), pk_un (by omega), pk_un (by omega)]
      exact ⟨fun x => absurd (hz t ht) x, fun x => by omega⟩
  have hO : ∀ k, k < 12 → og k = nI ((fun i => [0, b, e, d].getD i 0) (xt_s k)) := by
    intro k hk
    rw [← hor]
    have ck : k = 0 ∨ k = 1 ∨ k = 2 ∨ k = 3 ∨ k = 4 ∨ k = 5 ∨ k = 6 ∨ k = 7 ∨ k = 8 ∨ k = 9 ∨ k = 10 ∨ k = 11 := by omega
    unfold upd
    rcases ck with c | c | c | c | c | c | c | c | c | c | c | c <;> subst c <;> rfl
  clear hal hor
  have q0 : (fun i => [0, b, e, d].getD i 0) 0 = 0 := rfl
  have q1 : (fun i => [0, b, e, d].getD i 0) 1 = b := rfl
  have q2 : (fun i => [0, b, e, d].getD i 0) 2 = e := rfl
  have q3 : (fun i => [0, b, e, d].getD i 0) 3 = d := rfl
  generalize (fun i => [0, b, e, d].getD i 0) = q at hO q0 q1 q2 q3
  have ql : ∀ i, i < 4 → q i < 14 := by
    intro i hi
    have ci : i = 0 ∨ i = 1 ∨ i = 2 ∨ i = 3 := by omega
    rcases ci with c | c | c | c <;> subst c <;> omega
  have qi : ∀ i j, i < 4 → j < 4 → q i = q j → i = j := by
    intro i j hi hj h
    have ci : i = 0 ∨ i = 1 ∨ i = 2 ∨ i = 3 := by omega
    have cj : j = 0 ∨ j = 1 ∨ j = 2 ∨ j = 3 := by omega
    rcases ci with c | c | c | c <;> subst c <;> rcases cj with c | c | c | c <;> subst c <;> omega
  refine xw_st89 hO qi ql ?_ 12 0 13 a_twin (by omega) (by omega) (fun k hk => absurd hk (Nat.not_lt_zero k))
  intro tw ht
  have MM := xt_M (P := xp_P a_px a_py a_pz) (O := xp_O og) (T := xp_O tw) (q := q) (A := fun t => ¬ al t = 0) (fun _ => rfl)
    (fun h hh => by unfold xp_O; rw [hO h hh, nI_clamp (by have := ql _ (xt_d3 h hh).1; omega)])
    (fun h hh => by unfold xp_O; rw [ht h hh, nI_clamp (by have := (xt_d2 h hh).1; omega)]) hA (by rw [q0, q1, q2, q3]; exact w)
  have eS : (fun x => ∃ k, k < 4 ∧ x = q k) = (fun x => x = 0 ∨ x = b ∨ x = e ∨ x = d) := by
    funext x
    refine propext ⟨?_, ?_⟩
    · rintro ⟨k, hk, ek⟩
      have ck : k = 0 ∨ k = 1 ∨ k = 2 ∨ k = 3 := by omega
      rcases ck with c | c | c | c <;> subst c <;> omega
    · rintro (h | h | h | h)
      · exact ⟨0, by omega, by omega⟩
      · exact ⟨1, by omega, by omega⟩
      · exact ⟨2, by omega, by omega⟩
      · exact ⟨3, by omega, by omega⟩
  rw [eS] at MM
  refine K al og tw ⟨MM, ?_, hB, ?_⟩ ?_
  · intro h hh a
    have l : h / 3 < 4 := (hA _ (by omega)).mp a
    rw [hO h (by omega), ht h (by omega)]
    exact ⟨vp_in_nI (ql _ (xt_d3 h (by omega)).1) (by decide), vp_in_nI (by have := (xt_d2 h (by omega)).1; omega) (by decide)⟩
  · rintro x (h | h | h | h) <;> omega
  · rw [hs_ncg hA]
    have e4 : ∀ n : Nat, hs_n (fun t => t < 4) (4 + n) = 4 := by
      intro n
      induction n with
      | zero =>
        show ((((0 : Int) + hs_i (0 < 4)) + hs_i (1 < 4)) + hs_i (2 < 4)) + hs_i (3 < 4) = 4
        rw [hs_it (p := 0 < 4) (by omega), hs_it (p := 1 < 4) (by omega), hs_it (p := 2 < 4) (by omega), hs_it (p := 3 < 4) (by omega)]; rfl
      | succ n ih =>
        have e : hs_n (fun t => t < 4) (4 + n + 1) = hs_n (fun t => t < 4) (4 + n) + hs_i (4 + n < 4) := rfl
        show hs_n (fun t => t < 4) (4 + n + 1) = 4
        rw [e, ih, hs_if (by omega)]; rfl
    exact e4 22
theorem xw_startWith {post : SX → Prop} (hB : xp_B a_px a_py a_pz) {c d : Nat} (c2 : 2 ≤ c) (cd : c < d) (hd : d < 14)
    (hz : ∀ t, t < 26 → a_alive t = 0)
    (w : hu_d (xp_P a_px a_py a_pz 0) (xp_P a_px a_py a_pz 1) (xp_P a_px a_py a_pz c) (xp_P a_px a_py a_pz d) ≠ 0)
    (K : ∀ alive origin twin, xm_M a_px a_py a_pz alive origin twin (fun x => x = 0 ∨ x = 1 ∨ x = c ∨ x = d) → hs_n (fun t => ¬ alive t = 0) 26 = 4 → post (f_room, f_count, f_isSolid, f_facetCount, f_cornerCount, f_edgeCount, f_volume, a_px, a_py, a_pz, alive, origin, twin, a_sees, a_stack, a_rimFrom, a_rimTo, a_rimOuter, a_fan, a_facetOf, a_leader, a_planes, a_joined)) :
    wpX_startWith post (f_room, f_count, f_isSolid, f_facetCount, f_cornerCount, f_edgeCount, f_volume, a_px, a_py, a_pz, a_alive, a_origin, a_twin, a_sees, a_stack, a_rimFrom, a_rimTo, a_rimOuter, a_fan, a_facetOf, a_leader, a_planes, a_joined) (nI c) (nI d) := by
  have vd := vp_in_nI hd (show 14 < 2 ^ 31 by decide)
  unfold wpX_startWith
  dsimp only
  rw [nI_clamp (show d < 2 ^ 31 by omega)]
  refine ⟨vd, vd, vd, xw_vol (i := 0) (j := 1) (k := c) (by omega) (by omega) (by omega) hB (xp_bB hB d) fun r hr => ?_⟩
  have hr' : r.toInt = hu_d (xp_P a_px a_py a_pz 0) (xp_P a_px a_py a_pz 1) (xp_P a_px a_py a_pz c) (xp_P a_px a_py a_pz d) := hr
  refine br_c (fun z => ?_) (fun z => ?_)
  · unfold wX_startWith_35
    refine br_t z (xw_st46 (b := 1) hB (by omega) (show c < 14 by omega) hd (by omega) (by omega) (by omega) (by omega) (by omega) (by omega) hz ?_ K)
    rw [xp_le0] at z
    omega
  · unfold wX_startWith_35
    refine br_f z (xw_st46 (e := 1) hB (show c < 14 by omega) (by omega) hd (by omega) (by omega) (by omega) (by omega) (by omega) (by omega) hz ?_ ?_)
    · rw [hu_d23 (xp_P a_px a_py a_pz 0) (xp_P a_px a_py a_pz 1) (xp_P a_px a_py a_pz c)]
      rw [xp_le0] at z
      omega
    · intro alive origin twin M cn
      refine K alive origin twin ?_ cn
      have eS : (fun x => x = 0 ∨ x = c ∨ x = 1 ∨ x = d) = (fun x => x = 0 ∨ x = 1 ∨ x = c ∨ x = d) := by
        funext x
        exact propext ⟨fun h => by omega, fun h => by omega⟩
      rw [← eS]; exact M
end
end
section
/-- four of the first n points span -/
def xz_4 (P : Nat → hu_V) (n : Nat) : Prop := ∃ a b c d, a < n ∧ b < n ∧ c < n ∧ d < n ∧ hu_d (P a) (P b) (P c) (P d) ≠ 0
/-- the component's state stands for the first n points -/
def xz_S (px py pz alive origin twin leader planes joined : Nat → Int32) (n : Nat) (solid fc cc ec vol : Int32) : Prop :=
  (solid = 0 ∧ ¬ xz_4 (xp_P px py pz) n) ∨
  (solid = 1 ∧ xm_M px py pz alive origin twin (fun x => x < n) ∧ hs_n (fun t => ¬ alive t = 0) 26 + 4 ≤ 2 * (n : Int) ∧ ∃ nf, fc = nI nf ∧ xq_R px py pz alive origin leader planes joined n nf cc ec vol)
theorem xz_few {P : Nat → hu_V} {n : Nat} (hn : n < 4) : ¬ xz_4 P n := by
  rintro ⟨a, b, c, d, ha, hb, hc, hd, ne⟩
  have k : a = b ∨ a = c ∨ a = d ∨ b = c ∨ b = d ∨ c = d := by omega
  rcases k with k | k | k | k | k | k <;> subst k
  · exact ne (hu_z12 _ _ _)
  · exact ne (hu_z13 _ _ _)
  · exact ne (hu_z14 _ _ _)
  · exact ne (hu_z23 _ _ _)
  · exact ne (hu_z24 _ _ _)
  · exact ne (hu_z34 _ _ _)
theorem xz_line {P : Nat → hu_V} {n : Nat} (hw : ∀ x, (P x).1 = 1) (n2 : 2 ≤ n) (hD : ∀ x y, x < n → y < n → P x = P y → x = y)
    (h : ∀ q, 2 ≤ q → q < n → ∀ z, hu_d (P 0) (P 1) (P q) z = 0) : ¬ xz_4 P n := by
  rintro ⟨a, b, c, d, ha, hb, hc, hd, ne⟩
  have on : ∀ x, x < n → ∀ z, hu_d (P 0) (P 1) (P x) z = 0 := by
    intro x hx z
    rcases Nat.lt_or_ge x 2 with k | k
    · have k2 : x = 0 ∨ x = 1 := by omega
      rcases k2 with k2 | k2 <;> subst k2
      · exact hu_z13 _ _ _
      · exact hu_z23 _ _ _
    · exact h x k hx z
  have ind := hf_ne (hw 0) (hw 1) (fun e => by have := hD 0 1 (by omega) (by omega) e; omega)
  exact ne (hf_ln ind (on a ha) (on b hb) (on c hc) _)
theorem xz_plane {P : Nat → hu_V} {n t : Nat} (t2 : 2 ≤ t) (nc : ¬ ∀ z, hu_d (P 0) (P 1) (P t) z = 0)
    (lo : ∀ q, 2 ≤ q → q < t → ∀ z, hu_d (P 0) (P 1) (P q) z = 0) (hi : ∀ q, t < q → q < n → hu_d (P 0) (P 1) (P t) (P q) = 0) : ¬ xz_4 P n := by
  rintro ⟨a, b, c, d, ha, hb, hc, hd, ne⟩
  have on : ∀ x, x < n → hu_l (hu_c (P 0) (P 1) (P t)) (P x) = 0 := by
    intro x hx
    show hu_d (P 0) (P 1) (P t) (P x) = 0
    rcases Nat.lt_trichotomy x t with k | k | k
    · rcases Nat.lt_or_ge x 2 with k3 | k3
      · have k2 : x = 0 ∨ x = 1 := by omega
        rcases k2 with k2 | k2 <;> subst k2
        · exact hu_z14 _ _ _
        · exact hu_z24 _ _ _
      · rw [hu_d34 (P 0) (P 1) (P x) (P t), lo x k3 k]; rfl
    · subst k; exact hu_z34 _ _ _
    · exact hi x k hx
  exact nc fun z => ho_all (on a ha) (on b hb) (on c hc) (on d hd) ne z
section
variable {f_room f_count f_isSolid f_facetCount f_cornerCount f_edgeCount f_volume : Int32} {a_px a_py a_pz a_alive a_origin a_twin a_sees a_stack a_rimFrom a_rimTo a_rimOuter a_fan a_facetOf a_leader a_planes a_joined : Nat → Int32}
theorem xw_rb72 {post : SX → Prop} {c t d : Nat} (hc : c ≤ 14) (t2 : 2 ≤ t) (td : t < d) (dc : d < c)
    (K : ∀ fc cc ec vol alive origin twin sees stack rf rt ro fan fo leader pl jo, xz_S a_px a_py a_pz alive origin twin leader pl jo c 1 fc cc ec vol →
      post (f_room, nI c, 1, fc, cc, ec, vol, a_px, a_py, a_pz, alive, origin, twin, sees, stack, rf, rt, ro, fan, fo, leader, pl, jo)) :
    ∀ e p n alive origin twin sees stack rf rt ro fan, p + e = c → e < n → 2 ≤ p →
      xm_M a_px a_py a_pz alive origin twin (fun x => x = 0 ∨ x = 1 ∨ x = t ∨ x = d ∨ (2 ≤ x ∧ x < p)) →
      hs_n (fun t => ¬ alive t = 0) 26 + 4 ≤ 2 * ((p + (if p ≤ t then 1 else 0) + (if p ≤ d then 1 else 0) : Nat) : Int) →
      wX_rebuild_72 post (nI t) (nI d) n (nI p) f_room (nI c) 1 f_facetCount f_cornerCount f_edgeCount f_volume a_px a_py a_pz alive origin twin sees stack rf rt ro fan a_facetOf a_leader a_planes a_joined := by
  intro e
  induction e with
  | zero =>
    intro p n alive origin twin sees stack rf rt ro fan hp hn p2 M cn
    obtain ⟨n, rfl⟩ : ∃ m, n = m + 1 := ⟨n - 1, by omega⟩
    have : p = c := by omega
    subst this
    have eS : (fun x => x = 0 ∨ x = 1 ∨ x = t ∨ x = d ∨ (2 ≤ x ∧ x < p)) = (fun x => x < p) := by
      funext x
      exact propext ⟨fun h => by omega, fun h => by omega⟩
    rw [eS] at M
    rw [if_neg (by omega), if_neg (by omega)] at cn
    exact br_t (nI_le (Nat.le_refl _) (by omega)) (xw_refresh M hc fun nf cc ec vol stack' fo leader pl jo R => K _ _ _ _ _ _ _ _ _ _ _ _ _ _ _ _ _ (Or.inr ⟨rfl, M, cn, nf, rfl, R⟩))
  | succ e ih =>
    intro p n alive origin twin sees stack rf rt ro fan hp hn p2 M cn
    obtain ⟨n, rfl⟩ : ∃ m, n = m + 1 := ⟨n - 1, by omega⟩
    have hp' : p < c := by omega
    unfold wX_rebuild_72
    refine br_f (nI_ge hp' (by omega)) (pk_eq p t (fun k => nm_r (nI_1 p) ?_) (fun k => pk_eq p d (fun k2 => nm_r (nI_1 p) ?_) (fun k2 => ?_)))
    · refine ih (p + 1) n alive origin twin sees stack rf rt ro fan (by omega) (by omega) (by omega) ?_ ?_
      · have eS : (fun x => x = 0 ∨ x = 1 ∨ x = t ∨ x = d ∨ (2 ≤ x ∧ x < p + 1)) = (fun x => x = 0 ∨ x = 1 ∨ x = t ∨ x = d ∨ (2 ≤ x ∧ x < p)) := by
          funext x
          exact propext ⟨fun h => by omega, fun h => by omega⟩
        rw [eS]; exact M
      · rw [if_pos (by omega)] at cn
        rw [if_neg (by omega)]
        rw [if_pos (by omega)] at cn ⊢
        omega
    · refine ih (p + 1) n alive origin twin sees stack rf rt ro fan (by omega) (by omega) (by omega) ?_ ?_
      · have eS : (fun x => x = 0 ∨ x = 1 ∨ x = t ∨ x = d ∨ (2 ≤ x ∧ x < p + 1)) = (fun x => x = 0 ∨ x = 1 ∨ x = t ∨ x = d ∨ (2 ≤ x ∧ x < p)) := by
          funext x
          exact propext ⟨fun h => by omega, fun h => by omega⟩
        rw [eS]; exact M
      · rw [if_neg (show ¬ p ≤ t by omega), if_pos (show p ≤ d by omega)] at cn
        rw [if_neg (show ¬ p + 1 ≤ t by omega), if_neg (show ¬ p + 1 ≤ d by omega)]
        omega
    · have bound : p + (if p ≤ t then 1 else 0) + (if p ≤ d then 1 else 0) ≤ 13 := by split <;> split <;> omega
      refine xw_insert M (show p < 14 by omega) cn bound fun alive' origin' twin' sees' stack' rf' rt' ro' fan' M' cn' => nm_r (nI_1 p) ?_
      refine ih (p + 1) n alive' origin' twin' sees' stack' rf' rt' ro' fan' (by omega) (by omega) (by omega) ?_ ?_
      · have eS : (fun x => x = 0 ∨ x = 1 ∨ x = t ∨ x = d ∨ (2 ≤ x ∧ x < p + 1)) = (fun x => (x = 0 ∨ x = 1 ∨ x = t ∨ x = d ∨ (2 ≤ x ∧ x < p)) ∨ x = p) := by
          funext x
          exact propext ⟨fun h => by omega, fun h => by omega⟩
        rw [eS]; exact M'
      · have e1 : (if p + 1 ≤ t then 1 else 0) = (if p ≤ t then 1 else 0) := by split <;> split <;> omega
        have e2 : (if p + 1 ≤ d then 1 else 0) = (if p ≤ d then 1 else 0) := by split <;> split <;> omega
        rw [e1, e2]
        omega
theorem xw_rebuild {post : SX → Prop} (hB : xp_B a_px a_py a_pz) {c : Nat} (hc : c ≤ 14) (hD : ∀ x y, x < c → y < c → xp_P a_px a_py a_pz x = xp_P a_px a_py a_pz y → x = y)
    (K : ∀ solid fc cc ec vol alive origin twin sees stack rf rt ro fan fo leader pl jo, xz_S a_px a_py a_pz alive origin twin leader pl jo c solid fc cc ec vol →
      post (f_room, nI c, solid, fc, cc, ec, vol, a_px, a_py, a_pz, alive, origin, twin, sees, stack, rf, rt, ro, fan, fo, leader, pl, jo)) :
    wpX_rebuild post (f_room, nI c, f_isSolid, f_facetCount, f_cornerCount, f_edgeCount, f_volume, a_px, a_py, a_pz, a_alive, a_origin, a_twin, a_sees, a_stack, a_rimFrom, a_rimTo, a_rimOuter, a_fan, a_facetOf, a_leader, a_planes, a_joined) := by
  have loop : ∀ e t n alive, t + e = 26 → e < n → (∀ u, u < t → alive u = 0) → wX_rebuild_2 post f_room (nI c) f_isSolid f_facetCount f_cornerCount f_edgeCount f_volume n (nI t) a_px a_py a_pz alive a_origin a_twin a_sees a_stack a_rimFrom a_rimTo a_rimOuter a_fan a_facetOf a_leader a_planes a_joined := by
    intro e
    induction e with
    | zero =>
      intro t n alive ht hn hz
      obtain ⟨n, rfl⟩ : ∃ m, n = m + 1 := ⟨n - 1, by omega⟩
      have : t = 26 := by omega
      subst this
      unfold wX_rebuild_2
      refine br_t (show (26 : Int32) ≤ nI 26 from nI_le (a := 26) (b := 26) (Nat.le_refl 26) (by decide)) (pk_le 4 c (fun c4 => ?_) (fun c4 => ?_))
      · refine xw_third hc (by omega) hB (fun q q2 qc nc lo => br_t (nI_pos' (by omega)) ?_) (fun al => br_f (by decide) ?_)
        · refine xw_fourth hc qc hB (fun d qd dc ne => ?_) (fun al => ?_)
          · unfold wX_rebuild_53
            refine br_t (nI_pos' (by omega)) (xw_startWith hB q2 qd (by omega) hz ne fun alive' origin' twin' M' cn' => ⟨c + 1, ?_⟩)
            refine xw_rb72 hc q2 qd dc (fun fc cc ec vol alive origin twin sees stack rf rt ro fan fo leader pl jo => K 1 fc cc ec vol alive origin twin sees stack rf rt ro fan fo leader pl jo) (c - 2) 2 (c + 1) alive' origin' twin' a_sees a_stack a_rimFrom a_rimTo a_rimOuter a_fan (by omega) (by omega) (by omega) ?_ ?_
            · have eS : (fun x => x = 0 ∨ x = 1 ∨ x = q ∨ x = d ∨ (2 ≤ x ∧ x < 2)) = (fun x => x = 0 ∨ x = 1 ∨ x = q ∨ x = d) := by
                funext x
                exact propext ⟨fun h => by omega, fun h => by omega⟩
              rw [eS]; exact M'
            · rw [cn', if_pos q2, if_pos (by omega)]; decide
          · unfold wX_rebuild_53
            exact br_f (by decide) (K 0 f_facetCount f_cornerCount f_edgeCount f_volume alive a_origin a_twin a_sees a_stack a_rimFrom a_rimTo a_rimOuter a_fan a_facetOf a_leader a_planes a_joined (Or.inl ⟨rfl, xz_plane q2 nc lo al⟩))
        · unfold wX_rebuild_53
          exact br_f (by decide) (K 0 f_facetCount f_cornerCount f_edgeCount f_volume alive a_origin a_twin a_sees a_stack a_rimFrom a_rimTo a_rimOuter a_fan a_facetOf a_leader a_planes a_joined (Or.inl ⟨rfl, xz_line (fun _ => rfl) (by omega) hD al⟩))
      · exact K 0 f_facetCount f_cornerCount f_edgeCount f_volume alive a_origin a_twin a_sees a_stack a_rimFrom a_rimTo a_rimOuter a_fan a_facetOf a_leader a_planes a_joined (Or.inl ⟨rfl, xz_few c4⟩)
    | succ e ih =>
      intro t n alive ht hn hz
      obtain ⟨n, rfl⟩ : ∃ m, n = m + 1 := ⟨n - 1, by omega⟩
      unfold wX_rebuild_2
      rw [nI_clamp (show t < 2 ^ 31 by omega), xp_b0]
      refine br_f (nI_ge (b := 26) (by omega) (by decide)) ⟨vp_in_nI (by omega) (by decide), nm_e (nm_r (nI_1 t) (ih (t + 1) n _ (by omega) (by omega) fun u hu => ?_))⟩
      rcases Nat.decEq u t with k | k
      · rw [pk_un k]; exact hz u (by omega)
      · rw [k, pk_us]
  unfold wpX_rebuild
  dsimp only
  exact ⟨27, loop 26 0 27 a_alive (by omega) (by omega) (fun u hu => absurd hu (Nat.not_lt_zero u))⟩
end
end
section
/-! the reference's list of planes -/
def yl_L (nx ny nz off : Nat → Int32) (g : Nat) : hu_V := (-(off g).toInt, (nx g).toInt, (ny g).toInt, (nz g).toInt)
/-- plane g comes from a triple, all lies under it, and its mask says who is in it -/
def yl_P (px py pz : Nat → Int32) (n : Nat) (nx ny nz off holds : Nat → Int32) (g : Nat) : Prop :=
  ∃ i j k : Nat, ∃ s : Int, i < n ∧ j < n ∧ k < n ∧ (s = 1 ∨ s = -1) ∧ yl_L nx ny nz off g = hu_k s (hu_c (xp_P px py pz i) (xp_P px py pz j) (xp_P px py pz k)) ∧
    (∀ x, x < n → hu_l (yl_L nx ny nz off g) (xp_P px py pz x) ≤ 0) ∧ (∃ x, x < n ∧ hu_l (yl_L nx ny nz off g) (xp_P px py pz x) < 0) ∧
    (∀ q, q < 32 → (bt (holds g) q = true ↔ (q < n ∧ hu_l (yl_L nx ny nz off g) (xp_P px py pz q) = 0)))
def yl_I (px py pz : Nat → Int32) (n : Nat) (D : Nat → Nat → Nat → Prop) (solid : Int32) (m : Nat) (nx ny nz off holds : Nat → Int32) : Prop :=
  (∀ g, g < m → yl_P px py pz n nx ny nz off holds g) ∧
  (∀ g g', g < m → g' < m → holds g = holds g' → g = g') ∧
  (∀ a b c, D a b c → ∀ s : Int, (s = 1 ∨ s = -1) → (∀ x, x < n → s * hu_d (xp_P px py pz a) (xp_P px py pz b) (xp_P px py pz c) (xp_P px py pz x) ≤ 0) →
    (∃ x, x < n ∧ s * hu_d (xp_P px py pz a) (xp_P px py pz b) (xp_P px py pz c) (xp_P px py pz x) < 0) →
    ∃ g, g < m ∧ ∀ q, q < n → (hu_l (yl_L nx ny nz off g) (xp_P px py pz q) = 0 ↔ hu_d (xp_P px py pz a) (xp_P px py pz b) (xp_P px py pz c) (xp_P px py pz q) = 0)) ∧
  ((solid = 0 ∧ ∀ a b c, D a b c → ∀ q, q < n → hu_d (xp_P px py pz a) (xp_P px py pz b) (xp_P px py pz c) (xp_P px py pz q) = 0) ∨
   (solid = 1 ∧ ∃ a b c q, D a b c ∧ q < n ∧ hu_d (xp_P px py pz a) (xp_P px py pz b) (xp_P px py pz c) (xp_P px py pz q) ≠ 0))
theorem yl_cg {px py pz : Nat → Int32} {n : Nat} {D D' : Nat → Nat → Nat → Prop} {solid : Int32} {m : Nat} {nx ny nz off holds : Nat → Int32}
    (I : yl_I px py pz n D solid m nx ny nz off holds) (h : ∀ a b c, D' a b c ↔ D a b c) : yl_I px py pz n D' solid m nx ny nz off holds := by
  have e : D' = D := by
    funext a b c
    exact propext (h a b c)
  rw [e]; exact I
/-- a triple whose plane isn't a facet's -/
theorem yl_skip {px py pz : Nat → Int32} {n : Nat} {D : Nat → Nat → Nat → Prop} {solid : Int32} {m : Nat} {nx ny nz off holds : Nat → Int32}
    (I : yl_I px py pz n D solid m nx ny nz off holds) {i j k : Nat} (s' : Int32)
    (hs : (s' = solid ∧ ∀ q, q < n → hu_d (xp_P px py pz i) (xp_P px py pz j) (xp_P px py pz k) (xp_P px py pz q) = 0) ∨
      (s' = 1 ∧ ∃ q, q < n ∧ hu_d (xp_P px py pz i) (xp_P px py pz j) (xp_P px py pz k) (xp_P px py pz q) ≠ 0))
    (no : ∀ s : Int, (s = 1 ∨ s = -1) → (∀ x, x < n → s * hu_d (xp_P px py pz i) (xp_P px py pz j) (xp_P px py pz k) (xp_P px py pz x) ≤ 0) →
      (∃ x, x < n ∧ s * hu_d (xp_P px py pz i) (xp_P px py pz j) (xp_P px py pz k) (xp_P px py pz x) < 0) →
      ∃ g, g < m ∧ ∀ q, q < n → (hu_l (yl_L nx ny nz off g) (xp_P px py pz q) = 0 ↔ hu_d (xp_P px py pz i) (xp_P px py pz j) (xp_P px py pz k) (xp_P px py pz q) = 0)) :
    yl_I px py pz n (fun a b c => D a b c ∨ (a = i ∧ b = j ∧ c = k)) s' m nx ny nz off holds := by
  obtain ⟨i1, i2, i3, i4⟩ := I
  refine ⟨i1, i2, ?_, ?_⟩
  · rintro a b c (d | ⟨e1, e2, e3⟩)
    · exact i3 a b c d
    · subst e1; subst e2; subst e3; exact no
  · rcases hs with ⟨h1, h2⟩ | ⟨h1, q, hq, h2⟩
    · rcases i4 with ⟨h3, h4⟩ | ⟨h3, a, b, c, q, h4, h5, h6⟩
      · left
        refine ⟨h1.trans h3, ?_⟩
        rintro a b c (d | ⟨e1, e2, e3⟩)
        · exact h4 a b c d
        · subst e1; subst e2; subst e3; exact h2
      · exact Or.inr ⟨h1.trans h3, a, b, c, q, Or.inl h4, h5, h6⟩
    · exact Or.inr ⟨h1, i, j, k, q, Or.inr ⟨rfl, rfl, rfl⟩, hq, h2⟩
theorem yl_Lu {nx ny nz off : Nat → Int32} {m g : Nat} {a b c d : Int32} (h : g ≠ m) : yl_L (upd nx m a) (upd ny m b) (upd nz m c) (upd off m d) g = yl_L nx ny nz off g := by
  unfold yl_L; rw [pk_un h, pk_un h, pk_un h, pk_un h]
/-- one plane more -/
theorem yl_put {px py pz : Nat → Int32} {n : Nat} {D : Nat → Nat → Nat → Prop} {solid : Int32} {m : Nat} {nx ny nz off holds : Nat → Int32}
    (I : yl_I px py pz n D solid m nx ny nz off holds) {i j k : Nat} (hi : i < n) (hj : j < n) (hk : k < n) {s : Int} (hs : s = 1 ∨ s = -1) {cx cy cz at' mask : Int32}
    (eL : (-at'.toInt, cx.toInt, cy.toInt, cz.toInt) = hu_k s (hu_c (xp_P px py pz i) (xp_P px py pz j) (xp_P px py pz k)))
    (np : ∀ x, x < n → s * hu_d (xp_P px py pz i) (xp_P px py pz j) (xp_P px py pz k) (xp_P px py pz x) ≤ 0)
    (ng : ∃ x, x < n ∧ s * hu_d (xp_P px py pz i) (xp_P px py pz j) (xp_P px py pz k) (xp_P px py pz x) < 0)
    (mk : ∀ q, q < 32 → (bt mask q = true ↔ (q < n ∧ hu_d (xp_P px py pz i) (xp_P px py pz j) (xp_P px py pz k) (xp_P px py pz q) = 0)))
    (fresh : ∀ g, g < m → ¬ holds g = mask) :
    yl_I px py pz n (fun a b c => D a b c ∨ (a = i ∧ b = j ∧ c = k)) 1 (m + 1) (upd nx m cx) (upd ny m cy) (upd nz m cz) (upd off m at') (upd holds m mask) := by
  obtain ⟨i1, i2, i3, i4⟩ := I
  have Lm : yl_L (upd nx m cx) (upd ny m cy) (upd nz m cz) (upd off m at') m = hu_k s (hu_c (xp_P px py pz i) (xp_P px py pz j) (xp_P px py pz k)) := by
    unfold yl_L; rw [pk_us, pk_us, pk_us, pk_us]; exact eL
  have Lv : ∀ z, hu_l (yl_L (upd nx m cx) (upd ny m cy) (upd nz m cz) (upd off m at') m) z = s * hu_d (xp_P px py pz i) (xp_P px py pz j) (xp_P px py pz k) z := by
    intro z; rw [Lm, hu_kl]; rfl
  have s0 : s ≠ 0 := by omega
  refine ⟨?_, ?_, ?_, ?_⟩
  · intro g hg
    rcases Nat.lt_or_ge g m with c | c
    · obtain ⟨a, b, d, t, h1, h2, h3, h4, h5, h6, h7, h8⟩ := i1 g c
      refine ⟨a, b, d, t, h1, h2, h3, h4, ?_⟩
      rw [yl_Lu (by omega), pk_un (by omega)]
      exact ⟨h5, h6, h7, h8⟩
    · rw [show g = m by omega]
      refine ⟨i, j, k, s, hi, hj, hk, hs, Lm, ?_, ?_, ?_⟩
      · intro x hx; rw [Lv]; exact np x hx
      · obtain ⟨x, hx, h⟩ := ng
        exact ⟨x, hx, by rw [Lv]; exact h⟩
      · intro q hq
        rw [pk_us, mk q hq, Lv]
        constructor
        · rintro ⟨h1, h2⟩; exact ⟨h1, by rw [h2]; omega⟩
        · rintro ⟨h1, h2⟩; exact ⟨h1, sg_z s0 h2⟩
  · intro g g' hg hg' e
    rcases Nat.lt_or_ge g m with c | c <;> rcases Nat.lt_or_ge g' m with c' | c'
    · rw [pk_un (by omega), pk_un (by omega)] at e; exact i2 g g' c c' e
    · rw [pk_un (by omega), show g' = m by omega, pk_us] at e; exact absurd e (fresh g c)
    · rw [pk_un (show g' ≠ m by omega), show g = m by omega, pk_us] at e; exact absurd e.symm (fresh g' c')
    · omega
  · rintro a b c (d | ⟨e1, e2, e3⟩) t ht k1 k2
    · obtain ⟨g, hg, h⟩ := i3 a b c d t ht k1 k2
      exact ⟨g, by omega, fun q hq => by rw [yl_Lu (by omega)]; exact h q hq⟩
    · subst e1; subst e2; subst e3
      refine ⟨m, by omega, fun q hq => ?_⟩
      rw [Lv]
      exact ⟨fun h => sg_z s0 h, fun h => by rw [h]; omega⟩
  · obtain ⟨x, hx, h⟩ := ng
    refine Or.inr ⟨rfl, i, j, k, x, Or.inr ⟨rfl, rfl, rfl⟩, hx, fun e => ?_⟩
    rw [e, Int.mul_zero] at h
    omega
/-- a plane that is on the list -/
theorem yl_same {px py pz : Nat → Int32} {n : Nat} {D : Nat → Nat → Nat → Prop} {solid : Int32} {m : Nat} {nx ny nz off holds : Nat → Int32} (hn : n ≤ 14)
    (I : yl_I px py pz n D solid m nx ny nz off holds) {i j k : Nat} {mask : Int32}
    (ne : ∃ q, q < n ∧ hu_d (xp_P px py pz i) (xp_P px py pz j) (xp_P px py pz k) (xp_P px py pz q) ≠ 0)
    (mk : ∀ q, q < 32 → (bt mask q = true ↔ (q < n ∧ hu_d (xp_P px py pz i) (xp_P px py pz j) (xp_P px py pz k) (xp_P px py pz q) = 0)))
    {g : Nat} (hg : g < m) (e : holds g = mask) :
    yl_I px py pz n (fun a b c => D a b c ∨ (a = i ∧ b = j ∧ c = k)) 1 m nx ny nz off holds := by
  refine yl_skip I 1 (Or.inr ⟨rfl, ne⟩) fun s hs _ _ => ⟨g, hg, fun q hq => ?_⟩
  obtain ⟨a, b, d, t, h1, h2, h3, h4, h5, h6, h7, h8⟩ := I.1 g hg
  have h9 := h8 q (by omega)
  rw [e, mk q (by omega)] at h9
  exact ⟨fun h => (h9.mpr ⟨hq, h⟩).2, fun h => (h9.mp ⟨hq, h⟩).2⟩
section
variable {f_room f_n f_solid f_planes : Int32} {a_px a_py a_pz a_nx a_ny a_nz a_off a_holds : Nat → Int32}
theorem yw_keep {post : SY → Prop} {m : Nat} (hm : m < 364) {cx cy cz at' mask : Int32}
    (K1 : ∀ g, g < m → a_holds g = mask → post (f_room, f_n, f_solid, nI m, a_px, a_py, a_pz, a_nx, a_ny, a_nz, a_off, a_holds))
    (K2 : (∀ g, g < m → ¬ a_holds g = mask) → post (f_room, f_n, f_solid, nI (m + 1), a_px, a_py, a_pz, upd a_nx m cx, upd a_ny m cy, upd a_nz m cz, upd a_off m at', upd a_holds m mask)) :
    wpY_keep post (f_room, f_n, f_solid, nI m, a_px, a_py, a_pz, a_nx, a_ny, a_nz, a_off, a_holds) cx cy cz at' mask := by
  have loop : ∀ e g n, g + e = m → e < n → (∀ k, k < g → ¬ a_holds k = mask) → wY_keep_3 post cx cy cz at' mask f_room f_n f_solid (nI m) a_px a_py a_pz a_nx a_ny a_nz a_off a_holds n (nI g) := by
    intro e
    induction e with
    | zero =>
      intro g n hg hn h
      obtain ⟨n, rfl⟩ : ∃ m, n = m + 1 := ⟨n - 1, by omega⟩
      have : g = m := by omega
      subst this
      have v := vp_in_nI hm (show 364 < 2 ^ 31 by decide)
      unfold wY_keep_3
      rw [nI_clamp (show g < 2 ^ 31 by omega)]
      exact br_t (nI_le (Nat.le_refl _) (by omega)) ⟨v, nm_e ⟨v, nm_e ⟨v, nm_e ⟨v, nm_e ⟨v, nm_e (nm_r (nI_1 g) (K2 h))⟩⟩⟩⟩⟩
    | succ e ih =>
      intro g n hg hn h
      obtain ⟨n, rfl⟩ : ∃ m, n = m + 1 := ⟨n - 1, by omega⟩
      unfold wY_keep_3
      rw [nI_clamp (show g < 2 ^ 31 by omega)]
      refine br_f (nI_ge (show g < m by omega) (by omega)) ⟨vp_in_nI (show g < 364 by omega) (by decide), br_c (fun z => K1 g (by omega) z) (fun z => nm_r (nI_1 g) (ih (g + 1) n (by omega) (by omega) fun k hk => ?_))⟩
      rcases Nat.lt_or_ge k g with c | c
      · exact h k c
      · rw [show k = g by omega]; exact z
  unfold wpY_keep
  dsimp only
  exact ⟨m + 1, loop m 0 (m + 1) (by omega) (by omega) (fun k hk => absurd hk (Nat.not_lt_zero k))⟩
end
end
section
theorem yl_ev (cx cy cz at' x y z : Int32) : (cx * x + cy * y + cz * z) - at' = Int32.ofInt (hu_l (-at'.toInt, cx.toInt, cy.toInt, cz.toInt) (xp_Q x y z)) := by
  have e : hu_l (-at'.toInt, cx.toInt, cy.toInt, cz.toInt) (xp_Q x y z) = cx.toInt * x.toInt + cy.toInt * y.toInt + cz.toInt * z.toInt - at'.toInt := by
    simp only [hu_l, xp_Q]; omega
  rw [e]
  simp only [Int32.ofInt_add, Int32.ofInt_sub, Int32.ofInt_mul, Int32.ofInt_toInt]
/-- the cross product and its plane -/
theorem yl_cr {px py pz : Nat → Int32} (hB : xp_B px py pz) (i j k : Nat) {cx cy cz at' : Int32}
    (e1 : cx = (py j - py i) * (pz k - pz i) - (pz j - pz i) * (py k - py i)) (e2 : cy = (pz j - pz i) * (px k - px i) - (px j - px i) * (pz k - pz i))
    (e3 : cz = (px j - px i) * (py k - py i) - (py j - py i) * (px k - px i)) (e4 : at' = cx * px i + cy * py i + cz * pz i) :
    (-at'.toInt, cx.toInt, cy.toInt, cz.toInt) = hu_k 1 (hu_c (xp_P px py pz i) (xp_P px py pz j) (xp_P px py pz k)) := by
  obtain ⟨a1, a2, a3⟩ := hB i
  obtain ⟨b1, b2, b3⟩ := hB j
  obtain ⟨c1, c2, c3⟩ := hB k
  have s1 := xs_sub b1 a1
  have s2 := xs_sub b2 a2
  have s3 := xs_sub b3 a3
  have t1 := xs_sub c1 a1
  have t2 := xs_sub c2 a2
  have t3 := xs_sub c3 a3
  have m1 := xp_m (u := (py j).toInt - (py i).toInt) (v := (pz k).toInt - (pz i).toInt) (U := 120) (V := 120) (by omega) (by omega)
  have m2 := xp_m (u := (pz j).toInt - (pz i).toInt) (v := (py k).toInt - (py i).toInt) (U := 120) (V := 120) (by omega) (by omega)
  have m3 := xp_m (u := (pz j).toInt - (pz i).toInt) (v := (px k).toInt - (px i).toInt) (U := 120) (V := 120) (by omega) (by omega)
  have m4 := xp_m (u := (px j).toInt - (px i).toInt) (v := (pz k).toInt - (pz i).toInt) (U := 120) (V := 120) (by omega) (by omega)
  have m5 := xp_m (u := (px j).toInt - (px i).toInt) (v := (py k).toInt - (py i).toInt) (U := 120) (V := 120) (by omega) (by omega)
  have m6 := xp_m (u := (py j).toInt - (py i).toInt) (v := (px k).toInt - (px i).toInt) (U := 120) (V := 120) (by omega) (by omega)
  have v1 : cx.toInt = ((py j).toInt - (py i).toInt) * ((pz k).toInt - (pz i).toInt) - ((pz j).toInt - (pz i).toInt) * ((py k).toInt - (py i).toInt) := by
    have e : cx = Int32.ofInt (((py j).toInt - (py i).toInt) * ((pz k).toInt - (pz i).toInt) - ((pz j).toInt - (pz i).toInt) * ((py k).toInt - (py i).toInt)) := by
      rw [e1]; simp only [Int32.ofInt_sub, Int32.ofInt_mul, Int32.ofInt_toInt]
    rw [e, xp_ti (by omega)]
  have v2 : cy.toInt = ((pz j).toInt - (pz i).toInt) * ((px k).toInt - (px i).toInt) - ((px j).toInt - (px i).toInt) * ((pz k).toInt - (pz i).toInt) := by
    have e : cy = Int32.ofInt (((pz j).toInt - (pz i).toInt) * ((px k).toInt - (px i).toInt) - ((px j).toInt - (px i).toInt) * ((pz k).toInt - (pz i).toInt)) := by
      rw [e2]; simp only [Int32.ofInt_sub, Int32.ofInt_mul, Int32.ofInt_toInt]
    rw [e, xp_ti (by omega)]
  have v3 : cz.toInt = ((px j).toInt - (px i).toInt) * ((py k).toInt - (py i).toInt) - ((py j).toInt - (py i).toInt) * ((px k).toInt - (px i).toInt) := by
    have e : cz = Int32.ofInt (((px j).toInt - (px i).toInt) * ((py k).toInt - (py i).toInt) - ((py j).toInt - (py i).toInt) * ((px k).toInt - (px i).toInt)) := by
      rw [e3]; simp only [Int32.ofInt_sub, Int32.ofInt_mul, Int32.ofInt_toInt]
    rw [e, xp_ti (by omega)]
  have n1 := xp_m (u := cx.toInt) (v := (px i).toInt) (U := 28800) (V := 60) (by omega) (by omega)
  have n2 := xp_m (u := cy.toInt) (v := (py i).toInt) (U := 28800) (V := 60) (by omega) (by omega)
  have n3 := xp_m (u := cz.toInt) (v := (pz i).toInt) (U := 28800) (V := 60) (by omega) (by omega)
  have v4 : at'.toInt = cx.toInt * (px i).toInt + cy.toInt * (py i).toInt + cz.toInt * (pz i).toInt := by
    have e : at' = Int32.ofInt (cx.toInt * (px i).toInt + cy.toInt * (py i).toInt + cz.toInt * (pz i).toInt) := by
      rw [e4]; simp only [Int32.ofInt_add, Int32.ofInt_mul, Int32.ofInt_toInt]
    rw [e, xp_ti (by omega)]
  rw [v4, v1, v2, v3]



  simp only [hu_k, hu_c, hu_3, xp_P]
  refine Prod.ext ?_ (Prod.ext ?_ (Prod.ext ?_ ?_))
  · show -(_ + _ + _) = 1 * _
    grind
  · show _ = 1 * _
    grind
  · show _ = 1 * _
    grind
  · show _ = 1 * _
    grind
end
section
/-- the place's height over a plane of the list -/
theorem yl_bd {px py pz : Nat → Int32} (hB : xp_B px py pz) {i j k : Nat} {s : Int} (hs : s = 1 ∨ s = -1) {l : hu_V}
    (e : l = hu_k s (hu_c (xp_P px py pz i) (xp_P px py pz j) (xp_P px py pz k))) {x y z : Int32} (hb : xp_b x y z) : (Int32.ofInt (hu_l l (xp_Q x y z))).toInt = hu_l l (xp_Q x y z) := by
  obtain ⟨a1, a2, a3⟩ := hB i
  obtain ⟨b1, b2, b3⟩ := hB j
  obtain ⟨c1, c2, c3⟩ := hB k
  obtain ⟨d1, d2, d3⟩ := hb
  have bd := xp_hb a1 a2 a3 b1 b2 b3 c1 c2 c3 d1 d2 d3
  rw [xp_hd] at bd
  have ev : hu_l l (xp_Q x y z) = s * hu_d (xp_P px py pz i) (xp_P px py pz j) (xp_P px py pz k) (xp_Q x y z) := by rw [e, hu_kl]; rfl
  have bd' : -22464000 ≤ hu_d (xp_P px py pz i) (xp_P px py pz j) (xp_P px py pz k) (xp_Q x y z) ∧ hu_d (xp_P px py pz i) (xp_P px py pz j) (xp_P px py pz k) (xp_Q x y z) ≤ 22464000 := bd
  refine xp_ti ?_
  rw [ev]
  rcases hs with h | h <;> subst h <;> omega
theorem yl_neg {x : Int32} (h : -2147483648 < x.toInt) : (-x).toInt = - x.toInt := by
  have e : -x = Int32.ofInt (-x.toInt) := by rw [Int32.ofInt_neg, Int32.ofInt_toInt]
  have := x.toInt_lt
  rw [e, xp_ti (by omega)]
section
variable {f_room f_n f_solid f_planes : Int32} {a_px a_py a_pz a_nx a_ny a_nz a_off a_holds : Nat → Int32}
/-- the flags and the mask of a triple's plane -/
def yl_f (E : Nat → Int) (p : Nat) (x14 x15 x16 : Int32) : Prop :=
  ((x14 = 0 ∧ ∀ q, q < p → E q ≤ 0) ∨ (x14 = 1 ∧ ∃ q, q < p ∧ 0 < E q)) ∧
  ((x15 = 0 ∧ ∀ q, q < p → 0 ≤ E q) ∨ (x15 = 1 ∧ ∃ q, q < p ∧ E q < 0)) ∧
  (∀ q, q < 32 → (bt x16 q = true ↔ (q < p ∧ E q = 0)))
theorem yw_tr {post : SY → Prop} (hB : xp_B a_px a_py a_pz) {N i j k m : Nat} (hN : N ≤ 14) (hi : i < N) (hj : j < N) (hk : k < N) (hm : m < 364) {D : Nat → Nat → Nat → Prop} {cx cy cz at' : Int32}
    (eL : (-at'.toInt, cx.toInt, cy.toInt, cz.toInt) = hu_k 1 (hu_c (xp_P a_px a_py a_pz i) (xp_P a_px a_py a_pz j) (xp_P a_px a_py a_pz k)))
    (nb : -2147483648 < cx.toInt ∧ -2147483648 < cy.toInt ∧ -2147483648 < cz.toInt ∧ -2147483648 < at'.toInt)
    (I : yl_I a_px a_py a_pz N D f_solid m a_nx a_ny a_nz a_off a_holds)
    (K : ∀ solid m' nx ny nz off holds, yl_I a_px a_py a_pz N (fun a b c => D a b c ∨ (a = i ∧ b = j ∧ c = k)) solid m' nx ny nz off holds → m' ≤ m + 1 →
      post (f_room, nI N, solid, nI m', a_px, a_py, a_pz, nx, ny, nz, off, holds)) :
    ∀ e p n x14 x15 x16, p + e = N → e < n → yl_f (fun q => hu_d (xp_P a_px a_py a_pz i) (xp_P a_px a_py a_pz j) (xp_P a_px a_py a_pz k) (xp_P a_px a_py a_pz q)) p x14 x15 x16 →
      wY_tryPlane_188 post cx cy cz at' f_room (nI N) f_solid (nI m) a_px a_py a_pz a_nx a_ny a_nz a_off a_holds n x14 x15 x16 (nI p) := by
  generalize hE : (fun q => hu_d (xp_P a_px a_py a_pz i) (xp_P a_px a_py a_pz j) (xp_P a_px a_py a_pz k) (xp_P a_px a_py a_pz q)) = E
  have eE : ∀ q, hu_d (xp_P a_px a_py a_pz i) (xp_P a_px a_py a_pz j) (xp_P a_px a_py a_pz k) (xp_P a_px a_py a_pz q) = E q := fun q => congrFun hE q
  intro e
  induction e with
  | zero =>
    intro p n x14 x15 x16 hp hn F
    obtain ⟨n, rfl⟩ : ∃ m, n = m + 1 := ⟨n - 1, by omega⟩
    have : p = N := by omega
    subst this
    obtain ⟨f1, f2, f3⟩ := F
    have mk : ∀ q, q < 32 → (bt x16 q = true ↔ (q < p ∧ hu_d (xp_P a_px a_py a_pz i) (xp_P a_px a_py a_pz j) (xp_P a_px a_py a_pz k) (xp_P a_px a_py a_pz q) = 0)) := fun q hq => by rw [eE]; exact f3 q hq
    unfold wY_tryPlane_188
    refine br_t (nI_le (Nat.le_refl _) (by omega)) ?_
    rcases f1 with ⟨a1, a2⟩ | ⟨a1, qa, ha, a2⟩ <;> rcases f2 with ⟨b1, b2⟩ | ⟨b1, qb, hb, b2⟩
    · -- all in the plane
      subst a1; subst b1
      refine br_t rfl (br_t rfl ?_)
      unfold wY_tryPlane_285
      refine br_t rfl ?_
      unfold wY_tryPlane_309
      refine br_t rfl (K f_solid m a_nx a_ny a_nz a_off a_holds (yl_skip I f_solid (Or.inl ⟨rfl, fun q hq => ?_⟩) ?_) (by omega))
      · rw [eE]; have := a2 q hq; have := b2 q hq; omega
      · rintro s hs _ ⟨x, hx, h⟩
        rw [eE] at h
        have := a2 x hx; have := b2 x hx
        rw [show E x = 0 by omega, Int.mul_zero] at h
        omega
    · -- below alone: keep it
      subst a1; subst b1
      refine br_t rfl (br_f (by decide) ?_)
      unfold wY_tryPlane_280 wY_tryPlane_285
      refine br_f (by decide) (br_t rfl (yw_keep hm (fun g hg eg => ?_) (fun fresh => ?_)))
      · show wY_tryPlane_309 post cx cy cz at' 0 1 x16 f_room (nI p) 1 (nI m) a_px a_py a_pz a_nx a_ny a_nz a_off a_holds
        unfold wY_tryPlane_309
        exact br_t rfl (K 1 m a_nx a_ny a_nz a_off a_holds (yl_same hN I ⟨qb, hb, by rw [eE]; omega⟩ mk hg eg) (by omega))
      · show wY_tryPlane_309 post cx cy cz at' 0 1 x16 f_room (nI p) 1 (nI (m + 1)) a_px a_py a_pz (upd a_nx m cx) (upd a_ny m cy) (upd a_nz m cz) (upd a_off m at') (upd a_holds m x16)
        unfold wY_tryPlane_309
        refine br_t rfl (K 1 (m + 1) _ _ _ _ _ (yl_put I hi hj hk (Or.inl rfl) eL (fun x hx => ?_) ⟨qb, hb, ?_⟩ mk fresh) (by omega))
        · rw [eE]; have := a2 x hx; omega
        · rw [eE]; omega
    · -- above alone: keep its other side
      subst a1; subst b1
      refine br_f (by decide) ?_
      unfold wY_tryPlane_280 wY_tryPlane_285
      refine br_t rfl ?_
      unfold wY_tryPlane_309
      refine br_f (by decide) (br_t rfl (yw_keep hm (fun g hg eg => ?_) (fun fresh => ?_)))
      · exact K 1 m a_nx a_ny a_nz a_off a_holds (yl_same hN I ⟨qa, ha, by rw [eE]; omega⟩ mk hg eg) (by omega)
      · refine K 1 (m + 1) _ _ _ _ _ (yl_put I hi hj hk (s := -1) (Or.inr rfl) ?_ (fun x hx => ?_) ⟨qa, ha, ?_⟩ mk fresh) (by omega)
        · rw [yl_neg nb.1, yl_neg nb.2.1, yl_neg nb.2.2.1, yl_neg nb.2.2.2]
          have g1 := congrArg (fun v : hu_V => v.1) eL
          have g2 := congrArg (fun v : hu_V => v.2.1) eL
          have g3 := congrArg (fun v : hu_V => v.2.2.1) eL
          have g4 := congrArg (fun v : hu_V => v.2.2.2) eL
          simp only [hu_k] at g1 g2 g3 g4
          unfold hu_k
          refine Prod.ext ?_ (Prod.ext ?_ (Prod.ext ?_ ?_))
          · show - -at'.toInt = -1 * _; omega
          · show -cx.toInt = -1 * _; omega
          · show -cy.toInt = -1 * _; omega
          · show -cz.toInt = -1 * _; omega
        · rw [eE]; have := b2 x hx; omega
        · rw [eE]; omega
    · subst a1; subst b1
      refine br_f (by decide) ?_
      unfold wY_tryPlane_280 wY_tryPlane_285
      refine br_f (by decide) (br_f (by decide) ?_)
      unfold wY_tryPlane_309
      refine br_f (by decide) (br_f (by decide) (K 1 m a_nx a_ny a_nz a_off a_holds (yl_skip I 1 (Or.inr ⟨rfl, qb, hb, by rw [eE]; omega⟩) ?_) (by omega)))
      rintro s hs np _
      exfalso
      have k1 := np qa ha
      have k2 := np qb hb
      rw [eE] at k1 k2
      rcases hs with h | h <;> subst h <;> omega
  | succ e ih =>
    intro p n x14 x15 x16 hp hn F
    obtain ⟨n, rfl⟩ : ∃ m, n = m + 1 := ⟨n - 1, by omega⟩
    have hp' : p < N := by omega
    obtain ⟨f1, f2, f3⟩ := F
    have v := vp_in_nI (show p < 14 by omega) (show 14 < 2 ^ 31 by decide)
    have ev : ((cx * a_px p + cy * a_py p) + cz * a_pz p - at').toInt = E p := by
      rw [yl_ev, yl_bd hB (Or.inl rfl) eL (xp_bB hB p), ← eE p, eL, hu_kl]
      exact Int.one_mul _
    generalize hd : (cx * a_px p + cy * a_py p) + cz * a_pz p - at' = d at ev
    unfold wY_tryPlane_188
    rw [nI_clamp (show p < 2 ^ 31 by omega)]
    refine br_f (nI_ge hp' (by omega)) ⟨v, v, v, nm_r hd ?_⟩
    -- the mask
    have mask : ∀ y14 y15, (((y14 = 0 ∧ ∀ q, q < p + 1 → E q ≤ 0) ∨ (y14 = 1 ∧ ∃ q, q < p + 1 ∧ 0 < E q))) → ((y15 = 0 ∧ ∀ q, q < p + 1 → 0 ≤ E q) ∨ (y15 = 1 ∧ ∃ q, q < p + 1 ∧ E q < 0)) →
        wY_tryPlane_250 post (wY_tryPlane_188 post cx cy cz at' f_room (nI N) f_solid (nI m) a_px a_py a_pz a_nx a_ny a_nz a_off a_holds n) cx cy cz at' y14 y15 x16 (nI p) d f_room (nI N) f_solid (nI m) a_px a_py a_pz a_nx a_ny a_nz a_off a_holds := by
      intro y14 y15 h1 h2
      unfold wY_tryPlane_250
      refine br_c (fun z => nm_e (nm_r (nI_1 p) (ih (p + 1) n _ _ _ (by omega) (by omega) ⟨h1, h2, fun q hq => ?_⟩))) (fun z => nm_r (nI_1 p) (ih (p + 1) n _ _ _ (by omega) (by omega) ⟨h1, h2, fun q hq => ?_⟩))
      · rw [xp_eq0, ev] at z
        rw [xc_put x16 (by omega) hq, Bool.or_eq_true, decide_eq_true_eq, f3 q hq]
        constructor
        · rintro (c | c)
          · exact ⟨by omega, c.2⟩
          · rw [c]; exact ⟨by omega, z⟩
        · rintro ⟨c1, c2⟩
          rcases Nat.lt_or_ge q p with c | c
          · exact Or.inl ⟨c, c2⟩
          · exact Or.inr (by omega)
      · rw [xp_eq0, ev] at z
        rw [f3 q hq]
        constructor
        · rintro ⟨c1, c2⟩; exact ⟨by omega, c2⟩
        · rintro ⟨c1, c2⟩
          rcases Nat.lt_or_ge q p with c | c
          · exact ⟨c, c2⟩
          · exact absurd (by rw [show p = q by omega]; exact c2) z
    have low : ∀ y14, (((y14 = 0 ∧ ∀ q, q < p + 1 → E q ≤ 0) ∨ (y14 = 1 ∧ ∃ q, q < p + 1 ∧ 0 < E q))) →
        wY_tryPlane_242 post (wY_tryPlane_188 post cx cy cz at' f_room (nI N) f_solid (nI m) a_px a_py a_pz a_nx a_ny a_nz a_off a_holds n) cx cy cz at' y14 x15 x16 (nI p) d f_room (nI N) f_solid (nI m) a_px a_py a_pz a_nx a_ny a_nz a_off a_holds := by
      intro y14 h1
      unfold wY_tryPlane_242
      refine br_c (fun z => mask y14 x15 h1 ?_) (fun z => mask y14 1 h1 (Or.inr ⟨rfl, p, by omega, ?_⟩))
      · have z' : 0 ≤ E p := by rw [← ev]; exact Int32.le_iff_toInt_le.mp z
        rcases f2 with ⟨b1, b2⟩ | ⟨b1, qb, hb, b2⟩
        · refine Or.inl ⟨b1, fun q hq => ?_⟩
          rcases Nat.lt_or_ge q p with c | c
          · exact b2 q c
          · rw [show q = p by omega]; exact z'
        · exact Or.inr ⟨b1, qb, by omega, b2⟩
      · rw [← ev]
        exact Int.not_le.mp fun k => z (Int32.le_iff_toInt_le.mpr k)
    refine br_c (fun z => low x14 ?_) (fun z => low 1 (Or.inr ⟨rfl, p, by omega, ?_⟩))
    · have z' : E p ≤ 0 := by rw [← ev]; exact xp_le0.mp z
      rcases f1 with ⟨b1, b2⟩ | ⟨b1, qb, hb, b2⟩
      · refine Or.inl ⟨b1, fun q hq => ?_⟩
        rcases Nat.lt_or_ge q p with c | c
        · exact b2 q c
        · rw [show q = p by omega]; exact z'
      · exact Or.inr ⟨b1, qb, by omega, b2⟩
    · rw [← ev]
      exact Int.not_le.mp fun k => z (xp_le0.mpr k)
theorem yw_try {post : SY → Prop} (hB : xp_B a_px a_py a_pz) {N i j k m : Nat} (hN : N ≤ 14) (hi : i < N) (hj : j < N) (hk : k < N) (hm : m < 364) {D : Nat → Nat → Nat → Prop}
    (I : yl_I a_px a_py a_pz N D f_solid m a_nx a_ny a_nz a_off a_holds)
    (K : ∀ solid m' nx ny nz off holds, yl_I a_px a_py a_pz N (fun a b c => D a b c ∨ (a = i ∧ b = j ∧ c = k)) solid m' nx ny nz off holds → m' ≤ m + 1 →
      post (f_room, nI N, solid, nI m', a_px, a_py, a_pz, nx, ny, nz, off, holds)) :
    wpY_tryPlane post (f_room, nI N, f_solid, nI m, a_px, a_py, a_pz, a_nx, a_ny, a_nz, a_off, a_holds) (nI i) (nI j) (nI k) := by
  have vi := vp_in_nI (show i < 14 by omega) (show 14 < 2 ^ 31 by decide)
  have vj := vp_in_nI (show j < 14 by omega) (show 14 < 2 ^ 31 by decide)
  have vk := vp_in_nI (show k < 14 by omega) (show 14 < 2 ^ 31 by decide)
  unfold wpY_tryPlane
  dsimp only
  rw [nI_clamp (show i < 2 ^ 31 by omega), nI_clamp (show j < 2 ^ 31 by omega), nI_clamp (show k < 2 ^ 31 by omega)]
  refine ⟨vj, vi, nm_e ⟨vj, vi, nm_e ⟨vj, vi, nm_e ⟨vk, vi, nm_e ⟨vk, vi, nm_e ⟨vk, vi, nm_e ?_⟩⟩⟩⟩⟩⟩
  intro cx ecx cy ecy cz ecz
  have eL := yl_cr hB i j k ecx ecy ecz rfl
  have g2 := congrArg (fun v : hu_V => v.2.1) eL
  have g3 := congrArg (fun v : hu_V => v.2.2.1) eL
  have g4 := congrArg (fun v : hu_V => v.2.2.2) eL
  simp only [hu_k] at g2 g3 g4
  have bd : ∀ x : Int32, x.toInt = x.toInt := fun _ => rfl
  have go : wY_tryPlane_145 post (nI i) cx cy cz f_room (nI N) f_solid (nI m) a_px a_py a_pz a_nx a_ny a_nz a_off a_holds := by
    unfold wY_tryPlane_145
    rw [nI_clamp (show i < 2 ^ 31 by omega)]
    refine ⟨vi, vi, vi, nm_e ⟨N + 1, yw_tr hB hN hi hj hk hm eL ?_ I K N 0 (N + 1) 0 0 0 (by omega) (by omega) ⟨Or.inl ⟨rfl, fun q hq => absurd hq (Nat.not_lt_zero q)⟩, Or.inl ⟨rfl, fun q hq => absurd hq (Nat.not_lt_zero q)⟩, fun q _ => ?_⟩⟩⟩
    · -- the bounds
      obtain ⟨a1, a2, a3⟩ := hB i
      obtain ⟨b1, b2, b3⟩ := hB j
      obtain ⟨c1, c2, c3⟩ := hB k
      have z1 := xp_hb a1 a2 a3 b1 b2 b3 c1 c2 c3 (x := (a_px i).toInt + 1) (y := (a_py i).toInt) (z := (a_pz i).toInt) (by omega) (by omega) (by omega)
      have z2 := xp_hb a1 a2 a3 b1 b2 b3 c1 c2 c3 (x := (a_px i).toInt) (y := (a_py i).toInt + 1) (z := (a_pz i).toInt) (by omega) (by omega) (by omega)
      have z3 := xp_hb a1 a2 a3 b1 b2 b3 c1 c2 c3 (x := (a_px i).toInt) (y := (a_py i).toInt) (z := (a_pz i).toInt + 1) (by omega) (by omega) (by omega)
      have z0 := xp_hb a1 a2 a3 b1 b2 b3 c1 c2 c3 (x := 0) (y := 0) (z := 0) (by omega) (by omega) (by omega)
      have g1 := congrArg (fun v : hu_V => v.1) eL
      simp only [hu_k] at g1
      have w0 : xp_h (a_px i).toInt (a_py i).toInt (a_pz i).toInt (a_px j).toInt (a_py j).toInt (a_pz j).toInt (a_px k).toInt (a_py k).toInt (a_pz k).toInt 0 0 0 = (hu_c (xp_P a_px a_py a_pz i) (xp_P a_px a_py a_pz j) (xp_P a_px a_py a_pz k)).1 := by
        rw [xp_hd]
        show hu_l (hu_c (xp_P a_px a_py a_pz i) (xp_P a_px a_py a_pz j) (xp_P a_px a_py a_pz k)) (1, 0, 0, 0) = _
        simp only [hu_l]; omega
      have ez : hu_l (hu_c (xp_P a_px a_py a_pz i) (xp_P a_px a_py a_pz j) (xp_P a_px a_py a_pz k)) (xp_P a_px a_py a_pz i) = 0 := hu_z14 _ _ _
      have ez' : (hu_c (xp_P a_px a_py a_pz i) (xp_P a_px a_py a_pz j) (xp_P a_px a_py a_pz k)).1 * 1 + (hu_c (xp_P a_px a_py a_pz i) (xp_P a_px a_py a_pz j) (xp_P a_px a_py a_pz k)).2.1 * (a_px i).toInt
        + (hu_c (xp_P a_px a_py a_pz i) (xp_P a_px a_py a_pz j) (xp_P a_px a_py a_pz k)).2.2.1 * (a_py i).toInt + (hu_c (xp_P a_px a_py a_pz i) (xp_P a_px a_py a_pz j) (xp_P a_px a_py a_pz k)).2.2.2 * (a_pz i).toInt = 0 := ez
      have w1 : xp_h (a_px i).toInt (a_py i).toInt (a_pz i).toInt (a_px j).toInt (a_py j).toInt (a_pz j).toInt (a_px k).toInt (a_py k).toInt (a_pz k).toInt ((a_px i).toInt + 1) (a_py i).toInt (a_pz i).toInt
          = (hu_c (xp_P a_px a_py a_pz i) (xp_P a_px a_py a_pz j) (xp_P a_px a_py a_pz k)).2.1 := by
        rw [xp_hd]
        show hu_l (hu_c (xp_P a_px a_py a_pz i) (xp_P a_px a_py a_pz j) (xp_P a_px a_py a_pz k)) (1, (a_px i).toInt + 1, (a_py i).toInt, (a_pz i).toInt) = _
        simp only [hu_l, Int.mul_add]; omega
      have w2 : xp_h (a_px i).toInt (a_py i).toInt (a_pz i).toInt (a_px j).toInt (a_py j).toInt (a_pz j).toInt (a_px k).toInt (a_py k).toInt (a_pz k).toInt (a_px i).toInt ((a_py i).toInt + 1) (a_pz i).toInt
          = (hu_c (xp_P a_px a_py a_pz i) (xp_P a_px a_py a_pz j) (xp_P a_px a_py a_pz k)).2.2.1 := by
        rw [xp_hd]
        show hu_l (hu_c (xp_P a_px a_py a_pz i) (xp_P a_px a_py a_pz j) (xp_P a_px a_py a_pz k)) (1, (a_px i).toInt, (a_py i).toInt + 1, (a_pz i).toInt) = _
        simp only [hu_l, Int.mul_add]; omega
      have w3 : xp_h (a_px i).toInt (a_py i).toInt (a_pz i).toInt (a_px j).toInt (a_py j).toInt (a_pz j).toInt (a_px k).toInt (a_py k).toInt (a_pz k).toInt (a_px i).toInt (a_py i).toInt ((a_pz i).toInt + 1)
          = (hu_c (xp_P a_px a_py a_pz i) (xp_P a_px a_py a_pz j) (xp_P a_px a_py a_pz k)).2.2.2 := by
        rw [xp_hd]
        show hu_l (hu_c (xp_P a_px a_py a_pz i) (xp_P a_px a_py a_pz j) (xp_P a_px a_py a_pz k)) (1, (a_px i).toInt, (a_py i).toInt, (a_pz i).toInt + 1) = _
        simp only [hu_l, Int.mul_add]; omega
      omega
    · rw [b_0]
      exact ⟨fun h => absurd h (by decide), fun h => absurd h.1 (Nat.not_lt_zero q)⟩
  refine br_c (fun z1 => br_c (fun z2 => br_c (fun z3 => ?_) (fun _ => go)) (fun _ => go)) (fun _ => go)
  have y1 : cx.toInt = 0 := xp_eq0.mp z1
  have y2 : cy.toInt = 0 := xp_eq0.mp z2
  have y3 : cz.toInt = 0 := xp_eq0.mp z3
  have ez : hu_l (hu_c (xp_P a_px a_py a_pz i) (xp_P a_px a_py a_pz j) (xp_P a_px a_py a_pz k)) (xp_P a_px a_py a_pz i) = 0 := hu_z14 _ _ _
  have all : ∀ q, hu_d (xp_P a_px a_py a_pz i) (xp_P a_px a_py a_pz j) (xp_P a_px a_py a_pz k) (xp_P a_px a_py a_pz q) = 0 := by
    intro q
    show hu_l (hu_c (xp_P a_px a_py a_pz i) (xp_P a_px a_py a_pz j) (xp_P a_px a_py a_pz k)) (xp_P a_px a_py a_pz q) = 0
    have c2 : (hu_c (xp_P a_px a_py a_pz i) (xp_P a_px a_py a_pz j) (xp_P a_px a_py a_pz k)).2.1 = 0 := by omega
    have c3 : (hu_c (xp_P a_px a_py a_pz i) (xp_P a_px a_py a_pz j) (xp_P a_px a_py a_pz k)).2.2.1 = 0 := by omega
    have c4 : (hu_c (xp_P a_px a_py a_pz i) (xp_P a_px a_py a_pz j) (xp_P a_px a_py a_pz k)).2.2.2 = 0 := by omega
    unfold hu_l at ez ⊢
    rw [c2, c3, c4] at ez ⊢
    have w1 : (xp_P a_px a_py a_pz i).1 = 1 := rfl
    have w2 : (xp_P a_px a_py a_pz q).1 = 1 := rfl
    rw [w1] at ez
    rw [w2]
    omega
  refine K f_solid m a_nx a_ny a_nz a_off a_holds (yl_skip I f_solid (Or.inl ⟨rfl, fun q _ => all q⟩) ?_) (by omega)
  rintro s hs _ ⟨x, hx, h⟩
  rw [all, Int.mul_zero] at h
  omega
end
end
section
/-! how many triples are left -/
def yt_2 : Nat → Nat
  | 0 => 0
  | n + 1 => yt_2 n + n
def yt_3 : Nat → Nat
  | 0 => 0
  | n + 1 => yt_3 n + yt_2 n
theorem yt_b : ∀ n, n ≤ 14 → yt_3 n ≤ 364 := by decide +kernel
/-- the triples before (i, j, k) -/
def yt_D (N i j k a b c : Nat) : Prop := a < b ∧ b < c ∧ c < N ∧ (a < i ∨ (a = i ∧ (b < j ∨ (b = j ∧ c < k))))
section
variable {f_room f_n f_solid f_planes : Int32} {a_px a_py a_pz a_nx a_ny a_nz a_off a_holds : Nat → Int32}
theorem yw_triples {post : SY → Prop} (hB : xp_B a_px a_py a_pz) {N i j : Nat} (hN : N ≤ 14) (hij : i < j) (hj : j < N) {R : Nat}
    (K : ∀ solid m nx ny nz off holds, yl_I a_px a_py a_pz N (yt_D N i (j + 1) 0) solid m nx ny nz off holds → m + R ≤ 364 →
      post (f_room, nI N, solid, nI m, a_px, a_py, a_pz, nx, ny, nz, off, holds))
    {m : Nat} (I : yl_I a_px a_py a_pz N (yt_D N i j 0) f_solid m a_nx a_ny a_nz a_off a_holds) (hm : m + (N - 1 - j) + R ≤ 364) :
    wpY_triples post (f_room, nI N, f_solid, nI m, a_px, a_py, a_pz, a_nx, a_ny, a_nz, a_off, a_holds) (nI i) (nI j) := by
  have loop : ∀ e k n solid m nx ny nz off holds, k + e = N → e < n → j < k → yl_I a_px a_py a_pz N (yt_D N i j k) solid m nx ny nz off holds → m + (N - k) + R ≤ 364 →
      wY_triples_4 post (nI i) (nI j) n (nI k) f_room (nI N) solid (nI m) a_px a_py a_pz nx ny nz off holds := by
    intro e
    induction e with
    | zero =>
      intro k n solid m nx ny nz off holds hk hn jk I' hm'
      obtain ⟨n, rfl⟩ : ∃ m, n = m + 1 := ⟨n - 1, by omega⟩
      have : k = N := by omega
      subst this
      exact br_t (nI_le (Nat.le_refl _) (by omega)) (K solid m nx ny nz off holds (yl_cg I' fun a b c => by unfold yt_D; omega) (by omega))
    | succ e ih =>
      intro k n solid m nx ny nz off holds hk hn jk I' hm'
      obtain ⟨n, rfl⟩ : ∃ m, n = m + 1 := ⟨n - 1, by omega⟩
      unfold wY_triples_4
      refine br_f (nI_ge (show k < N by omega) (by omega)) (yw_try hB hN (by omega) hj (by omega) (by omega) I' fun solid' m' nx' ny' nz' off' holds' I'' hm'' => nm_r (nI_1 k) (ih (k + 1) n _ _ _ _ _ _ _ (by omega) (by omega) (by omega) (yl_cg I'' fun a b c => by unfold yt_D; omega) (by omega)))
  unfold wpY_triples
  dsimp only
  exact nm_r (nI_1 j) ⟨N + 1, loop (N - (j + 1)) (j + 1) (N + 1) _ _ _ _ _ _ _ (by omega) (by omega) (by omega) (yl_cg I fun a b c => by unfold yt_D; omega) (by omega)⟩
theorem yw_ga24 {post : SY → Prop} {J12 : Int32 → Int32 → Int32 → Int32 → Int32 → (Nat → Int32) → (Nat → Int32) → (Nat → Int32) → (Nat → Int32) → (Nat → Int32) → (Nat → Int32) → (Nat → Int32) → (Nat → Int32) → Prop}
    (hB : xp_B a_px a_py a_pz) {N i : Nat} (hN : N ≤ 14) (hi : i < N) {R : Nat}
    (hJ : ∀ solid m nx ny nz off holds, yl_I a_px a_py a_pz N (yt_D N (i + 1) 0 0) solid m nx ny nz off holds → m + R ≤ 364 →
      J12 (nI (i + 1)) f_room (nI N) solid (nI m) a_px a_py a_pz nx ny nz off holds) :
    ∀ e j n solid m nx ny nz off holds, j + e = N → e < n → i < j → yl_I a_px a_py a_pz N (yt_D N i j 0) solid m nx ny nz off holds → m + yt_2 (N - j) + R ≤ 364 →
      wY_gather_24 post J12 (nI i) n (nI j) f_room (nI N) solid (nI m) a_px a_py a_pz nx ny nz off holds := by
  intro e
  induction e with
  | zero =>
    intro j n solid m nx ny nz off holds hj hn ij I' hm'
    obtain ⟨n, rfl⟩ : ∃ m, n = m + 1 := ⟨n - 1, by omega⟩
    have : j = N := by omega
    subst this
    exact br_t (nI_le (Nat.le_refl _) (by omega)) (nm_r (nI_1 i) (hJ solid m nx ny nz off holds (yl_cg I' fun a b c => by unfold yt_D; omega) (by omega)))
  | succ e ih =>
    intro j n solid m nx ny nz off holds hj hn ij I' hm'
    obtain ⟨n, rfl⟩ : ∃ m, n = m + 1 := ⟨n - 1, by omega⟩
    have e2 : yt_2 (N - j) = yt_2 (N - (j + 1)) + (N - (j + 1)) := by
      rw [show N - j = (N - (j + 1)) + 1 by omega]; rfl
    unfold wY_gather_24
    refine br_f (nI_ge (show j < N by omega) (by omega)) (yw_triples (R := yt_2 (N - (j + 1)) + R) hB hN ij (by omega) (fun solid' m' nx' ny' nz' off' holds' I'' hm'' => nm_r (nI_1 j) (ih (j + 1) n _ _ _ _ _ _ _ (by omega) (by omega) (by omega) I'' (by omega))) I' (by omega))
theorem yw_gather {post : SY → Prop} (hB : xp_B a_px a_py a_pz) {N : Nat} (hN : N ≤ 14)
    (K : ∀ solid m nx ny nz off holds, yl_I a_px a_py a_pz N (yt_D N N 0 0) solid m nx ny nz off holds → m ≤ 364 →
      post (f_room, nI N, solid, nI m, a_px, a_py, a_pz, nx, ny, nz, off, holds)) :
    wpY_gather post (f_room, nI N, f_solid, f_planes, a_px, a_py, a_pz, a_nx, a_ny, a_nz, a_off, a_holds) := by
  have loop : ∀ e i n solid m nx ny nz off holds, i + e = N → e < n → yl_I a_px a_py a_pz N (yt_D N i 0 0) solid m nx ny nz off holds → m + yt_3 (N - i) ≤ 364 →
      wY_gather_12 post n (nI i) f_room (nI N) solid (nI m) a_px a_py a_pz nx ny nz off holds := by
    intro e
    induction e with
    | zero =>
      intro i n solid m nx ny nz off holds hi hn I' hm'
      obtain ⟨n, rfl⟩ : ∃ m, n = m + 1 := ⟨n - 1, by omega⟩
      have : i = N := by omega
      subst this
      exact br_t (nI_le (Nat.le_refl _) (by omega)) (K solid m nx ny nz off holds I' (by omega))
    | succ e ih =>
      intro i n solid m nx ny nz off holds hi hn I' hm'
      obtain ⟨n, rfl⟩ : ∃ m, n = m + 1 := ⟨n - 1, by omega⟩
      have e3 : yt_3 (N - i) = yt_3 (N - (i + 1)) + yt_2 (N - (i + 1)) := by
        rw [show N - i = (N - (i + 1)) + 1 by omega]; rfl
      unfold wY_gather_12
      refine br_f (nI_ge (show i < N by omega) (by omega)) (nm_r (nI_1 i) ⟨N + 1, yw_ga24 (R := yt_3 (N - (i + 1))) hB hN (show i < N by omega) (fun solid' m' nx' ny' nz' off' holds' I'' hm'' => ih (i + 1) n _ _ _ _ _ _ _ (by omega) (by omega) I'' hm'')
        (N - (i + 1)) (i + 1) (N + 1) _ _ _ _ _ _ _ (by omega) (by omega) (by omega) (yl_cg I' fun a b c => by unfold yt_D; omega) (by omega)⟩)
  have b := yt_b N hN
  unfold wpY_gather
  dsimp only
  exact ⟨N + 1, loop N 0 (N + 1) 0 0 a_nx a_ny a_nz a_off a_holds (by omega) (by omega)
    ⟨fun g hg => absurd hg (Nat.not_lt_zero g), fun g g' hg => absurd hg (Nat.not_lt_zero g), fun a b c d => by unfold yt_D at d; omega, Or.inl ⟨rfl, fun a b c d => by unfold yt_D at d; omega⟩⟩ (by rw [Nat.sub_zero]; omega)⟩
end
/-- what gather leaves, for all triples -/
def yz_S (px py pz nx ny nz off holds : Nat → Int32) (n m : Nat) (solid : Int32) : Prop := yl_I px py pz n (yt_D n n 0 0) solid m nx ny nz off holds ∧ m ≤ 364
/-- any three, in order -/
theorem yz_sort {n a b c : Nat} (ha : a < n) (hb : b < n) (hc : c < n) (ab : a ≠ b) (ac : a ≠ c) (bc : b ≠ c) (P : Nat → hu_V) :
    ∃ i j k : Nat, ∃ s : Int, yt_D n n 0 0 i j k ∧ (s = 1 ∨ s = -1) ∧ ∀ z, hu_d (P i) (P j) (P k) z = s * hu_d (P a) (P b) (P c) z := by
  have key : ∀ i j k, i < j → j < k → k < n → yt_D n n 0 0 i j k := by intro i j k h1 h2 h3; unfold yt_D; omega
  rcases Nat.lt_or_ge a b with h1 | h1 <;> rcases Nat.lt_or_ge b c with h2 | h2 <;> rcases Nat.lt_or_ge a c with h3 | h3
  · exact ⟨a, b, c, 1, key _ _ _ h1 h2 hc, Or.inl rfl, fun z => (Int.one_mul _).symm⟩
  · omega
  · exact ⟨a, c, b, -1, key _ _ _ h3 (by omega) hb, Or.inr rfl, fun z => by rw [hu_d23 (P a) (P b) (P c)]; omega⟩
  · exact ⟨c, a, b, 1, key _ _ _ (by omega) h1 hb, Or.inl rfl, fun z => by rw [← hu_dcy (P a) (P b) (P c), ← hu_dcy (P b) (P c) (P a)]; omega⟩
  · exact ⟨b, a, c, -1, key _ _ _ (by omega) h3 hc, Or.inr rfl, fun z => by rw [hu_d12 (P a) (P b) (P c)]; omega⟩
  · exact ⟨b, c, a, 1, key _ _ _ h2 (by omega) ha, Or.inl rfl, fun z => by rw [hu_dcy (P a) (P b) (P c)]; omega⟩
  · omega
  · refine ⟨c, b, a, -1, key _ _ _ (by omega) (by omega) ha, Or.inr rfl, fun z => ?_⟩
    rw [hu_d12 (P b) (P c) (P a), hu_dcy (P a) (P b) (P c)]; omega
/-- the reference's solid -/
theorem yz_4 {px py pz nx ny nz off holds : Nat → Int32} {n m : Nat} {solid : Int32} (Y : yz_S px py pz nx ny nz off holds n m solid) :
    (solid = 0 ∧ ¬ xz_4 (xp_P px py pz) n) ∨ (solid = 1 ∧ xz_4 (xp_P px py pz) n) := by
  rcases Y.1.2.2.2 with ⟨h1, h2⟩ | ⟨h1, a, b, c, q, d, hq, ne⟩
  · left
    refine ⟨h1, ?_⟩
    rintro ⟨a, b, c, d, ha, hb, hc, hd, ne⟩
    have ab : a ≠ b := fun e => ne (by rw [e, hu_z12])
    have ac : a ≠ c := fun e => ne (by rw [e, hu_z13])
    have bc : b ≠ c := fun e => ne (by rw [e, hu_z23])
    obtain ⟨i, j, k, s, D, hs, es⟩ := yz_sort ha hb hc ab ac bc (xp_P px py pz)
    have := h2 i j k D d hd
    rw [es] at this
    exact ne (sg_z (by omega) this)
  · right
    unfold yt_D at d
    exact ⟨h1, a, b, c, q, by omega, by omega, by omega, hq, ne⟩
/-- the reference's planes are the facets -/
theorem yz_F {px py pz nx ny nz off holds : Nat → Int32} {n m : Nat} {solid : Int32} (hn : n ≤ 14) (Y : yz_S px py pz nx ny nz off holds n m solid)
    (hD : ∀ x y, x < n → y < n → xp_P px py pz x = xp_P px py pz y → x = y) (h4 : xz_4 (xp_P px py pz) n) : hf_F (xp_P px py pz) n m (yl_L nx ny nz off) := by
  obtain ⟨⟨i1, i2, i3, i4⟩, hm⟩ := Y
  refine ⟨fun _ => rfl, hD, h4, ?_, ?_, ?_, ?_, ?_⟩
  · intro g hg
    obtain ⟨a, b, d, t, h1, h2, h3, h4, h5, h6, h7, h8⟩ := i1 g hg
    exact h6
  · intro g hg
    obtain ⟨a, b, d, t, h1, h2, h3, h4, h5, h6, h7, h8⟩ := i1 g hg
    exact h7
  · intro g hg
    obtain ⟨a, b, d, t, h1, h2, h3, h4, h5, h6, ⟨x, hx, h7⟩, h8⟩ := i1 g hg
    have ev : ∀ z, hu_l (yl_L nx ny nz off g) z = t * hu_d (xp_P px py pz a) (xp_P px py pz b) (xp_P px py pz d) z := by intro z; rw [h5, hu_kl]; rfl
    refine ⟨a, b, d, h1, h2, h3, by rw [ev, hu_z14]; omega, by rw [ev, hu_z24]; omega, by rw [ev, hu_z34]; omega, xp_P px py pz x, fun e => ?_⟩
    rw [ev, e] at h7
    omega
  · intro g g' hg hg' h
    refine i2 g g' hg hg' (b_ext fun q hq => ?_)
    obtain ⟨_, _, _, _, _, _, _, _, _, _, _, h8⟩ := i1 g hg
    obtain ⟨_, _, _, _, _, _, _, _, _, _, _, h8'⟩ := i1 g' hg'
    have k : bt (holds g) q = true ↔ bt (holds g') q = true := by
      rw [h8 q hq, h8' q hq]
      exact ⟨fun x => ⟨x.1, (h q x.1).mp x.2⟩, fun x => ⟨x.1, (h q x.1).mpr x.2⟩⟩
    cases e1 : bt (holds g) q <;> cases e2 : bt (holds g') q
    · rfl
    · rw [e1, e2] at k; exact absurd (k.mpr rfl) (by decide)
    · rw [e1, e2] at k; exact absurd (k.mp rfl) (by decide)
    · rfl
  · rintro l i j k hi hj hk li lj lk ⟨z, nz⟩ np ⟨x, hx, nx'⟩
    have ab : i ≠ j := fun e => nz (by rw [e, hu_z12])
    have ac : i ≠ k := fun e => nz (by rw [e, hu_z13])
    have bc : j ≠ k := fun e => nz (by rw [e, hu_z23])
    obtain ⟨a, b, c, s, D, hs, es⟩ := yz_sort hi hj hk ab ac bc (xp_P px py pz)
    have pr : ∀ y w, hu_l l y * hu_d (xp_P px py pz i) (xp_P px py pz j) (xp_P px py pz k) w = hu_l l w * hu_d (xp_P px py pz i) (xp_P px py pz j) (xp_P px py pz k) y := fun y w => hu_prop li lj lk y w
    have dx : hu_d (xp_P px py pz i) (xp_P px py pz j) (xp_P px py pz k) (xp_P px py pz x) ≠ 0 := by
      intro e
      have := pr (xp_P px py pz x) z
      rw [e, Int.mul_zero] at this
      exact nz (sg_dz nx' this)
    have s2 : s * s = 1 := by rcases hs with h | h <;> subst h <;> rfl
    -- the sign that turns it under
    have sgn : ∃ t : Int, (t = 1 ∨ t = -1) ∧ (∀ y, y < n → t * hu_d (xp_P px py pz i) (xp_P px py pz j) (xp_P px py pz k) (xp_P px py pz y) ≤ 0) ∧ t * hu_d (xp_P px py pz i) (xp_P px py pz j) (xp_P px py pz k) (xp_P px py pz x) < 0 := by
      rcases Int.lt_or_gt_of_ne dx with d | d
      · refine ⟨1, Or.inl rfl, fun y hy => ?_, by omega⟩
        have e := pr (xp_P px py pz x) (xp_P px py pz y)
        have k1 := sg_00 (np y hy) (Int.le_of_lt d)
        rw [← e] at k1
        have := sg_d0 nx' k1
        omega
      · refine ⟨-1, Or.inr rfl, fun y hy => ?_, by omega⟩
        have e := pr (xp_P px py pz x) (xp_P px py pz y)
        have k1 := sg_n0 (np y hy) (Int.le_of_lt d)
        rw [← e] at k1
        have := sg_dm nx' k1
        omega
    obtain ⟨t, ht, tn, tx⟩ := sgn
    have ts : ∀ w, (t * s) * hu_d (xp_P px py pz a) (xp_P px py pz b) (xp_P px py pz c) w = t * hu_d (xp_P px py pz i) (xp_P px py pz j) (xp_P px py pz k) w := by
      intro w
      rw [es, Int.mul_assoc, ← Int.mul_assoc s s, s2, Int.one_mul]
    obtain ⟨g, hg, zg⟩ := i3 a b c D (t * s) (by rcases ht with h | h <;> rcases hs with h' | h' <;> subst h <;> subst h' <;> decide) (fun y hy => by rw [ts]; exact tn y hy) ⟨x, hx, by rw [ts]; exact tx⟩
    refine ⟨g, hg, fun y hy => (zg y hy).trans ?_⟩
    rw [es]
    have e := pr (xp_P px py pz x) (xp_P px py pz y)
    constructor
    · intro h
      have := sg_z (show s ≠ 0 by omega) h
      rw [this, Int.mul_zero, Int.mul_comm] at e
      exact sg_z dx e.symm
    · intro h
      rw [h, Int.zero_mul] at e
      rw [sg_dz nx' e, Int.mul_zero]
end
section
/-! the component's facets and the reference's planes, in pairs -/
section
variable {px py pz alive origin twin leader planes joined nx ny nz off holds : Nat → Int32} {n m nf : Nat} {solid cc ec vol : Int32}
/-- facet f and plane g hold the same points -/
def xy_p (px py pz origin leader nx ny nz off : Nat → Int32) (n f g : Nat) : Prop :=
  ∀ x, x < n → (hm_t (xp_P px py pz) (xp_O origin) (xp_O leader f) (xp_P px py pz x) = 0 ↔ hu_l (yl_L nx ny nz off g) (xp_P px py pz x) = 0)
theorem xy_1 (M : xm_M px py pz alive origin twin (fun x => x < n)) (F : hf_F (xp_P px py pz) n m (yl_L nx ny nz off)) (R : xg_I px py pz alive origin leader nf 26) :
    ∀ f, f < nf → ∃ g, g < m ∧ xy_p px py pz origin leader nx ny nz off n f g := by
  intro f hf
  obtain ⟨_, l2, l3⟩ := R.1 f hf
  obtain ⟨g, hg, _, z⟩ := hv_ex M.1 F l2 l3
  exact ⟨g, hg, fun x hx => (z x hx).symm⟩
theorem xy_2 (M : xm_M px py pz alive origin twin (fun x => x < n)) (F : hf_F (xp_P px py pz) n m (yl_L nx ny nz off)) (R : xg_I px py pz alive origin leader nf 26) :
    ∀ g, g < m → ∃ f, f < nf ∧ xy_p px py pz origin leader nx ny nz off n f g := by
  intro g hg
  obtain ⟨i, j, k, hi, hj, hk, gi, gj, gk, z, znz⟩ := F.2.2.2.2.2.1 g hg
  have np := F.2.2.2.1 g hg
  obtain ⟨t, ht, at', zt⟩ := hm_cov M.1 (l := yl_L nx ny nz off g) (fun x hx => np x hx) (F.2.2.2.2.1 g hg) (x := hu_a (hu_a (xp_P px py pz i) (xp_P px py pz j)) (xp_P px py pz k))
    (by show (0 : Int) < 1 + 1 + 1; omega) (by rw [hu_la, hu_la, gi, gj, gk]; rfl)
    (by
      intro t ht a
      rw [hm_l, hu_la, hu_la, ← hm_l, ← hm_l, ← hm_l]
      have h1 := hm_np M.1 ht a (x := i) hi
      have h2 := hm_np M.1 ht a (x := j) hj
      have h3 := hm_np M.1 ht a (x := k) hk
      omega)
  rw [hm_l, hu_la, hu_la, ← hm_l, ← hm_l, ← hm_l] at zt
  have t1 := hm_np M.1 ht at' (x := i) hi
  have t2 := hm_np M.1 ht at' (x := j) hj
  have t3 := hm_np M.1 ht at' (x := k) hk
  -- the two planes are one
  have q1 := hu_prop gi gj gk
  have q2 : ∀ x y, hm_t (xp_P px py pz) (xp_O origin) t x * hu_d (xp_P px py pz i) (xp_P px py pz j) (xp_P px py pz k) y = hm_t (xp_P px py pz) (xp_O origin) t y * hu_d (xp_P px py pz i) (xp_P px py pz j) (xp_P px py pz k) x := fun x y =>
    hu_prop (l := hu_c (xp_P px py pz (xp_O origin (3 * t))) (xp_P px py pz (xp_O origin (3 * t + 1))) (xp_P px py pz (xp_O origin (3 * t + 2)))) (show hm_t (xp_P px py pz) (xp_O origin) t _ = 0 by omega) (show hm_t (xp_P px py pz) (xp_O origin) t _ = 0 by omega)
      (show hm_t (xp_P px py pz) (xp_O origin) t _ = 0 by omega) x y
  obtain ⟨s, hs, ns⟩ := F.2.2.2.2.1 g hg
  obtain ⟨s', hs', ns'⟩ := hm_ng M.1 ht at'
  have ds : hu_d (xp_P px py pz i) (xp_P px py pz j) (xp_P px py pz k) (xp_P px py pz s) ≠ 0 := fun e => by
    have := q1 (xp_P px py pz s) z
    rw [e, Int.mul_zero] at this
    exact znz (sg_dz ns this)
  have ds' : hu_d (xp_P px py pz i) (xp_P px py pz j) (xp_P px py pz k) (xp_P px py pz s') ≠ 0 := fun e => by
    have := q2 (xp_P px py pz s') z
    rw [e, Int.mul_zero] at this
    exact znz (sg_dz ns' this)
  have same : ∀ x, (hm_t (xp_P px py pz) (xp_O origin) t x = 0 ↔ hu_l (yl_L nx ny nz off g) x = 0) := by
    intro x
    have r1 := q1 (xp_P px py pz s) x
    have r2 := q2 (xp_P px py pz s') x
    constructor
    · intro e
      rw [e, Int.zero_mul] at r2
      have dx := sg_dz ns' r2
      rw [dx, Int.mul_zero, Int.mul_comm] at r1
      exact sg_z ds r1.symm
    · intro e
      rw [e, Int.zero_mul] at r1
      have dx := sg_dz ns r1
      rw [dx, Int.mul_zero, Int.mul_comm] at r2
      exact sg_z ds' r2.symm
  obtain ⟨f, hf, cf⟩ := R.2.2 t ht at'
  obtain ⟨_, l2, l3⟩ := R.1 f hf
  exact ⟨f, hf, fun x _ => ((hm_sg M.1 ht l2 at' l3 cf _).2).trans (same _)⟩
theorem xy_u1 (F : hf_F (xp_P px py pz) n m (yl_L nx ny nz off)) : ∀ f g g', f < nf → g < m → g' < m → xy_p px py pz origin leader nx ny nz off n f g → xy_p px py pz origin leader nx ny nz off n f g' → g = g' :=
  fun f g g' _ hg hg' h h' => F.2.2.2.2.2.2.1 g g' hg hg' fun x hx => (h x hx).symm.trans (h' x hx)
theorem xy_u2 (M : xm_M px py pz alive origin twin (fun x => x < n)) (R : xg_I px py pz alive origin leader nf 26) :
    ∀ f f' g, f < nf → f' < nf → g < m → xy_p px py pz origin leader nx ny nz off n f g → xy_p px py pz origin leader nx ny nz off n f' g → f = f' := by
  intro f f' g hf hf' _ h h'
  refine R.2.1 f f' hf hf' ?_
  obtain ⟨_, l2, l3⟩ := R.1 f' hf'
  intro k hk
  have s : xp_O origin (3 * xp_O leader f' + k) < n := hm_S M.1 (show 3 * xp_O leader f' + k < 78 by omega) (by rw [show (3 * xp_O leader f' + k) / 3 = xp_O leader f' by omega]; exact l3)
  exact (h _ s).mpr ((h' _ s).mp (hm_Cr _ k hk))
/-- a pair has the same sides -/
theorem xy_sg (M : xm_M px py pz alive origin twin (fun x => x < n)) (F : hf_F (xp_P px py pz) n m (yl_L nx ny nz off)) (R : xg_I px py pz alive origin leader nf 26) {f g : Nat} (hf : f < nf) (hg : g < m)
    (h : xy_p px py pz origin leader nx ny nz off n f g) (z : hu_V) :
    (0 < hm_t (xp_P px py pz) (xp_O origin) (xp_O leader f) z ↔ 0 < hu_l (yl_L nx ny nz off g) z) ∧ (hm_t (xp_P px py pz) (xp_O origin) (xp_O leader f) z = 0 ↔ hu_l (yl_L nx ny nz off g) z = 0) := by
  obtain ⟨_, l2, l3⟩ := R.1 f hf
  obtain ⟨s0, s1, s2⟩ := hm_S3 M.1 l2 l3
  obtain ⟨y, sy, ny'⟩ := hm_ng M.1 l2 l3
  have ly : hu_l (yl_L nx ny nz off g) (xp_P px py pz y) < 0 := by
    have h1 := F.2.2.2.1 g hg y sy
    rcases Int.lt_or_le (hu_l (yl_L nx ny nz off g) (xp_P px py pz y)) 0 with c | c
    · exact c
    · have := (h y sy).mpr (by omega)
      omega
  have e : hu_l (yl_L nx ny nz off g) z * hm_t (xp_P px py pz) (xp_O origin) (xp_O leader f) (xp_P px py pz y) = hu_l (yl_L nx ny nz off g) (xp_P px py pz y) * hm_t (xp_P px py pz) (xp_O origin) (xp_O leader f) z :=
    hu_prop ((h _ s0).mp (hu_z14 _ _ _)) ((h _ s1).mp (hu_z24 _ _ _)) ((h _ s2).mp (hu_z34 _ _ _)) z (xp_P px py pz y)
  refine ⟨⟨fun k => ?_, fun k => ?_⟩, fun k => ?_, fun k => ?_⟩
  · have := sg_np ly k
    rw [← e, Int.mul_comm] at this
    exact sg_dn ny' this
  · have := sg_pn k ny'
    rw [e] at this
    exact sg_dn ly this
  · rw [k, Int.mul_zero, Int.mul_comm] at e
    exact sg_dz ny' e
  · rw [k, Int.zero_mul] at e
    exact sg_dz ly e.symm
/-- counts over facets and planes -/
theorem xy_cnt (M : xm_M px py pz alive origin twin (fun x => x < n)) (F : hf_F (xp_P px py pz) n m (yl_L nx ny nz off)) (R : xg_I px py pz alive origin leader nf 26) {p q : Nat → Prop}
    (h : ∀ f g, f < nf → g < m → xy_p px py pz origin leader nx ny nz off n f g → (p f ↔ q g)) : hs_n p nf = hs_n q m :=
  hs_pair (xy_1 M F R) (xy_2 M F R) (xy_u1 F) (xy_u2 M R) fun f g hf hg k => hs_iff (h f g hf hg k)
theorem xy_nf (M : xm_M px py pz alive origin twin (fun x => x < n)) (F : hf_F (xp_P px py pz) n m (yl_L nx ny nz off)) (R : xg_I px py pz alive origin leader nf 26) : nf = m := by
  have h := xy_cnt M F R (p := fun _ => True) (q := fun _ => True) (fun _ _ _ _ _ => Iff.rfl)
  have e : ∀ k : Nat, hs_n (fun _ => True) k = k := by
    intro k
    induction k with
    | zero => rfl
    | succ k ih =>
      have e1 : hs_n (fun _ => True) (k + 1) = hs_n (fun _ => True) k + hs_i True := rfl
      rw [e1, ih, hs_it trivial]; rfl
  rw [e, e] at h
  omega
/-- how many planes hold both, as the reference counts -/
def yc_t (holds : Nat → Int32) (m a b : Nat) : Nat := xc_n (fun g => bt (holds g) a && bt (holds g) b) m
def yc_c (holds : Nat → Int32) (m a : Nat) : Bool := decide (3 ≤ yc_t holds m a a)
def yc_e (holds : Nat → Int32) (m a b : Nat) : Bool := decide (a ≠ b ∧ 3 ≤ yc_t holds m a a ∧ 3 ≤ yc_t holds m b b ∧ 2 ≤ yc_t holds m a b)
theorem yc_ti (hn : n ≤ 14) (Y : yz_S px py pz nx ny nz off holds n m solid) {a b : Nat} (ha : a < n) (hb : b < n) :
    (yc_t holds m a b : Int) = hs_n (fun g => hu_l (yl_L nx ny nz off g) (xp_P px py pz a) = 0 ∧ hu_l (yl_L nx ny nz off g) (xp_P px py pz b) = 0) m := by
  unfold yc_t
  rw [xc_i]
  refine hs_ncg fun g hg => ?_
  obtain ⟨_, _, _, _, _, _, _, _, _, _, _, h8⟩ := Y.1.1 g hg
  rw [Bool.and_eq_true, h8 a (by omega), h8 b (by omega)]
  exact ⟨fun x => ⟨x.1.2, x.2.2⟩, fun x => ⟨⟨ha, x.1⟩, ⟨hb, x.2⟩⟩⟩
theorem xy_t (hn : n ≤ 14) (M : xm_M px py pz alive origin twin (fun x => x < n)) (F : hf_F (xp_P px py pz) n m (yl_L nx ny nz off)) (Y : yz_S px py pz nx ny nz off holds n m solid)
    (R : xq_R px py pz alive origin leader planes joined n nf cc ec vol) {a b : Nat} (ha : a < n) (hb : b < n) : xc_n (bt (planes a &&& planes b)) 26 = yc_t holds m a b := by
  obtain ⟨hnf, G, pl, _⟩ := R
  have h1 : (xc_n (bt (planes a &&& planes b)) 26 : Int) = hs_n (fun f => hm_t (xp_P px py pz) (xp_O origin) (xp_O leader f) (xp_P px py pz a) = 0 ∧ hm_t (xp_P px py pz) (xp_O origin) (xp_O leader f) (xp_P px py pz b) = 0) nf := by
    rw [xc_i]
    have key : ∀ k, k ≤ 26 → nf ≤ k → hs_n (fun i => bt (planes a &&& planes b) i = true) k = hs_n (fun f => hm_t (xp_P px py pz) (xp_O origin) (xp_O leader f) (xp_P px py pz a) = 0 ∧ hm_t (xp_P px py pz) (xp_O origin) (xp_O leader f) (xp_P px py pz b) = 0) nf := by
      intro k
      induction k with
      | zero =>
        intro _ h
        rw [show nf = 0 by omega]; rfl
      | succ k ih =>
        intro hk h
        rcases Nat.lt_or_ge k nf with c | c
        · rw [show k + 1 = nf by omega]
          refine hs_ncg fun f hf => ?_
          rw [b_and, Bool.and_eq_true, pl a ha f (by omega), pl b hb f (by omega)]
          exact ⟨fun x => ⟨x.1.2, x.2.2⟩, fun x => ⟨⟨hf, x.1⟩, ⟨hf, x.2⟩⟩⟩
        · have e1 : hs_n (fun i => bt (planes a &&& planes b) i = true) (k + 1) = hs_n (fun i => bt (planes a &&& planes b) i = true) k + hs_i (bt (planes a &&& planes b) k = true) := rfl
          rw [e1, ih (by omega) c, hs_if]
          · omega
          · rw [b_and, Bool.and_eq_true, pl a ha k (by omega)]
            intro x
            omega
    exact key 26 (by omega) hnf
  have h2 := yc_ti hn Y ha hb
  have h3 := xy_cnt M F G (p := fun f => hm_t (xp_P px py pz) (xp_O origin) (xp_O leader f) (xp_P px py pz a) = 0 ∧ hm_t (xp_P px py pz) (xp_O origin) (xp_O leader f) (xp_P px py pz b) = 0)
    (q := fun g => hu_l (yl_L nx ny nz off g) (xp_P px py pz a) = 0 ∧ hu_l (yl_L nx ny nz off g) (xp_P px py pz b) = 0) (fun f g _ _ h => by rw [h a ha, h b hb])
  omega
theorem xy_t1 (hn : n ≤ 14) (M : xm_M px py pz alive origin twin (fun x => x < n)) (F : hf_F (xp_P px py pz) n m (yl_L nx ny nz off)) (Y : yz_S px py pz nx ny nz off holds n m solid)
    (R : xq_R px py pz alive origin leader planes joined n nf cc ec vol) {a : Nat} (ha : a < n) : xc_n (bt (planes a)) 26 = yc_t holds m a a := by
  rw [← xy_t hn M F Y R ha ha]
  refine xc_cg fun i _ => ?_
  rw [b_and, Bool.and_self]
theorem xy_c (hn : n ≤ 14) (M : xm_M px py pz alive origin twin (fun x => x < n)) (F : hf_F (xp_P px py pz) n m (yl_L nx ny nz off)) (Y : yz_S px py pz nx ny nz off holds n m solid)
    (R : xq_R px py pz alive origin leader planes joined n nf cc ec vol) {a : Nat} (ha : a < n) : xq_c planes a = yc_c holds m a := by
  unfold xq_c yc_c
  rw [xy_t1 hn M F Y R ha]
theorem xy_e (hn : n ≤ 14) (M : xm_M px py pz alive origin twin (fun x => x < n)) (F : hf_F (xp_P px py pz) n m (yl_L nx ny nz off)) (Y : yz_S px py pz nx ny nz off holds n m solid)
    (R : xq_R px py pz alive origin leader planes joined n nf cc ec vol) {a b : Nat} (ha : a < n) (hb : b < n) : xq_e planes a b = yc_e holds m a b := by
  unfold xq_e yc_e
  rw [xy_t1 hn M F Y R ha, xy_t1 hn M F Y R hb, xy_t hn M F Y R ha hb]
end
end
section
/-! the reference's queries -/
def xy_w (lim v : Int32) : Prop := ¬ v < -lim ∧ ¬ lim < v
def xy_W (lim x y z : Int32) : Prop := xy_w lim x ∧ xy_w lim y ∧ xy_w lim z
theorem xy_W200 {x y z : Int32} (h : xy_W 200 x y z) : xp_b x y z := by
  have e1 : (-(200 : Int32)).toInt = -200 := by decide
  have e2 : (200 : Int32).toInt = 200 := by decide
  have k : ∀ v, xy_w 200 v → -200 ≤ v.toInt ∧ v.toInt ≤ 200 := by
    intro v hv
    obtain ⟨h1, h2⟩ := hv
    rw [Int32.lt_iff_toInt_lt, e1] at h1
    rw [Int32.lt_iff_toInt_lt, e2] at h2
    omega
  exact ⟨k x h.1, k y h.2.1, k z h.2.2⟩
theorem xy_W60 {x y z : Int32} (h : xy_W 60 x y z) : (-60 ≤ x.toInt ∧ x.toInt ≤ 60) ∧ (-60 ≤ y.toInt ∧ y.toInt ≤ 60) ∧ (-60 ≤ z.toInt ∧ z.toInt ≤ 60) := by
  have e1 : (-(60 : Int32)).toInt = -60 := by decide
  have e2 : (60 : Int32).toInt = 60 := by decide
  have k : ∀ v, xy_w 60 v → -60 ≤ v.toInt ∧ v.toInt ≤ 60 := by
    intro v hv
    obtain ⟨h1, h2⟩ := hv
    rw [Int32.lt_iff_toInt_lt, e1] at h1
    rw [Int32.lt_iff_toInt_lt, e2] at h2
    omega
  exact ⟨k x h.1, k y h.2.1, k z h.2.2⟩
theorem yw_within {post : Int32 → Prop} {v lim : Int32} (K1 : xy_w lim v → post 1) (K0 : ¬ xy_w lim v → post 0) : wpY_within post v lim := by
  unfold wpY_within
  exact br_c (fun z => K0 fun k => k.1 z) (fun z => br_c (fun z2 => K0 fun k => k.2 z2) (fun z2 => K1 ⟨z, z2⟩))
/-- the answer of side by the heights E 0 .. E (m-1) -/
def xy_sd (E : Nat → Int) (m : Nat) (r : Int32) : Prop :=
  (r = 0 ∧ ∃ g, g < m ∧ 0 < E g) ∨ (r = 1 ∧ (∀ g, g < m → E g ≤ 0) ∧ ∃ g, g < m ∧ E g = 0) ∨ (r = 2 ∧ ∀ g, g < m → E g < 0)
section
variable {f_room f_n f_solid f_planes : Int32} {a_px a_py a_pz a_nx a_ny a_nz a_off a_holds : Nat → Int32}
theorem yw_refusePlace {post : Int32 → Prop} {x y z : Int32} (K0 : ¬ xy_W 200 x y z → post (-1)) (K5 : xy_W 200 x y z → f_solid = 0 → post (-5)) (K : xy_W 200 x y z → ¬ f_solid = 0 → post 0) :
    wpY_refusePlace post (f_room, f_n, f_solid, f_planes, a_px, a_py, a_pz, a_nx, a_ny, a_nz, a_off, a_holds) x y z := by
  unfold wpY_refusePlace
  dsimp only
  exact yw_within (fun a => br_f (by decide) (yw_within (fun b => br_f (by decide) (yw_within (fun c => br_f (by decide) (br_c (fun k => K5 ⟨a, b, c⟩ k) (fun k => K ⟨a, b, c⟩ k))) (fun c => br_t rfl (K0 fun k => c k.2.2))))
    (fun b => br_t rfl (K0 fun k => b k.2.1)))) (fun a => br_t rfl (K0 fun k => a k.1))
theorem yw_refusePoints {post : Int32 → Prop} {n : Nat} (hn : n ≤ 14) {a b : Int32} (K0 : ¬ ((¬ a < 0 ∧ a < nI n) ∧ (¬ b < 0 ∧ b < nI n)) → post (-6))
    (K5 : (¬ a < 0 ∧ a < nI n) ∧ (¬ b < 0 ∧ b < nI n) → f_solid = 0 → post (-5)) (K : (¬ a < 0 ∧ a < nI n) ∧ (¬ b < 0 ∧ b < nI n) → ¬ f_solid = 0 → post 0) :
    wpY_refusePoints post (f_room, nI n, f_solid, f_planes, a_px, a_py, a_pz, a_nx, a_ny, a_nz, a_off, a_holds) a b := by
  unfold wpY_refusePoints
  dsimp only
  exact br_c (fun z => K0 fun k => k.1.1 z) (fun z1 => br_c (fun z => K0 fun k => Int32.not_lt.mpr z k.1.2) (fun z2 => br_c (fun z => K0 fun k => k.2.1 z) (fun z3 => br_c (fun z4 =>
    br_c (fun k => K5 ⟨⟨z1, Int32.not_le.mp z2⟩, ⟨z3, z4⟩⟩ k) (fun k => K ⟨⟨z1, Int32.not_le.mp z2⟩, ⟨z3, z4⟩⟩ k)) (fun z => K0 fun k => z k.2.2))))
variable {n m : Nat} {solid : Int32}
theorem yw_above {post : Int32 → Prop} (hB : xp_B a_px a_py a_pz) (Y : yz_S a_px a_py a_pz a_nx a_ny a_nz a_off a_holds n m solid) {g : Nat} (hg : g < m) {x y z : Int32} (hb : xp_b x y z)
    (K : ∀ r : Int32, r.toInt = hu_l (yl_L a_nx a_ny a_nz a_off g) (xp_Q x y z) → post r) : wpY_above post (f_room, f_n, f_solid, f_planes, a_px, a_py, a_pz, a_nx, a_ny, a_nz, a_off, a_holds) (nI g) x y z := by
  have hm := Y.2
  have v := vp_in_nI (show g < 364 by omega) (show 364 < 2 ^ 31 by decide)
  unfold wpY_above
  dsimp only
  rw [nI_clamp (show g < 2 ^ 31 by omega)]
  refine ⟨v, v, v, v, K _ ?_⟩
  obtain ⟨i, j, k, s, h1, h2, h3, h4, h5, _⟩ := Y.1.1 g hg
  rw [yl_ev]
  exact yl_bd hB h4 h5 hb
theorem yw_side {post : Int32 → Prop} (hB : xp_B a_px a_py a_pz) (Y : yz_S a_px a_py a_pz a_nx a_ny a_nz a_off a_holds n m solid) {x y z : Int32} (hb : xp_b x y z)
    (K : ∀ r, xy_sd (fun g => hu_l (yl_L a_nx a_ny a_nz a_off g) (xp_Q x y z)) m r → post r) :
    ∀ e g N a, g + e = m → e < N → ((a = 2 ∧ ∀ h, h < g → hu_l (yl_L a_nx a_ny a_nz a_off h) (xp_Q x y z) < 0) ∨
      (a = 1 ∧ (∀ h, h < g → hu_l (yl_L a_nx a_ny a_nz a_off h) (xp_Q x y z) ≤ 0) ∧ ∃ h, h < g ∧ hu_l (yl_L a_nx a_ny a_nz a_off h) (xp_Q x y z) = 0)) →
      wY_side_23 post x y z f_room f_n f_solid (nI m) a_px a_py a_pz a_nx a_ny a_nz a_off a_holds N a (nI g) := by
  have hm := Y.2
  intro e
  induction e with
  | zero =>
    intro g N a hg hN h
    obtain ⟨N, rfl⟩ : ∃ m, N = m + 1 := ⟨N - 1, by omega⟩
    have : g = m := by omega
    subst this
    refine br_t (nI_le (Nat.le_refl _) (by omega)) (K a ?_)
    rcases h with ⟨h1, h2⟩ | ⟨h1, h2, h3⟩
    · exact Or.inr (Or.inr ⟨h1, h2⟩)
    · exact Or.inr (Or.inl ⟨h1, h2, h3⟩)
  | succ e ih =>
    intro g N a hg hN h
    obtain ⟨N, rfl⟩ : ∃ m, N = m + 1 := ⟨N - 1, by omega⟩
    have hg' : g < m := by omega
    unfold wY_side_23
    refine br_f (nI_ge hg' (by omega)) (yw_above hB Y hg' hb fun r hr => br_c (fun z1 => br_c (fun z2 => nm_r (nI_1 g) (ih (g + 1) N 1 (by omega) (by omega) (Or.inr ⟨rfl, fun h' hh => ?_, g, by omega, ?_⟩))) (fun z2 => nm_r (nI_1 g) (ih (g + 1) N a (by omega) (by omega) ?_)))
      (fun z1 => K 0 (Or.inl ⟨rfl, g, hg', ?_⟩)))
    · rw [xp_le0, hr] at z1
      rcases Nat.lt_or_ge h' g with c | c
      · rcases h with ⟨_, h2⟩ | ⟨_, h2, _⟩
        · exact Int.le_of_lt (h2 h' c)
        · exact h2 h' c
      · rw [show h' = g by omega]; exact z1
    · rw [← hr]; exact xp_eq0.mp z2
    · rw [xp_le0, hr] at z1
      rw [xp_eq0, hr] at z2
      rcases h with ⟨h1, h2⟩ | ⟨h1, h2, h3, h4, h5⟩
      · refine Or.inl ⟨h1, fun h' hh => ?_⟩
        rcases Nat.lt_or_ge h' g with c | c
        · exact h2 h' c
        · rw [show h' = g by omega]; omega
      · refine Or.inr ⟨h1, fun h' hh => ?_, h3, by omega, h5⟩
        rcases Nat.lt_or_ge h' g with c | c
        · exact h2 h' c
        · rw [show h' = g by omega]; exact z1
    · show 0 < hu_l (yl_L a_nx a_ny a_nz a_off g) (xp_Q x y z)
      rw [← hr]
      exact Int.not_le.mp fun k => z1 (xp_le0.mpr k)
theorem yw_visible {post : Int32 → Prop} (hB : xp_B a_px a_py a_pz) (Y : yz_S a_px a_py a_pz a_nx a_ny a_nz a_off a_holds n m solid) {x y z : Int32} (hb : xp_b x y z)
    (K : post (nI (xc_n (fun g => decide (0 < hu_l (yl_L a_nx a_ny a_nz a_off g) (xp_Q x y z))) m))) :
    ∀ e g N, g + e = m → e < N → wY_visible_23 post x y z f_room f_n f_solid (nI m) a_px a_py a_pz a_nx a_ny a_nz a_off a_holds N (nI (xc_n (fun g => decide (0 < hu_l (yl_L a_nx a_ny a_nz a_off g) (xp_Q x y z))) g)) (nI g) := by
  have hm := Y.2
  intro e
  induction e with
  | zero =>
    intro g N hg hN
    obtain ⟨N, rfl⟩ : ∃ m, N = m + 1 := ⟨N - 1, by omega⟩
    have : g = m := by omega
    subst this
    exact br_t (nI_le (Nat.le_refl _) (by omega)) K
  | succ e ih =>
    intro g N hg hN
    obtain ⟨N, rfl⟩ : ∃ m, N = m + 1 := ⟨N - 1, by omega⟩
    have hg' : g < m := by omega
    have go := ih (g + 1) N (by omega) (by omega)
    have s1 : xc_n (fun g => decide (0 < hu_l (yl_L a_nx a_ny a_nz a_off g) (xp_Q x y z))) (g + 1) = xc_n (fun g => decide (0 < hu_l (yl_L a_nx a_ny a_nz a_off g) (xp_Q x y z))) g + (if decide (0 < hu_l (yl_L a_nx a_ny a_nz a_off g) (xp_Q x y z)) then 1 else 0) := rfl
    rw [s1] at go
    unfold wY_visible_23
    refine br_f (nI_ge hg' (by omega)) (yw_above hB Y hg' hb fun r hr => br_c (fun z1 => nm_r (nI_1 g) ?_) (fun z1 => nm_r (nI_1 _) (nm_r (nI_1 g) ?_)))
    · rw [xp_le0, hr] at z1
      rw [if_neg (by rw [decide_eq_true_eq]; omega)] at go
      exact go
    · rw [xp_le0, hr] at z1
      rw [if_pos (by rw [decide_eq_true_eq]; omega)] at go
      exact go
theorem yw_tog {post : Int32 → Prop} (hm : m ≤ 364) {a b : Nat} (ha : a < 14) (hb : b < 14) (K : post (nI (yc_t a_holds m a b))) : wpY_together post (f_room, f_n, f_solid, nI m, a_px, a_py, a_pz, a_nx, a_ny, a_nz, a_off, a_holds) (nI a) (nI b) := by
  have loop : ∀ e g N, g + e = m → e < N → wY_together_5 post (nI a) (nI b) f_room f_n f_solid (nI m) a_px a_py a_pz a_nx a_ny a_nz a_off a_holds N (nI (xc_n (fun g => bt (a_holds g) a && bt (a_holds g) b) g)) (nI g) := by
    intro e
    induction e with
    | zero =>
      intro g N hg hN
      obtain ⟨N, rfl⟩ : ∃ m, N = m + 1 := ⟨N - 1, by omega⟩
      have : g = m := by omega
      subst this
      exact br_t (nI_le (Nat.le_refl _) (by omega)) K
    | succ e ih =>
      intro g N hg hN
      obtain ⟨N, rfl⟩ : ∃ m, N = m + 1 := ⟨N - 1, by omega⟩
      have hg' : g < m := by omega
      have go := ih (g + 1) N (by omega) (by omega)
      have s1 : xc_n (fun g => bt (a_holds g) a && bt (a_holds g) b) (g + 1) = xc_n (fun g => bt (a_holds g) a && bt (a_holds g) b) g + (if (bt (a_holds g) a && bt (a_holds g) b) then 1 else 0) := rfl
      rw [s1] at go
      have v := vp_in_nI (show g < 364 by omega) (show 364 < 2 ^ 31 by decide)
      unfold wY_together_5
      rw [nI_clamp (show g < 2 ^ 31 by omega)]
      refine br_f (nI_ge hg' (by omega)) ⟨v, br_c (fun z1 => ⟨v, br_c (fun z2 => nm_r (nI_1 _) (nm_r (nI_1 g) ?_)) (fun z2 => nm_r (nI_1 g) ?_)⟩) (fun z1 => nm_r (nI_1 g) ?_)⟩
      · rw [xc_sbit _ (by omega)] at z1 z2
        rw [if_pos (by rw [z1, z2]; rfl)] at go
        exact go
      · rw [xc_sbit _ (by omega)] at z1 z2
        rw [if_neg (by rw [Bool.and_eq_true]; exact fun k => z2 k.2)] at go
        exact go
      · rw [xc_sbit _ (by omega)] at z1
        rw [if_neg (by rw [Bool.and_eq_true]; exact fun k => z1 k.1)] at go
        exact go
  unfold wpY_together
  dsimp only
  exact ⟨m + 1, loop m 0 (m + 1) (by omega) (by omega)⟩
theorem yw_isCorner {post : Int32 → Prop} (hm : m ≤ 364) {a : Nat} (ha : a < 14) (K1 : yc_c a_holds m a = true → post 1) (K0 : yc_c a_holds m a = false → post 0) : wpY_isCorner post (f_room, f_n, f_solid, nI m, a_px, a_py, a_pz, a_nx, a_ny, a_nz, a_off, a_holds) (nI a) := by
  unfold wpY_isCorner
  dsimp only
  refine yw_tog hm ha ha ?_
  have b : yc_t a_holds m a a ≤ m := xc_le _ _
  exact pk_lt (yc_t a_holds m a a) 3 (fun c => K0 (decide_eq_false (by omega))) (fun c => K1 (decide_eq_true (by omega)))
theorem yw_isEdge {post : Int32 → Prop} (hm : m ≤ 364) {a b : Nat} (ha : a < 14) (hb : b < 14) (K1 : yc_e a_holds m a b = true → post 1) (K0 : yc_e a_holds m a b = false → post 0) :
    wpY_isEdge post (f_room, f_n, f_solid, nI m, a_px, a_py, a_pz, a_nx, a_ny, a_nz, a_off, a_holds) (nI a) (nI b) := by
  unfold wpY_isEdge
  dsimp only
  have bd : yc_t a_holds m a b ≤ m := xc_le _ _
  refine pk_eq a b (fun c => K0 (decide_eq_false fun k => k.1 c)) (fun c => yw_isCorner hm ha (fun c1 => br_f (by decide) (yw_isCorner hm hb (fun c2 => br_f (by decide) (yw_tog hm ha hb ?_)) (fun c2 => br_t rfl (K0 ?_)))) (fun c1 => br_t rfl (K0 ?_)))
  · exact pk_lt (yc_t a_holds m a b) 2 (fun c3 => K0 (decide_eq_false fun k => by have := k.2.2.2; omega)) (fun c3 => K1 (decide_eq_true ⟨c, of_decide_eq_true c1, of_decide_eq_true c2, c3⟩))
  · exact decide_eq_false fun k => absurd k.2.2.1 (of_decide_eq_false c2)
  · exact decide_eq_false fun k => absurd k.2.1 (of_decide_eq_false c1)
theorem yw_corners {post : Int32 → Prop} (hn : n ≤ 14) (hm : m ≤ 364) (K : post (nI (xc_n (yc_c a_holds m) n))) :
    ∀ e p N, p + e = n → e < N → wY_corners_14 post f_room (nI n) f_solid (nI m) a_px a_py a_pz a_nx a_ny a_nz a_off a_holds N (nI (xc_n (yc_c a_holds m) p)) (nI p) := by
  intro e
  induction e with
  | zero =>
    intro p N hp hN
    obtain ⟨N, rfl⟩ : ∃ m, N = m + 1 := ⟨N - 1, by omega⟩
    have : p = n := by omega
    subst this
    exact br_t (nI_le (Nat.le_refl _) (by omega)) K
  | succ e ih =>
    intro p N hp hN
    obtain ⟨N, rfl⟩ : ∃ m, N = m + 1 := ⟨N - 1, by omega⟩
    have go := ih (p + 1) N (by omega) (by omega)
    have s1 : xc_n (yc_c a_holds m) (p + 1) = xc_n (yc_c a_holds m) p + (if yc_c a_holds m p then 1 else 0) := rfl
    rw [s1] at go
    unfold wY_corners_14
    refine br_f (nI_ge (show p < n by omega) (by omega)) (yw_isCorner hm (by omega) (fun c => br_f (by decide) (nm_r (nI_1 _) (nm_r (nI_1 p) ?_))) (fun c => br_t rfl (nm_r (nI_1 p) ?_)))
    · rw [if_pos c] at go; exact go
    · rw [if_neg (by rw [c]; decide)] at go; exact go
/-- the edges from a upwards -/
def yc_u (holds : Nat → Int32) (m a b : Nat) : Bool := decide (a < b) && yc_e holds m a b
theorem yc_u0 (holds : Nat → Int32) (m a : Nat) : ∀ b, b ≤ a + 1 → xc_n (yc_u holds m a) b = 0
  | 0, _ => rfl
  | b + 1, h => by
    show xc_n (yc_u holds m a) b + (if yc_u holds m a b then 1 else 0) = 0
    have e : yc_u holds m a b = false := by unfold yc_u; rw [decide_eq_false (by omega)]; rfl
    rw [yc_u0 holds m a b (by omega), e]; rfl
theorem yw_ed26 {post : Int32 → Prop} {J14 : Int32 → Int32 → Prop} (hn : n ≤ 14) (hm : m ≤ 364) {a E : Nat} (ha : a < n) (hJ : J14 (nI (E + xc_n (yc_u a_holds m a) n)) (nI (a + 1))) :
    ∀ e b N, b + e = n → e < N → a < b → wY_edges_26 post J14 (nI a) f_room (nI n) f_solid (nI m) a_px a_py a_pz a_nx a_ny a_nz a_off a_holds N (nI (E + xc_n (yc_u a_holds m a) b)) (nI b) := by
  intro e
  induction e with
  | zero =>
    intro b N hb hN ab
    obtain ⟨N, rfl⟩ : ∃ m, N = m + 1 := ⟨N - 1, by omega⟩
    have : b = n := by omega
    subst this
    exact br_t (nI_le (Nat.le_refl _) (by omega)) (nm_r (nI_1 a) hJ)
  | succ e ih =>
    intro b N hb hN ab
    obtain ⟨N, rfl⟩ : ∃ m, N = m + 1 := ⟨N - 1, by omega⟩
    have go := ih (b + 1) N (by omega) (by omega) (by omega)
    have s1 : xc_n (yc_u a_holds m a) (b + 1) = xc_n (yc_u a_holds m a) b + (if yc_u a_holds m a b then 1 else 0) := rfl
    have eu : yc_u a_holds m a b = yc_e a_holds m a b := by unfold yc_u; rw [decide_eq_true ab]; rfl
    rw [s1, eu] at go
    unfold wY_edges_26
    refine br_f (nI_ge (show b < n by omega) (by omega)) (yw_isEdge hm (by omega) (by omega) (fun c => br_f (by decide) (nm_r (nI_1 _) (nm_r (nI_1 b) ?_))) (fun c => br_t rfl (nm_r (nI_1 b) ?_)))
    · rw [if_pos c] at go; exact go
    · rw [if_neg (by rw [c]; decide)] at go; exact go
theorem yw_edges {post : Int32 → Prop} (hn : n ≤ 14) (hm : m ≤ 364) (K : post (nI (xq_s (fun a => xc_n (yc_u a_holds m a) n) n))) :
    ∀ e a N, a + e = n → e < N → wY_edges_14 post f_room (nI n) f_solid (nI m) a_px a_py a_pz a_nx a_ny a_nz a_off a_holds N (nI (xq_s (fun a => xc_n (yc_u a_holds m a) n) a)) (nI a) := by
  intro e
  induction e with
  | zero =>
    intro a N ha hN
    obtain ⟨N, rfl⟩ : ∃ m, N = m + 1 := ⟨N - 1, by omega⟩
    have : a = n := by omega
    subst this
    exact br_t (nI_le (Nat.le_refl _) (by omega)) K
  | succ e ih =>
    intro a N ha hN
    obtain ⟨N, rfl⟩ : ∃ m, N = m + 1 := ⟨N - 1, by omega⟩
    unfold wY_edges_14
    refine br_f (nI_ge (show a < n by omega) (by omega)) (nm_r (nI_1 a) ⟨n + 1, ?_⟩)
    have go := yw_ed26 (post := post) (J14 := wY_edges_14 post f_room (nI n) f_solid (nI m) a_px a_py a_pz a_nx a_ny a_nz a_off a_holds N) (f_room := f_room) (f_solid := f_solid) (a_px := a_px) (a_py := a_py) (a_pz := a_pz) (a_nx := a_nx) (a_ny := a_ny) (a_nz := a_nz) (a_off := a_off) (a_holds := a_holds)
      hn hm (a := a) (E := xq_s (fun a => xc_n (yc_u a_holds m a) n) a) (show a < n by omega) (ih (a + 1) N (by omega) (by omega)) (n - (a + 1)) (a + 1) (n + 1) (by omega) (by omega) (by omega)
    rw [yc_u0 a_holds m a (a + 1) (Nat.le_refl _), Nat.add_zero] at go
    exact go
end
end
section
/-! two, three of a set -/
theorem hk_rm {Q : Nat → Prop} {m g : Nat} (hg : g < m) (q : Q g) : hs_n Q m = hs_n (fun i => Q i ∧ i ≠ g) m + 1 :=
  hs_nput hg (fun k => k.2 rfl) fun i _ => ⟨fun x => by
    rcases Nat.decEq i g with c | c
    · exact Or.inl ⟨x, c⟩
    · exact Or.inr c, fun x => by
    rcases x with x | x
    · exact x.1
    · rw [x]; exact q⟩
theorem hk_ex {Q : Nat → Prop} {m : Nat} (h : 0 < hs_n Q m) : ∃ g, g < m ∧ Q g := by
  obtain ⟨g, hg, k⟩ := hs_ex h
  refine ⟨g, hg, ?_⟩
  rcases Classical.em (Q g) with c | c
  · exact c
  · rw [hs_if c] at k; omega
theorem hk_2 {Q : Nat → Prop} {m : Nat} : 2 ≤ hs_n Q m ↔ ∃ g1 g2, g1 < m ∧ g2 < m ∧ g1 ≠ g2 ∧ Q g1 ∧ Q g2 := by
  constructor
  · intro h
    obtain ⟨g1, h1, q1⟩ := hk_ex (Q := Q) (m := m) (by omega)
    have e1 := hk_rm h1 q1
    obtain ⟨g2, h2, q2⟩ := hk_ex (Q := fun i => Q i ∧ i ≠ g1) (m := m) (by omega)
    exact ⟨g1, g2, h1, h2, fun e => q2.2 e.symm, q1, q2.1⟩
  · rintro ⟨g1, g2, h1, h2, ne, q1, q2⟩
    have e1 := hk_rm h1 q1
    have e2 := hk_rm (Q := fun i => Q i ∧ i ≠ g1) h2 ⟨q2, fun e => ne e.symm⟩
    have := hs_n0 (fun i => (Q i ∧ i ≠ g1) ∧ i ≠ g2) m
    omega
theorem hk_3 {Q : Nat → Prop} {m : Nat} : 3 ≤ hs_n Q m ↔ ∃ g1 g2 g3, g1 < m ∧ g2 < m ∧ g3 < m ∧ g1 ≠ g2 ∧ g1 ≠ g3 ∧ g2 ≠ g3 ∧ Q g1 ∧ Q g2 ∧ Q g3 := by
  constructor
  · intro h
    obtain ⟨g1, h1, q1⟩ := hk_ex (Q := Q) (m := m) (by omega)
    have e1 := hk_rm h1 q1
    obtain ⟨g2, h2, q2⟩ := hk_ex (Q := fun i => Q i ∧ i ≠ g1) (m := m) (by omega)
    have e2 := hk_rm (Q := fun i => Q i ∧ i ≠ g1) h2 q2
    obtain ⟨g3, h3, q3⟩ := hk_ex (Q := fun i => (Q i ∧ i ≠ g1) ∧ i ≠ g2) (m := m) (by omega)
    exact ⟨g1, g2, g3, h1, h2, h3, fun e => q2.2 e.symm, fun e => q3.1.2 e.symm, fun e => q3.2 e.symm, q1, q2.1, q3.1.1⟩
  · rintro ⟨g1, g2, g3, h1, h2, h3, n12, n13, n23, q1, q2, q3⟩
    have e1 := hk_rm h1 q1
    have e2 := hk_rm (Q := fun i => Q i ∧ i ≠ g1) h2 ⟨q2, fun e => n12 e.symm⟩
    have e3 := hk_rm (Q := fun i => (Q i ∧ i ≠ g1) ∧ i ≠ g2) h3 ⟨⟨q3, fun e => n13 e.symm⟩, fun e => n23 e.symm⟩
    have := hs_n0 (fun i => ((Q i ∧ i ≠ g1) ∧ i ≠ g2) ∧ i ≠ g3) m
    omega
/-- a facet holds a corner -/
theorem hf_cg {P : Nat → hu_V} {n m : Nat} {L : Nat → hu_V} (F : hf_F P n m L) {g : Nat} (hg : g < m) : ∃ v, v < n ∧ hu_l (L g) (P v) = 0 ∧ hf_K P m L v := by
  have z1 : ∀ l : hu_V, hu_l l (0, 0, 0, 0) = 0 := by intro x; simp only [hu_l]; omega
  have nw : ∀ x, hu_l (hu_k (-1) hu_w) (P x) = -1 := by intro x; rw [hu_kl, hu_lw, F.1]; rfl
  obtain ⟨i, _, _, hi, _, _, gi, _⟩ := F.2.2.2.2.2.1 g hg
  obtain ⟨l, _, l2, ⟨v, hv, _, lv⟩, l4, l5⟩ := hf_ray (P := P) (n := n) (B := fun _ => True) (v := (0, 0, 0, 0)) (q := hu_k (-1) hu_w) (z1 _) (fun x _ _ => by rw [nw]; omega)
    n (L g) (z1 _) (fun x hx _ => F.2.2.2.1 g hg x hx) ⟨i, hi, trivial, gi⟩ (hs_nle _ _)
  refine ⟨v, hv, l4 v hv trivial lv, hf_ec F hv lv fun x hx ne => ?_⟩
  have h1 := l2 x hx trivial
  rcases Int.lt_or_le (hu_l l (P x)) 0 with c | c
  · exact c
  · exfalso
    have k : ∀ e : hu_V, hu_l e (P x) = hu_l e (P v) := by
      intro e
      have := l5 x v hx hv trivial trivial (by omega) lv e (z1 _)
      rw [nw, nw] at this
      omega
    have k1 := k (1, 0, 0, 0)
    have k2 := k (0, 1, 0, 0)
    have k3 := k (0, 0, 1, 0)
    have k4 := k (0, 0, 0, 1)
    simp only [hu_l] at k1 k2 k3 k4
    refine ne (F.2.1 x v hx hv ?_)
    refine Prod.ext (by omega) (Prod.ext (by omega) (Prod.ext (by omega) (by omega)))
section
variable {px py pz nx ny nz off holds : Nat → Int32} {n m : Nat} {solid : Int32}
theorem yk_c (hn : n ≤ 14) (Y : yz_S px py pz nx ny nz off holds n m solid) {a : Nat} (ha : a < n) : yc_c holds m a = true ↔ hf_K (xp_P px py pz) m (yl_L nx ny nz off) a := by
  have e := yc_ti hn Y ha ha
  have k := hk_3 (Q := fun g => hu_l (yl_L nx ny nz off g) (xp_P px py pz a) = 0 ∧ hu_l (yl_L nx ny nz off g) (xp_P px py pz a) = 0) (m := m)
  unfold yc_c
  rw [decide_eq_true_eq]
  constructor
  · intro h
    obtain ⟨g1, g2, g3, h1, h2, h3, n12, n13, n23, q1, q2, q3⟩ := k.mp (by omega)
    exact ⟨g1, g2, g3, h1, h2, h3, n12, n13, n23, q1.1, q2.1, q3.1⟩
  · rintro ⟨g1, g2, g3, h1, h2, h3, n12, n13, n23, q1, q2, q3⟩
    have := k.mpr ⟨g1, g2, g3, h1, h2, h3, n12, n13, n23, ⟨q1, q1⟩, ⟨q2, q2⟩, ⟨q3, q3⟩⟩
    omega
theorem yk_e (hn : n ≤ 14) (Y : yz_S px py pz nx ny nz off holds n m solid) {a b : Nat} (ha : a < n) (hb : b < n) :
    yc_e holds m a b = true ↔ (a ≠ b ∧ hf_K (xp_P px py pz) m (yl_L nx ny nz off) a ∧ hf_K (xp_P px py pz) m (yl_L nx ny nz off) b ∧ hf_E (xp_P px py pz) m (yl_L nx ny nz off) a b) := by
  have e := yc_ti hn Y ha hb
  have k := hk_2 (Q := fun g => hu_l (yl_L nx ny nz off g) (xp_P px py pz a) = 0 ∧ hu_l (yl_L nx ny nz off g) (xp_P px py pz b) = 0) (m := m)
  have ca := yk_c hn Y ha
  have cb := yk_c hn Y hb
  unfold yc_c at ca cb
  rw [decide_eq_true_eq] at ca cb
  unfold yc_e
  rw [decide_eq_true_eq, ca, cb]
  constructor
  · rintro ⟨h1, h2, h3, h4⟩
    refine ⟨h1, h2, h3, ?_⟩
    obtain ⟨g1, g2, k1, k2, ne, q1, q2⟩ := k.mp (by omega)
    exact ⟨g1, g2, k1, k2, ne, q1.1, q2.1, q1.2, q2.2⟩
  · rintro ⟨h1, h2, h3, g1, g2, k1, k2, ne, a1, a2, b1, b2⟩
    refine ⟨h1, h2, h3, ?_⟩
    have := k.mpr ⟨g1, g2, k1, k2, ne, ⟨a1, b1⟩, ⟨a2, b2⟩⟩
    omega
/-- one share of a cone -/
def yv_t (px py pz holds : Nat → Int32) (m g c a b : Nat) : Int :=
  if decide (a < b) && (bt (holds g) a && bt (holds g) b && yc_e holds m a b) then
    (if 0 ≤ hu_d (xp_P px py pz 0) (xp_P px py pz c) (xp_P px py pz a) (xp_P px py pz b) then hu_d (xp_P px py pz 0) (xp_P px py pz c) (xp_P px py pz a) (xp_P px py pz b) else - hu_d (xp_P px py pz 0) (xp_P px py pz c) (xp_P px py pz a) (xp_P px py pz b))
  else 0
theorem yv_0 (px py pz holds : Nat → Int32) (m g c a : Nat) : hs_s (yv_t px py pz holds m g c a) (a + 1) = 0 := by
  refine hs_0 fun b hb => ?_
  unfold yv_t
  rw [decide_eq_false (show ¬ a < b by omega), Bool.false_and]
  rfl
/-- a cone's value by the mesh -/
theorem yv_v {alive origin twin : Nat → Int32} (hn : n ≤ 14) (n0 : 0 < n) (M : xm_M px py pz alive origin twin (fun x => x < n)) (F : hf_F (xp_P px py pz) n m (yl_L nx ny nz off)) (Y : yz_S px py pz nx ny nz off holds n m solid)
    {g c : Nat} (hg : g < m) (hc : c < n) (gc : hu_l (yl_L nx ny nz off g) (xp_P px py pz c) = 0) :
    hs_s (fun a => hs_s (yv_t px py pz holds m g c a) n) n = hs_s (fun t => hs_i (hv_G (xp_P px py pz) (yl_L nx ny nz off) (xp_O origin) (fun t => ¬ alive t = 0) g t) * - hm_t (xp_P px py pz) (xp_O origin) t (xp_P px py pz 0)) 26 := by
  rw [hv_fc M.1 F hg hc gc n0]
  refine hs_cg fun a ha => hs_cg fun b hb => ?_
  obtain ⟨_, _, _, _, _, _, _, _, _, _, _, h8⟩ := Y.1.1 g hg
  have e1 := h8 a (by omega)
  have e2 := h8 b (by omega)
  have e3 := yk_e hn Y ha hb
  unfold yv_t
  rcases Classical.em (a < b ∧ hv_E (xp_P px py pz) n m (yl_L nx ny nz off) g a b) with k | k
  · obtain ⟨ab, _, _, ne, ka, kb, ga, gb, ee⟩ := k
    rw [hs_it ⟨ab, ha, hb, ne, ka, kb, ga, gb, ee⟩, decide_eq_true ab, e1.mpr ⟨ha, ga⟩, e2.mpr ⟨hb, gb⟩, e3.mpr ⟨ne, ka, kb, ee⟩, Int.one_mul]
    rfl
  · rw [hs_if k, Int.zero_mul, if_neg]
    intro x
    rw [Bool.and_eq_true, Bool.and_eq_true, Bool.and_eq_true, decide_eq_true_eq, e1, e2, e3] at x
    obtain ⟨ab, ⟨x1, x2⟩, x3, x4, x5, x6⟩ := x
    exact k ⟨ab, ha, hb, x3, x4, x5, x1.2, x2.2, x6⟩
end
theorem yv_6 (ax ay az bx bY bz cx cy cz ox oy oz : Int) :
    (ax - ox) * ((bY - oy) * (cz - oz) - (bz - oz) * (cy - oy)) + (ay - oy) * ((bz - oz) * (cx - ox) - (bx - ox) * (cz - oz)) + (az - oz) * ((bx - ox) * (cy - oy) - (bY - oy) * (cx - ox))
      = xp_h ox oy oz ax ay az bx bY bz cx cy cz := by
  unfold xp_h; grind
section
variable {f_room f_n f_solid f_planes : Int32} {a_px a_py a_pz a_nx a_ny a_nz a_off a_holds : Nat → Int32}
variable {n m : Nat} {solid : Int32}
theorem yw_sixth {post : Int32 → Prop} (hB : xp_B a_px a_py a_pz) {a b c : Nat} (ha : a < 14) (hb : b < 14) (hc : c < 14)
    (K : post (Int32.ofInt (if 0 ≤ hu_d (xp_P a_px a_py a_pz 0) (xp_P a_px a_py a_pz a) (xp_P a_px a_py a_pz b) (xp_P a_px a_py a_pz c) then hu_d (xp_P a_px a_py a_pz 0) (xp_P a_px a_py a_pz a) (xp_P a_px a_py a_pz b) (xp_P a_px a_py a_pz c)
      else - hu_d (xp_P a_px a_py a_pz 0) (xp_P a_px a_py a_pz a) (xp_P a_px a_py a_pz b) (xp_P a_px a_py a_pz c)))) : wpY_sixth post (f_room, f_n, f_solid, f_planes, a_px, a_py, a_pz, a_nx, a_ny, a_nz, a_off, a_holds) (nI a) (nI b) (nI c) := by
  have va := vp_in_nI ha (show 14 < 2 ^ 31 by decide)
  have vb := vp_in_nI hb (show 14 < 2 ^ 31 by decide)
  have vc := vp_in_nI hc (show 14 < 2 ^ 31 by decide)
  obtain ⟨o1, o2, o3⟩ := hB 0
  obtain ⟨a1, a2, a3⟩ := hB a
  obtain ⟨b1, b2, b3⟩ := hB b
  obtain ⟨c1, c2, c3⟩ := hB c
  unfold wpY_sixth
  dsimp only
  rw [nI_clamp (show a < 2 ^ 31 by omega), nI_clamp (show b < 2 ^ 31 by omega), nI_clamp (show c < 2 ^ 31 by omega)]
  refine ⟨va, nm_e ⟨va, nm_e ⟨va, nm_e ⟨vb, nm_e ⟨vb, nm_e ⟨vb, nm_e ⟨vc, nm_e ⟨vc, nm_e ⟨vc, nm_e ?_⟩⟩⟩⟩⟩⟩⟩⟩⟩
  intro d ed
  have bd := xp_hb o1 o2 o3 a1 a2 a3 b1 b2 b3 (x := (a_px c).toInt) (y := (a_py c).toInt) (z := (a_pz c).toInt) (by omega) (by omega) (by omega)
  have e : d = Int32.ofInt (hu_d (xp_P a_px a_py a_pz 0) (xp_P a_px a_py a_pz a) (xp_P a_px a_py a_pz b) (xp_P a_px a_py a_pz c)) := by
    have e2 : hu_d (xp_P a_px a_py a_pz 0) (xp_P a_px a_py a_pz a) (xp_P a_px a_py a_pz b) (xp_P a_px a_py a_pz c)
        = xp_h (a_px 0).toInt (a_py 0).toInt (a_pz 0).toInt (a_px a).toInt (a_py a).toInt (a_pz a).toInt (a_px b).toInt (a_py b).toInt (a_pz b).toInt (a_px c).toInt (a_py c).toInt (a_pz c).toInt := by rw [xp_hd]; rfl
    rw [ed, e2, ← yv_6]
    simp only [Int32.ofInt_add, Int32.ofInt_sub, Int32.ofInt_mul, Int32.ofInt_toInt]
  have ti : d.toInt = hu_d (xp_P a_px a_py a_pz 0) (xp_P a_px a_py a_pz a) (xp_P a_px a_py a_pz b) (xp_P a_px a_py a_pz c) := by
    rw [e]
    have e2 : hu_d (xp_P a_px a_py a_pz 0) (xp_P a_px a_py a_pz a) (xp_P a_px a_py a_pz b) (xp_P a_px a_py a_pz c)
        = xp_h (a_px 0).toInt (a_py 0).toInt (a_pz 0).toInt (a_px a).toInt (a_py a).toInt (a_pz a).toInt (a_px b).toInt (a_py b).toInt (a_pz b).toInt (a_px c).toInt (a_py c).toInt (a_pz c).toInt := by rw [xp_hd]; rfl
    exact xp_ti (by rw [e2]; omega)
  refine br_c (fun z => ?_) (fun z => ?_)
  · have z' : 0 ≤ d.toInt := Int32.le_iff_toInt_le.mp z
    rw [ti] at z'
    rw [if_pos z', ← e] at K
    exact K
  · have z' : ¬ 0 ≤ d.toInt := fun k => z (Int32.le_iff_toInt_le.mpr k)
    rw [ti] at z'
    rw [if_neg z', Int32.ofInt_neg, ← e] at K
    exact K
theorem yw_co66 {post : Int32 → Prop} {J51 : Int32 → Int32 → Prop} (hB : xp_B a_px a_py a_pz) (hn : n ≤ 14) (hm : m ≤ 364) {g c a : Nat} (hg : g < m) (hc : c < n) (ha : a < n) {V : Int}
    (hJ : J51 (Int32.ofInt (V + hs_s (yv_t a_px a_py a_pz a_holds m g c a) n)) (nI (a + 1))) :
    ∀ e b N, b + e = n → e < N → a < b → wY_cone_66 post J51 (nI g) (nI c) (nI a) f_room (nI n) f_solid (nI m) a_px a_py a_pz a_nx a_ny a_nz a_off a_holds N (Int32.ofInt (V + hs_s (yv_t a_px a_py a_pz a_holds m g c a) b)) (nI b) := by
  intro e
  induction e with
  | zero =>
    intro b N hb hN ab
    obtain ⟨N, rfl⟩ : ∃ m, N = m + 1 := ⟨N - 1, by omega⟩
    have : b = n := by omega
    subst this
    exact br_t (nI_le (Nat.le_refl _) (by omega)) (nm_r (nI_1 a) hJ)
  | succ e ih =>
    intro b N hb hN ab
    obtain ⟨N, rfl⟩ : ∃ m, N = m + 1 := ⟨N - 1, by omega⟩
    have go := ih (b + 1) N (by omega) (by omega) (by omega)
    rw [hs_s1, ← Int.add_assoc] at go
    have v := vp_in_nI (show g < 364 by omega) (show 364 < 2 ^ 31 by decide)
    have skip : (bt (a_holds g) a && bt (a_holds g) b && yc_e a_holds m a b) = false →
        wY_cone_66 post J51 (nI g) (nI c) (nI a) f_room (nI n) f_solid (nI m) a_px a_py a_pz a_nx a_ny a_nz a_off a_holds N (Int32.ofInt (V + hs_s (yv_t a_px a_py a_pz a_holds m g c a) b)) (nI (b + 1)) := by
      intro k
      have e0 : yv_t a_px a_py a_pz a_holds m g c a b = 0 := by unfold yv_t; rw [k, Bool.and_false]; rfl
      rw [e0, Int.add_zero] at go
      exact go
    unfold wY_cone_66
    rw [nI_clamp (show g < 2 ^ 31 by omega)]
    refine br_f (nI_ge (show b < n by omega) (by omega)) ⟨v, br_c (fun z1 => ⟨v, br_c (fun z2 => ?_) (fun z2 => ?_)⟩) (fun z1 => ?_)⟩
    · rw [xc_sbit _ (by omega)] at z1 z2
      unfold wY_cone_110
      refine br_f (nI_pos (by omega)) (br_f (by decide) (yw_isEdge hm (by omega) (by omega) (fun k => br_f (by decide) (yw_sixth hB (show c < 14 by omega) (show a < 14 by omega) (show b < 14 by omega) ?_)) (fun k => br_t rfl (nm_r (nI_1 b) (skip ?_)))))
      · have e1 : yv_t a_px a_py a_pz a_holds m g c a b = (if 0 ≤ hu_d (xp_P a_px a_py a_pz 0) (xp_P a_px a_py a_pz c) (xp_P a_px a_py a_pz a) (xp_P a_px a_py a_pz b) then hu_d (xp_P a_px a_py a_pz 0) (xp_P a_px a_py a_pz c) (xp_P a_px a_py a_pz a) (xp_P a_px a_py a_pz b)
            else - hu_d (xp_P a_px a_py a_pz 0) (xp_P a_px a_py a_pz c) (xp_P a_px a_py a_pz a) (xp_P a_px a_py a_pz b)) := by
          unfold yv_t; rw [decide_eq_true ab, z1, z2, k]; rfl
        rw [e1, Int32.ofInt_add] at go
        exact nm_e (nm_r (nI_1 b) go)
      · rw [z1, z2, k]; rfl
    · rw [xc_sbit _ (by omega)] at z1 z2
      unfold wY_cone_109 wY_cone_110
      refine br_f (nI_pos (by omega)) (br_t rfl (nm_r (nI_1 b) (skip ?_)))
      rw [eq_false_of_ne_true z2, Bool.and_false, Bool.false_and]
    · rw [xc_sbit _ (by omega)] at z1
      unfold wY_cone_109 wY_cone_110
      refine br_f (nI_pos (by omega)) (br_t rfl (nm_r (nI_1 b) (skip ?_)))
      rw [eq_false_of_ne_true z1, Bool.false_and, Bool.false_and]
theorem yw_co51 {post : Int32 → Prop} (hB : xp_B a_px a_py a_pz) (hn : n ≤ 14) (hm : m ≤ 364) {g c : Nat} (hg : g < m) (hc : c < n)
    (K : post (Int32.ofInt (hs_s (fun a => hs_s (yv_t a_px a_py a_pz a_holds m g c a) n) n))) :
    ∀ e a N, a + e = n → e < N → wY_cone_51 post (nI g) (nI c) f_room (nI n) f_solid (nI m) a_px a_py a_pz a_nx a_ny a_nz a_off a_holds N (Int32.ofInt (hs_s (fun a => hs_s (yv_t a_px a_py a_pz a_holds m g c a) n) a)) (nI a) := by
  intro e
  induction e with
  | zero =>
    intro a N ha hN
    obtain ⟨N, rfl⟩ : ∃ m, N = m + 1 := ⟨N - 1, by omega⟩
    have : a = n := by omega
    subst this
    exact br_t (nI_le (Nat.le_refl _) (by omega)) K
  | succ e ih =>
    intro a N ha hN
    obtain ⟨N, rfl⟩ : ∃ m, N = m + 1 := ⟨N - 1, by omega⟩
    have go0 := ih (a + 1) N (by omega) (by omega)
    rw [hs_s1] at go0
    have go := yw_co66 (post := post) (J51 := wY_cone_51 post (nI g) (nI c) f_room (nI n) f_solid (nI m) a_px a_py a_pz a_nx a_ny a_nz a_off a_holds N) (f_room := f_room) (f_solid := f_solid) (a_nx := a_nx) (a_ny := a_ny) (a_nz := a_nz) (a_off := a_off)
      hB hn hm hg hc (show a < n by omega) go0 (n - (a + 1)) (a + 1) (n + 1) (by omega) (by omega) (by omega)
    rw [yv_0, Int.add_zero] at go
    unfold wY_cone_51
    exact br_f (nI_ge (show a < n by omega) (by omega)) (nm_r (nI_1 a) ⟨n + 1, go⟩)
theorem yw_cone {post : Int32 → Prop} (hB : xp_B a_px a_py a_pz) (hn : n ≤ 14) (hm : m ≤ 364) {g : Nat} (hg : g < m) (ex : ∃ c, c < n ∧ bt (a_holds g) c = true ∧ yc_c a_holds m c = true) {v : Int}
    (hv : ∀ c, c < n → bt (a_holds g) c = true → hs_s (fun a => hs_s (yv_t a_px a_py a_pz a_holds m g c a) n) n = v) (K : post (Int32.ofInt v)) :
    wpY_cone post (f_room, nI n, f_solid, nI m, a_px, a_py, a_pz, a_nx, a_ny, a_nz, a_off, a_holds) (nI g) := by
  have vg := vp_in_nI (show g < 364 by omega) (show 364 < 2 ^ 31 by decide)
  have found : ∀ c, c < n → bt (a_holds g) c = true → ∃ n51, wY_cone_51 post (nI g) (nI c) f_room (nI n) f_solid (nI m) a_px a_py a_pz a_nx a_ny a_nz a_off a_holds n51 0 0 := fun c hc hb =>
    ⟨n + 1, yw_co51 hB hn hm hg hc (by rw [hv c hc hb]; exact K) n 0 (n + 1) (by omega) (by omega)⟩
  have loop : ∀ e p N, p + e = n → e + 1 < N → (∀ q, q < p → ¬ (bt (a_holds g) q = true ∧ yc_c a_holds m q = true)) → wY_cone_4 post (nI g) f_room (nI n) f_solid (nI m) a_px a_py a_pz a_nx a_ny a_nz a_off a_holds N (-1) (nI p) := by
    intro e
    induction e with
    | zero =>
      intro p N hp hN h
      obtain ⟨c, hc, k⟩ := ex
      exact absurd k (h c (by omega))
    | succ e ih =>
      intro p N hp hN h
      obtain ⟨N, rfl⟩ : ∃ m, N = m + 1 := ⟨N - 1, by omega⟩
      have hp' : p < n := by omega
      have no : ¬ (bt (a_holds g) p = true ∧ yc_c a_holds m p = true) → wY_cone_4 post (nI g) f_room (nI n) f_solid (nI m) a_px a_py a_pz a_nx a_ny a_nz a_off a_holds N (-1) (nI (p + 1)) := by
        intro k
        refine ih (p + 1) N (by omega) (by omega) fun q hq => ?_
        rcases Nat.lt_or_ge q p with d | d
        · exact h q d
        · rw [show q = p by omega]; exact k
      unfold wY_cone_4
      rw [nI_clamp (show g < 2 ^ 31 by omega)]
      refine br_f (nI_ge hp' (by omega)) (br_f (by decide) ⟨vg, br_c (fun z => ?_) (fun z => nm_r (nI_1 p) (no fun k => ?_))⟩)
      · rw [xc_sbit _ (by omega)] at z
        refine yw_isCorner hm (by omega) (fun k => br_f (by decide) (nm_r (nI_1 p) ?_)) (fun k => br_t rfl (nm_r (nI_1 p) (no fun k2 => by rw [k] at k2; exact absurd k2.2 (by decide))))
        obtain ⟨N, rfl⟩ : ∃ m, N = m + 1 := ⟨N - 1, by omega⟩
        unfold wY_cone_4
        exact br_c (fun _ => found p hp' z) (fun _ => br_t (nI_pos' (by omega)) (found p hp' z))
      · rw [xc_sbit _ (by omega)] at z
        exact z k.1
  unfold wpY_cone
  dsimp only
  exact ⟨n + 2, loop n 0 (n + 2) (by omega) (by omega) (fun q hq => absurd hq (Nat.not_lt_zero q))⟩
theorem yw_six {post : Int32 → Prop} (hB : xp_B a_px a_py a_pz) (hn : n ≤ 14) (hm : m ≤ 364) (ex : ∀ g, g < m → ∃ c, c < n ∧ bt (a_holds g) c = true ∧ yc_c a_holds m c = true) {v : Nat → Int}
    (hv : ∀ g, g < m → ∀ c, c < n → bt (a_holds g) c = true → hs_s (fun a => hs_s (yv_t a_px a_py a_pz a_holds m g c a) n) n = v g) (K : post (Int32.ofInt (hs_s v m))) :
    ∀ e g N, g + e = m → e < N → wY_sixVolume_14 post f_room (nI n) f_solid (nI m) a_px a_py a_pz a_nx a_ny a_nz a_off a_holds N (Int32.ofInt (hs_s v g)) (nI g) := by
  intro e
  induction e with
  | zero =>
    intro g N hg hN
    obtain ⟨N, rfl⟩ : ∃ m, N = m + 1 := ⟨N - 1, by omega⟩
    have : g = m := by omega
    subst this
    exact br_t (nI_le (Nat.le_refl _) (by omega)) K
  | succ e ih =>
    intro g N hg hN
    obtain ⟨N, rfl⟩ : ∃ m, N = m + 1 := ⟨N - 1, by omega⟩
    have go := ih (g + 1) N (by omega) (by omega)
    rw [hs_s1, Int32.ofInt_add] at go
    unfold wY_sixVolume_14
    exact br_f (nI_ge (show g < m by omega) (by omega)) (yw_cone hB hn hm (show g < m by omega) (ex g (by omega)) (hv g (by omega)) (nm_e (nm_r (nI_1 g) go)))
end
end
section
/-! the farthest corner -/
theorem xy_dot {px py pz : Nat → Int32} (hB : xp_B px py pz) {dx dy dz : Int32} (hb : xp_b dx dy dz) (p : Nat) :
    ((px p * dx + py p * dy) + pz p * dz).toInt = hu_l (0, dx.toInt, dy.toInt, dz.toInt) (xp_P px py pz p) := by
  obtain ⟨a1, a2, a3⟩ := hB p
  obtain ⟨d1, d2, d3⟩ := hb
  have m1 := xp_m (u := (px p).toInt) (v := dx.toInt) (U := 60) (V := 200) a1 d1
  have m2 := xp_m (u := (py p).toInt) (v := dy.toInt) (U := 60) (V := 200) a2 d2
  have m3 := xp_m (u := (pz p).toInt) (v := dz.toInt) (U := 60) (V := 200) a3 d3
  have e : (px p * dx + py p * dy) + pz p * dz = Int32.ofInt ((px p).toInt * dx.toInt + (py p).toInt * dy.toInt + (pz p).toInt * dz.toInt) := by
    simp only [Int32.ofInt_add, Int32.ofInt_mul, Int32.ofInt_toInt]
  have e2 : hu_l (0, dx.toInt, dy.toInt, dz.toInt) (xp_P px py pz p) = (px p).toInt * dx.toInt + (py p).toInt * dy.toInt + (pz p).toInt * dz.toInt := by
    simp only [hu_l, xp_P]; grind
  rw [e, xp_ti (by omega), e2]
/-- b is the first of the highest corners -/
def xy_far (Kc : Nat → Prop) (W : Nat → Int) (n b : Nat) : Prop :=
  b < n ∧ Kc b ∧ (∀ q, q < n → Kc q → W q ≤ W b) ∧ ∀ q, q < b → Kc q → W q < W b
theorem xy_faru {Kc : Nat → Prop} {W : Nat → Int} {n b c : Nat} (h : xy_far Kc W n b) (h' : xy_far Kc W n c) : b = c := by
  obtain ⟨h1, h2, h3, h4⟩ := h
  obtain ⟨k1, k2, k3, k4⟩ := h'
  rcases Nat.lt_trichotomy b c with x | x | x
  · have := k4 b x h2; have := h3 c k1 k2; omega
  · exact x
  · have := h4 c x k2; have := k3 b h1 h2; omega
section
variable {f_room f_n f_solid f_planes : Int32} {a_px a_py a_pz a_nx a_ny a_nz a_off a_holds : Nat → Int32}
variable {n m : Nat}
theorem yw_far {post : Int32 → Prop} (hB : xp_B a_px a_py a_pz) (hn : n ≤ 14) (hm : m ≤ 364) {dx dy dz : Int32} (hb : xp_b dx dy dz) {Kc : Nat → Prop} (hK : ∀ p, p < n → (yc_c a_holds m p = true ↔ Kc p)) (ex : ∃ p, p < n ∧ Kc p)
    (K : ∀ b, xy_far Kc (fun p => hu_l (0, dx.toInt, dy.toInt, dz.toInt) (xp_P a_px a_py a_pz p)) n b → post (nI b)) :
    ∀ e p N x5 x6, p + e = n → e < N →
      ((x5 = -1 ∧ ∀ q, q < p → ¬ Kc q) ∨ ∃ b, b < p ∧ x5 = nI b ∧ Kc b ∧ x6.toInt = hu_l (0, dx.toInt, dy.toInt, dz.toInt) (xp_P a_px a_py a_pz b) ∧
        (∀ q, q < p → Kc q → hu_l (0, dx.toInt, dy.toInt, dz.toInt) (xp_P a_px a_py a_pz q) ≤ hu_l (0, dx.toInt, dy.toInt, dz.toInt) (xp_P a_px a_py a_pz b)) ∧
        ∀ q, q < b → Kc q → hu_l (0, dx.toInt, dy.toInt, dz.toInt) (xp_P a_px a_py a_pz q) < hu_l (0, dx.toInt, dy.toInt, dz.toInt) (xp_P a_px a_py a_pz b)) →
      wY_farthest_26 post dx dy dz f_room (nI n) f_solid (nI m) a_px a_py a_pz a_nx a_ny a_nz a_off a_holds N x5 x6 (nI p) := by
  generalize hW : (fun p => hu_l (0, dx.toInt, dy.toInt, dz.toInt) (xp_P a_px a_py a_pz p)) = W at K
  have eW : ∀ p, hu_l (0, dx.toInt, dy.toInt, dz.toInt) (xp_P a_px a_py a_pz p) = W p := fun p => congrFun hW p
  have dot := xy_dot hB hb
  simp only [eW] at dot ⊢
  intro e
  induction e with
  | zero =>
    intro p N x5 x6 hp hN h
    obtain ⟨N, rfl⟩ : ∃ m, N = m + 1 := ⟨N - 1, by omega⟩
    have : p = n := by omega
    subst this
    refine br_t (nI_le (Nat.le_refl _) (by omega)) ?_
    rcases h with ⟨_, h⟩ | ⟨b, h1, h2, h3, h4, h5, h6⟩
    · obtain ⟨q, hq, kq⟩ := ex
      exact absurd kq (h q hq)
    · rw [h2]; exact K b ⟨h1, h3, h5, h6⟩
  | succ e ih =>
    intro p N x5 x6 hp hN h
    obtain ⟨N, rfl⟩ : ∃ m, N = m + 1 := ⟨N - 1, by omega⟩
    have hp' : p < n := by omega
    have v := vp_in_nI (show p < 14 by omega) (show 14 < 2 ^ 31 by decide)
    have dp := dot p
    unfold wY_farthest_26
    rw [nI_clamp (show p < 2 ^ 31 by omega)]
    generalize (a_px p * dx + a_py p * dy) + a_pz p * dz = w at dp
    refine br_f (nI_ge hp' (by omega)) ⟨v, v, v, nm_e (yw_isCorner hm (by omega) (fun k => br_f (by decide) ?_) (fun k => br_t rfl (nm_r (nI_1 p) (ih (p + 1) N x5 x6 (by omega) (by omega) ?_))))⟩
    · have kp := (hK p hp').mp k
      rcases h with ⟨e1, h⟩ | ⟨b, h1, h2, h3, h4, h5, h6⟩
      · subst e1
        refine br_t (by decide) (nm_r (nI_1 p) (ih (p + 1) N (nI p) w (by omega) (by omega) (Or.inr ⟨p, by omega, rfl, kp, dp, fun q hq kq => ?_, fun q hq kq => absurd kq (h q hq)⟩)))
        rcases Nat.lt_or_ge q p with c | c
        · exact absurd kq (h q c)
        · rw [show q = p by omega]; exact Int.le_refl _
      · subst h2
        refine br_f (nI_pos (by omega)) (br_c (fun z => nm_r (nI_1 p) (ih (p + 1) N (nI b) x6 (by omega) (by omega) (Or.inr ⟨b, by omega, rfl, h3, h4, fun q hq kq => ?_, h6⟩))) (fun z => nm_r (nI_1 p) (ih (p + 1) N (nI p) w (by omega) (by omega) (Or.inr ⟨p, by omega, rfl, kp, dp, fun q hq kq => ?_, fun q hq kq => ?_⟩))))
        · rw [Int32.le_iff_toInt_le, dp, h4] at z
          rcases Nat.lt_or_ge q p with c | c
          · exact h5 q c kq
          · rw [show q = p by omega]; exact z
        · rw [Int32.le_iff_toInt_le, dp, h4] at z
          rcases Nat.lt_or_ge q p with c | c
          · have := h5 q c kq; omega
          · rw [show q = p by omega]; exact Int.le_refl _
        · rw [Int32.le_iff_toInt_le, dp, h4] at z
          have := h5 q hq kq; omega
    · have kp : ¬ Kc p := fun x => by rw [(hK p hp').mpr x] at k; exact absurd k (by decide)
      rcases h with ⟨e1, h⟩ | ⟨b, h1, h2, h3, h4, h5, h6⟩
      · refine Or.inl ⟨e1, fun q hq => ?_⟩
        rcases Nat.lt_or_ge q p with c | c
        · exact h q c
        · rw [show q = p by omega]; exact kp
      · refine Or.inr ⟨b, by omega, h2, h3, h4, fun q hq kq => ?_, h6⟩
        rcases Nat.lt_or_ge q p with c | c
        · exact h5 q c kq
        · rw [show q = p by omega] at kq; exact absurd kq kp
end
section
variable {f_room f_count f_isSolid f_facetCount f_cornerCount f_edgeCount f_volume : Int32} {a_px a_py a_pz a_alive a_origin a_twin a_sees a_stack a_rimFrom a_rimTo a_rimOuter a_fan a_facetOf a_leader a_planes a_joined : Nat → Int32}
variable {n : Nat}
theorem xw_dot {post : Int32 → Prop} {p : Nat} (hp : p < 14) {dx dy dz : Int32} (K : post ((a_px p * dx + a_py p * dy) + a_pz p * dz)) : wpX_dot post (f_room, f_count, f_isSolid, f_facetCount, f_cornerCount, f_edgeCount, f_volume, a_px, a_py, a_pz, a_alive, a_origin, a_twin, a_sees, a_stack, a_rimFrom, a_rimTo, a_rimOuter, a_fan, a_facetOf, a_leader, a_planes, a_joined) (nI p) dx dy dz := by
  have v := vp_in_nI hp (show 14 < 2 ^ 31 by decide)
  unfold wpX_dot
  dsimp only
  rw [nI_clamp (show p < 2 ^ 31 by omega)]
  exact ⟨v, v, v, K⟩
theorem xw_best {post : Int32 → Prop} (hn : n ≤ 14) {dx dy dz : Int32} {W : Nat → Int} (dot : ∀ p, ((a_px p * dx + a_py p * dy) + a_pz p * dz).toInt = W p) {Ed : Nat → Nat → Prop} {a : Nat} (ha : a < n)
    (hj : ∀ b, b < 32 → (bt (a_joined a) b = true ↔ (b < n ∧ Ed a b)))
    (K1 : (∀ w, w < n → Ed a w → W w ≤ W a) → post (nI a)) (K2 : ∀ b, b < n → Ed a b → W a < W b → b ≠ a → post (nI b)) :
    wpX_bestNeighbour post (f_room, nI n, f_isSolid, f_facetCount, f_cornerCount, f_edgeCount, f_volume, a_px, a_py, a_pz, a_alive, a_origin, a_twin, a_sees, a_stack, a_rimFrom, a_rimTo, a_rimOuter, a_fan, a_facetOf, a_leader, a_planes, a_joined) (nI a) dx dy dz := by
  have loop : ∀ e p N b x6, p + e = n → e < N → b < n → x6.toInt = W b → (b = a ∨ (Ed a b ∧ W a < W b)) → (∀ q, q < p → Ed a q → W q ≤ W b) →
      wX_bestNeighbour_17 post (nI a) dx dy dz f_room (nI n) f_isSolid f_facetCount f_cornerCount f_edgeCount f_volume a_px a_py a_pz a_alive a_origin a_twin a_sees a_stack a_rimFrom a_rimTo a_rimOuter a_fan a_facetOf a_leader a_planes a_joined N (nI b) x6 (nI p) := by
    intro e
    induction e with
    | zero =>
      intro p N b x6 hp hN hb h6 h1 h2
      obtain ⟨N, rfl⟩ : ∃ m, N = m + 1 := ⟨N - 1, by omega⟩
      have : p = n := by omega
      subst this
      refine br_t (nI_le (Nat.le_refl _) (by omega)) ?_
      rcases h1 with h1 | h1
      · subst h1; exact K1 h2
      · exact K2 b hb h1.1 h1.2 (fun e => by rw [e] at h1; omega)
    | succ e ih =>
      intro p N b x6 hp hN hb h6 h1 h2
      obtain ⟨N, rfl⟩ : ∃ m, N = m + 1 := ⟨N - 1, by omega⟩
      have hp' : p < n := by omega
      have dp := dot p
      unfold wX_bestNeighbour_17
      rw [nI_clamp (show a < 2 ^ 31 by omega)]
      refine br_f (nI_ge hp' (by omega)) ⟨vp_in_nI (show a < 14 by omega) (by decide), br_c (fun z => nm_r (nI_1 p) (ih (p + 1) N b x6 (by omega) (by omega) hb h6 h1 fun q hq eq => ?_)) (fun z => xw_dot (show p < 14 by omega) ?_)⟩
      · rw [xc_bit0 _ (by omega)] at z
        rcases Nat.lt_or_ge q p with c | c
        · exact h2 q c eq
        · have : q = p := by omega
          subst this
          rw [(hj q (by omega)).mpr ⟨hp', eq⟩] at z
          exact absurd z (by decide)
      · rw [xc_bit0 _ (by omega)] at z
        have ep : Ed a p := ((hj p (by omega)).mp (by cases hb2 : bt (a_joined a) p; exact absurd hb2 z; rfl)).2
        refine br_c (fun z2 => nm_r (nI_1 p) (ih (p + 1) N b x6 (by omega) (by omega) hb h6 h1 fun q hq eq => ?_)) (fun z2 => nm_r (nI_1 p) (ih (p + 1) N p _ (by omega) (by omega) hp' dp (Or.inr ⟨ep, ?_⟩) fun q hq eq => ?_))
        · rw [Int32.le_iff_toInt_le, dp, h6] at z2
          rcases Nat.lt_or_ge q p with c | c
          · exact h2 q c eq
          · rw [show q = p by omega]; exact z2
        · rw [Int32.le_iff_toInt_le, dp, h6] at z2
          rcases h1 with h1 | h1
          · rw [h1] at z2; omega
          · omega
        · rw [Int32.le_iff_toInt_le, dp, h6] at z2
          rcases Nat.lt_or_ge q p with c | c
          · have := h2 q c eq; omega
          · rw [show q = p by omega]; exact Int.le_refl _
  unfold wpX_bestNeighbour
  dsimp only
  exact xw_dot (show a < 14 by omega) ⟨n + 1, loop n 0 (n + 1) a _ (by omega) (by omega) ha (dot a) (Or.inl rfl) (fun q hq => absurd hq (Nat.not_lt_zero q))⟩
end
end
section
section
variable {f_room f_count f_isSolid f_facetCount f_cornerCount f_edgeCount f_volume : Int32} {a_px a_py a_pz a_alive a_origin a_twin a_sees a_stack a_rimFrom a_rimTo a_rimOuter a_fan a_facetOf a_leader a_planes a_joined : Nat → Int32}
variable {n : Nat}
theorem xw_climb41 {post : Int32 → Prop} (hn : n ≤ 14) {dx dy dz : Int32} {W : Nat → Int} (dot : ∀ p, ((a_px p * dx + a_py p * dy) + a_pz p * dz).toInt = W p) {Kc : Nat → Prop} {Ed : Nat → Nat → Prop}
    (hj : ∀ a, a < n → ∀ b, b < 32 → (bt (a_joined a) b = true ↔ (b < n ∧ Ed a b))) (eK : ∀ a b, Ed a b → Kc b)
    (up : ∀ v, v < n → Kc v → ∀ x, x < n → W v < W x → ∃ w, w < n ∧ Ed v w ∧ W v < W w)
    (K : ∀ a, a < n → Kc a → (∀ x, x < n → W x ≤ W a) → post (nI a)) :
    ∀ (e s N a : Nat) (r : Int32), s + e = 14 → e < N → a < n → Kc a → ((r = 0 ∧ ∀ w, w < n → Ed a w → W w ≤ W a) ∨ (r = 1 ∧ (s : Int) ≤ hs_n (fun q => Kc q ∧ W q < W a) n)) →
      wX_climb_41 post dx dy dz f_room (nI n) f_isSolid f_facetCount f_cornerCount f_edgeCount f_volume a_px a_py a_pz a_alive a_origin a_twin a_sees a_stack a_rimFrom a_rimTo a_rimOuter a_fan a_facetOf a_leader a_planes a_joined N (nI a) r (nI s) := by
  have done : ∀ a, a < n → Kc a → (∀ w, w < n → Ed a w → W w ≤ W a) → post (nI a) := by
    intro a ha ka loc
    refine K a ha ka fun x hx => Int.not_lt.mp fun c => ?_
    obtain ⟨w, hw, ew, lt⟩ := up a ha ka x hx c
    have := loc w hw ew
    omega
  have cb : ∀ a, a < n → Kc a → hs_n (fun q => Kc q ∧ W q < W a) n + 1 ≤ n := by
    intro a ha _
    have e := hs_nput (Q := fun q => Kc q ∧ W q < W a) (R := fun q => (Kc q ∧ W q < W a) ∨ q = a) ha (fun k => by have := k.2; omega) (fun i _ => Iff.rfl)
    have := hs_nle (fun q => (Kc q ∧ W q < W a) ∨ q = a) n
    omega
  intro e
  induction e with
  | zero =>
    intro s N a r hs hN ha ka h
    obtain ⟨N, rfl⟩ : ∃ m, N = m + 1 := ⟨N - 1, by omega⟩
    have : s = 14 := by omega
    subst this
    refine br_t (show (14 : Int32) ≤ nI 14 from nI_le (a := 14) (b := 14) (Nat.le_refl 14) (by decide)) ?_
    rcases h with ⟨_, h⟩ | ⟨_, h⟩
    · exact done a ha ka h
    · have := cb a ha ka; omega
  | succ e ih =>
    intro s N a r hs hN ha ka h
    obtain ⟨N, rfl⟩ : ∃ m, N = m + 1 := ⟨N - 1, by omega⟩
    unfold wX_climb_41
    refine br_f (nI_ge (b := 14) (by omega) (by decide)) ?_
    rcases h with ⟨e0, h⟩ | ⟨e1, h⟩
    · subst e0; exact br_t rfl (done a ha ka h)
    · subst e1
      refine br_f (by decide) (xw_best hn dot ha (hj a ha) (fun loc => br_t rfl (nm_r (nI_1 s) (ih (s + 1) N a 0 (by omega) (by omega) ha ka (Or.inl ⟨rfl, loc⟩)))) (fun b hb eb lt ne => br_f (fun x => ne ((nI_eq (by omega) (by omega)).mp x)) (nm_r (nI_1 s) (ih (s + 1) N b 1 (by omega) (by omega) hb (eK a b eb) (Or.inr ⟨rfl, ?_⟩)))))
      have e := hs_nput (Q := fun q => Kc q ∧ W q < W a) (R := fun q => (Kc q ∧ W q < W a) ∨ q = a) ha (fun k => by have := k.2; omega) (fun i _ => Iff.rfl)
      have le : hs_n (fun q => (Kc q ∧ W q < W a) ∨ q = a) n ≤ hs_n (fun q => Kc q ∧ W q < W b) n := hs_nmono fun q _ k => by
        rcases k with k | k
        · exact ⟨k.1, by have := k.2; omega⟩
        · rw [k]; exact ⟨ka, lt⟩
      omega
theorem xw_climb {post : Int32 → Prop} (hn : n ≤ 14) {dx dy dz : Int32} {W : Nat → Int} (dot : ∀ p, ((a_px p * dx + a_py p * dy) + a_pz p * dz).toInt = W p) {Kc : Nat → Prop} {Ed : Nat → Nat → Prop}
    (hc : ∀ p, p < n → (3 ≤ xc_n (bt (a_planes p)) 26 ↔ Kc p)) (hj : ∀ a, a < n → ∀ b, b < 32 → (bt (a_joined a) b = true ↔ (b < n ∧ Ed a b))) (eK : ∀ a b, Ed a b → Kc b) (ex : ∃ p, p < n ∧ Kc p)
    (up : ∀ v, v < n → Kc v → ∀ x, x < n → W v < W x → ∃ w, w < n ∧ Ed v w ∧ W v < W w)
    (K : ∀ a, a < n → Kc a → (∀ x, x < n → W x ≤ W a) → post (nI a)) :
    wpX_climb post (f_room, nI n, f_isSolid, f_facetCount, f_cornerCount, f_edgeCount, f_volume, a_px, a_py, a_pz, a_alive, a_origin, a_twin, a_sees, a_stack, a_rimFrom, a_rimTo, a_rimOuter, a_fan, a_facetOf, a_leader, a_planes, a_joined) dx dy dz := by
  have loop : ∀ i N x4, i < N → i ≤ n → ((∃ c, c < n ∧ x4 = nI c ∧ Kc c) ∨ ∀ q, i ≤ q → q < n → ¬ Kc q) → wX_climb_11 post dx dy dz f_room (nI n) f_isSolid f_facetCount f_cornerCount f_edgeCount f_volume a_px a_py a_pz a_alive a_origin a_twin a_sees a_stack a_rimFrom a_rimTo a_rimOuter a_fan a_facetOf a_leader a_planes a_joined N x4 (nI i + (-1)) := by
    intro i
    induction i with
    | zero =>
      intro N x4 hN _ h
      obtain ⟨N, rfl⟩ : ∃ m, N = m + 1 := ⟨N - 1, by omega⟩
      unfold wX_climb_11
      refine br_t (by decide) ⟨15, ?_⟩
      rcases h with ⟨c, hc', ec, kc⟩ | h
      · subst ec
        exact xw_climb41 hn dot hj eK up K 14 0 15 c 1 (by omega) (by omega) hc' kc (Or.inr ⟨rfl, hs_n0 _ _⟩)
      · obtain ⟨q, hq, kq⟩ := ex
        exact absurd kq (h q (Nat.zero_le q) hq)
    | succ i ih =>
      intro N x4 hN hi h
      obtain ⟨N, rfl⟩ : ∃ m, N = m + 1 := ⟨N - 1, by omega⟩
      rw [pk_m1]
      unfold wX_climb_11
      refine br_f (nI_pos (by omega)) (xw_isCorner (show i < 14 by omega) (fun k => br_f (by decide) (nm_e (ih N (nI i) (by omega) (by omega) (Or.inl ⟨i, by omega, rfl, (hc i (by omega)).mp k⟩)))) (fun k => br_t rfl (nm_e (ih N x4 (by omega) (by omega) ?_))))
      rcases h with h | h
      · exact Or.inl h
      · right
        intro q hq qn
        rcases Nat.lt_or_ge i q with c | c
        · exact h q c qn
        · have : q = i := by omega
          subst this
          exact fun kk => k ((hc q qn).mpr kk)
  unfold wpX_climb
  dsimp only
  refine nm_r (e' := nI n + (-1)) (Int32.sub_eq_add_neg _ _) ⟨n + 1, loop n (n + 1) 0 (by omega) (Nat.le_refl n) (Or.inr fun q h1 h2 => by omega)⟩
theorem xc_and0 (x y : Int32) : x &&& y = 0 ↔ ∀ j, j < 32 → ¬ (bt x j = true ∧ bt y j = true) := by
  constructor
  · intro h j hj k
    have e : bt (x &&& y) j = false := by rw [h]; exact b_0 j
    rw [b_and, k.1, k.2] at e
    exact absurd e (by decide)
  · intro h
    refine b_ext fun j hj => ?_
    rw [b_0, b_and]
    cases e1 : bt x j
    · rfl
    · cases e2 : bt y j
      · rfl
      · exact absurd ⟨e1, e2⟩ (h j hj)
theorem xw_level {post : Int32 → Prop} (hn : n ≤ 14) {dx dy dz : Int32} {W : Nat → Int} (dot : ∀ p, ((a_px p * dx + a_py p * dy) + a_pz p * dz).toInt = W p) {Ed : Nat → Nat → Prop} {set lev : Int32} {M : Int} (hl : lev.toInt = M)
    (hj : ∀ a, a < n → ∀ b, b < 32 → (bt (a_joined a) b = true ↔ (b < n ∧ Ed a b)))
    (K : ∀ r, (∀ j, j < 32 → (bt r j = true ↔ (j < n ∧ (∃ q, q < n ∧ bt set q = true ∧ Ed j q) ∧ W j = M))) → post r) :
    wpX_levelNeighbours post (f_room, nI n, f_isSolid, f_facetCount, f_cornerCount, f_edgeCount, f_volume, a_px, a_py, a_pz, a_alive, a_origin, a_twin, a_sees, a_stack, a_rimFrom, a_rimTo, a_rimOuter, a_fan, a_facetOf, a_leader, a_planes, a_joined) set lev dx dy dz := by
  have loop : ∀ e p N r, p + e = n → e < N → (∀ j, j < 32 → (bt r j = true ↔ (j < p ∧ (∃ q, q < n ∧ bt set q = true ∧ Ed j q) ∧ W j = M))) → wX_levelNeighbours_6 post set lev dx dy dz f_room (nI n) f_isSolid f_facetCount f_cornerCount f_edgeCount f_volume a_px a_py a_pz a_alive a_origin a_twin a_sees a_stack a_rimFrom a_rimTo a_rimOuter a_fan a_facetOf a_leader a_planes a_joined N r (nI p) := by
    intro e
    induction e with
    | zero =>
      intro p N r hp hN h
      obtain ⟨N, rfl⟩ : ∃ m, N = m + 1 := ⟨N - 1, by omega⟩
      have : p = n := by omega
      subst this
      exact br_t (nI_le (Nat.le_refl _) (by omega)) (K r h)
    | succ e ih =>
      intro p N r hp hN h
      obtain ⟨N, rfl⟩ : ∃ m, N = m + 1 := ⟨N - 1, by omega⟩
      have hp' : p < n := by omega
      have nb : a_joined p &&& set = 0 ↔ ¬ ∃ q, q < n ∧ bt set q = true ∧ Ed p q := by
        rw [xc_and0]
        constructor
        · rintro k ⟨q, hq, sq, eq⟩
          exact k q (by omega) ⟨(hj p hp' q (by omega)).mpr ⟨hq, eq⟩, sq⟩
        · rintro k j hj' ⟨k1, k2⟩
          obtain ⟨k3, k4⟩ := (hj p hp' j hj').mp k1
          exact k ⟨j, k3, k2, k4⟩
      have dp := dot p
      have keep : ¬ ((∃ q, q < n ∧ bt set q = true ∧ Ed p q) ∧ W p = M) → wX_levelNeighbours_6 post set lev dx dy dz f_room (nI n) f_isSolid f_facetCount f_cornerCount f_edgeCount f_volume a_px a_py a_pz a_alive a_origin a_twin a_sees a_stack a_rimFrom a_rimTo a_rimOuter a_fan a_facetOf a_leader a_planes a_joined N r (nI (p + 1)) := by
        intro k
        refine ih (p + 1) N r (by omega) (by omega) fun j hj' => ?_
        rw [h j hj']
        constructor
        · rintro ⟨k1, k2⟩; exact ⟨by omega, k2⟩
        · rintro ⟨k1, k2⟩
          rcases Nat.lt_or_ge j p with c | c
          · exact ⟨c, k2⟩
          · have : j = p := by omega
            subst this
            exact absurd k2 k
      unfold wX_levelNeighbours_6
      rw [nI_clamp (show p < 2 ^ 31 by omega)]
      refine br_f (nI_ge hp' (by omega)) ⟨vp_in_nI (show p < 14 by omega) (by decide), br_c (fun z => nm_r (nI_1 p) (keep fun k => nb.mp z k.1)) (fun z => xw_dot (show p < 14 by omega) (br_c (fun z2 => nm_e (nm_r (nI_1 p) (ih (p + 1) N _ (by omega) (by omega) fun j hj' => ?_))) (fun z2 => nm_r (nI_1 p) (keep fun k => z2 ?_))))⟩
      · have z1 : ∃ q, q < n ∧ bt set q = true ∧ Ed p q := Classical.byContradiction fun k => z (nb.mpr k)
        have wp : W p = M := by rw [← dp, z2]; exact hl
        rw [xc_put r (by omega) hj', Bool.or_eq_true, decide_eq_true_eq, h j hj']
        constructor
        · rintro (k | k)
          · exact ⟨by omega, k.2⟩
          · rw [k]; exact ⟨by omega, z1, wp⟩
        · rintro ⟨k1, k2⟩
          rcases Nat.lt_or_ge j p with c | c
          · exact Or.inl ⟨c, k2⟩
          · exact Or.inr (by omega)
      · exact Int32.toInt_inj.mp (by rw [dp, hl]; exact k.2)
  unfold wpX_levelNeighbours
  dsimp only
  exact ⟨n + 1, loop n 0 (n + 1) 0 (by omega) (by omega) (fun j _ => by
    rw [b_0]
    exact ⟨fun k => absurd k (by decide), fun k => absurd k.1 (Nat.not_lt_zero j)⟩)⟩
theorem xw_least {post : Int32 → Prop} {set : Int32} (ex : ∃ j, j < 14 ∧ bt set j = true) (K : ∀ j, j < 14 → bt set j = true → (∀ q, q < j → ¬ bt set q = true) → post (nI j)) : wpX_least post set := by
  have loop : ∀ e i N, i + e = 14 → e < N → (∀ q, q < i → ¬ bt set q = true) → wX_least_2 post set N (nI i) := by
    intro e
    induction e with
    | zero =>
      intro i N hi hN h
      obtain ⟨j, hj, k⟩ := ex
      exact absurd k (h j (by omega))
    | succ e ih =>
      intro i N hi hN h
      obtain ⟨N, rfl⟩ : ∃ m, N = m + 1 := ⟨N - 1, by omega⟩
      unfold wX_least_2
      refine br_f (nI_ge (b := 14) (by omega) (by decide)) (br_c (fun z => nm_r (nI_1 i) (ih (i + 1) N (by omega) (by omega) fun q hq => ?_)) (fun z => K i (by omega) ?_ h))
      · rw [xc_bit0 _ (by omega)] at z
        rcases Nat.lt_or_ge q i with c | c
        · exact h q c
        · rw [show q = i by omega, z]; decide
      · rw [xc_bit0 _ (by omega)] at z
        cases e2 : bt set i
        · exact absurd e2 z
        · rfl
  unfold wpX_least
  exact ⟨15, loop 14 0 15 (by omega) (by omega) (fun q hq => absurd hq (Nat.not_lt_zero q))⟩
theorem xw_far {post : Int32 → Prop} (hn : n ≤ 14) {dx dy dz : Int32} {W : Nat → Int} (dot : ∀ p, ((a_px p * dx + a_py p * dy) + a_pz p * dz).toInt = W p) {Kc : Nat → Prop} {Ed : Nat → Nat → Prop}
    (hc : ∀ p, p < n → (3 ≤ xc_n (bt (a_planes p)) 26 ↔ Kc p)) (hj : ∀ a, a < n → ∀ b, b < 32 → (bt (a_joined a) b = true ↔ (b < n ∧ Ed a b))) (eK : ∀ a b, Ed a b → Kc b) (eS : ∀ a b, a < n → b < n → Ed a b → Ed b a) (ex : ∃ p, p < n ∧ Kc p)
    (up : ∀ v, v < n → Kc v → ∀ x, x < n → W v < W x → ∃ w, w < n ∧ Ed v w ∧ W v < W w)
    (pt : ∀ (R : Nat → Prop) (M : Int), (∀ x, x < n → W x ≤ M) → (∀ x, R x → x < n ∧ Kc x ∧ W x = M) → (∀ x y, R x → y < n → Ed x y → W y = M → R y) → (∃ x, R x) → ∀ z, z < n → Kc z → W z = M → R z)
    (K : ∀ b, xy_far Kc W n b → post (nI b)) :
    wpX_climb (fun r_4 => (wpX_dot (fun r_28 => (∀ x6_52 : Int32, x6_52 = (1 : Int32) <<< (r_4 &&& 31) → (∃ n53 : Nat, wX_farthest_53 post dx dy dz r_28 f_room (nI n) f_isSolid f_facetCount f_cornerCount f_edgeCount f_volume a_px a_py a_pz a_alive a_origin a_twin a_sees a_stack a_rimFrom a_rimTo a_rimOuter a_fan a_facetOf a_leader a_planes a_joined n53 x6_52 0))) (f_room, nI n, f_isSolid, f_facetCount, f_cornerCount, f_edgeCount, f_volume, a_px, a_py, a_pz, a_alive, a_origin, a_twin, a_sees, a_stack, a_rimFrom, a_rimTo, a_rimOuter, a_fan, a_facetOf, a_leader, a_planes, a_joined) r_4 dx dy dz)) (f_room, nI n, f_isSolid, f_facetCount, f_cornerCount, f_edgeCount, f_volume, a_px, a_py, a_pz, a_alive, a_origin, a_twin, a_sees, a_stack, a_rimFrom, a_rimTo, a_rimOuter, a_fan, a_facetOf, a_leader, a_planes, a_joined) dx dy dz := by
  refine xw_climb hn dot hc hj eK ex up fun top ht kt mx => xw_dot (show top < 14 by omega) (nm_e ⟨15, ?_⟩)
  have dt := dot top
  generalize hlev : (a_px top * dx + a_py top * dy) + a_pz top * dz = lev at dt
  -- rounds
  have loop : ∀ (e s N : Nat) (set : Int32), s + e = 14 → e < N → (∀ j, j < 32 → bt set j = true → j < n ∧ Kc j ∧ W j = W top) → bt set top = true →
      ((∀ x y, x < n → bt set x = true → y < n → Ed x y → W y = W top → bt set y = true) ∨ ((s : Int) + 1) ≤ hs_n (fun j => bt set j = true) n) →
      wX_farthest_53 post dx dy dz lev f_room (nI n) f_isSolid f_facetCount f_cornerCount f_edgeCount f_volume a_px a_py a_pz a_alive a_origin a_twin a_sees a_stack a_rimFrom a_rimTo a_rimOuter a_fan a_facetOf a_leader a_planes a_joined N set (nI s) := by
    intro e
    induction e with
    | zero =>
      intro s N set hs hN h1 h2 h3
      obtain ⟨N, rfl⟩ : ∃ m, N = m + 1 := ⟨N - 1, by omega⟩
      have : s = 14 := by omega
      subst this
      have cl : ∀ x y, x < n → bt set x = true → y < n → Ed x y → W y = W top → bt set y = true := by
        rcases h3 with h3 | h3
        · exact h3
        · have := hs_nle (fun j => bt set j = true) n
          omega
      refine br_t (show (14 : Int32) ≤ nI 14 from nI_le (a := 14) (b := 14) (Nat.le_refl 14) (by decide)) (xw_least ⟨top, by omega, h2⟩ fun j hj sj mn => K j ?_)
      obtain ⟨j1, j2, j3⟩ := h1 j (by omega) sj
      have all := pt (fun x => x < n ∧ bt set x = true) (W top) mx (fun x hx => ⟨hx.1, (h1 x (by omega) hx.2).2⟩) (fun x y hx hy e k => ⟨hy, cl x y hx.1 hx.2 hy e k⟩) ⟨top, ht, h2⟩
      refine ⟨j1, j2, fun q hq _ => by rw [j3]; exact mx q hq, fun q hq kq => ?_⟩
      have := mx q (by omega)
      rcases Int.lt_or_le (W q) (W j) with c | c
      · exact c
      · exact absurd (all q (by omega) kq (by omega)).2 (mn q hq)
    | succ e ih =>
      intro s N set hs hN h1 h2 h3
      obtain ⟨N, rfl⟩ : ∃ m, N = m + 1 := ⟨N - 1, by omega⟩
      unfold wX_farthest_53
      refine br_f (nI_ge (b := 14) (by omega) (by decide)) (xw_level hn dot dt hj fun r hr => nm_e (nm_r (nI_1 s) ?_))
      have bits : ∀ j, j < 32 → (bt (set ||| r) j = true ↔ (bt set j = true ∨ (j < n ∧ (∃ q, q < n ∧ bt set q = true ∧ Ed j q) ∧ W j = W top))) := by
        intro j hj'
        rw [b_or, Bool.or_eq_true, hr j hj']
      refine ih (s + 1) N (set ||| r) (by omega) (by omega) ?_ ((bits top (by omega)).mpr (Or.inl h2)) ?_
      · intro j hj' k
        rcases (bits j hj').mp k with k | ⟨k1, ⟨q, hq, sq, eq⟩, k3⟩
        · exact h1 j hj' k
        · exact ⟨k1, eK q j (eS j q k1 hq eq), k3⟩
      · rcases Classical.em (∀ x y, x < n → bt set x = true → y < n → Ed x y → W y = W top → bt set y = true) with cl | ncl
        · left
          intro x y hx sx hy e2 wy
          have same : ∀ j, j < n → bt (set ||| r) j = true → bt set j = true := by
            intro j hj' k
            rcases (bits j (by omega)).mp k with k | ⟨k1, ⟨q, hq, sq, eq⟩, k3⟩
            · exact k
            · exact cl q j hq sq k1 (eS j q k1 hq eq) k3
          exact (bits y (by omega)).mpr (Or.inl (cl x y hx (same x hx sx) hy e2 wy))
        · right
          have h3' : ((s : Int) + 1) ≤ hs_n (fun j => bt set j = true) n := by
            rcases h3 with h3 | h3
            · exact absurd h3 ncl
            · exact h3
          have new : ∃ y, y < n ∧ ¬ bt set y = true ∧ bt (set ||| r) y = true := by
            refine Classical.byContradiction fun k => ncl ?_
            intro x y hx sx hy e2 wy
            refine Classical.byContradiction fun k2 => k ⟨y, hy, k2, (bits y (by omega)).mpr (Or.inr ⟨hy, ⟨x, hx, sx, eS x y hx hy e2⟩, wy⟩)⟩
          obtain ⟨y, hy, y1, y2⟩ := new
          have c1 := hs_nput (Q := fun j => bt set j = true) (R := fun j => bt set j = true ∨ j = y) hy y1 (fun i _ => Iff.rfl)
          have c2 : hs_n (fun j => bt set j = true ∨ j = y) n ≤ hs_n (fun j => bt (set ||| r) j = true) n := hs_nmono fun j hj' k => by
            rcases k with k | k
            · exact (bits j (by omega)).mpr (Or.inl k)
            · rw [k]; exact y2
          omega
  have b1 : ∀ j, j < 32 → (bt ((1 : Int32) <<< (nI top &&& 31)) j = true ↔ j = top) := by
    intro j hj'
    have := xc_put 0 (show top < 32 by omega) hj'
    rw [b_or, b_0, Bool.false_or] at this
    rw [this, Bool.false_or, decide_eq_true_eq]
  refine loop 14 0 15 _ (by omega) (by omega) (fun j hj' k => ?_) ((b1 top (by omega)).mpr rfl) (Or.inr ?_)
  · rw [(b1 j hj').mp k]; exact ⟨ht, kt, rfl⟩
  · have := hs_ge (f := fun j => hs_i (bt ((1 : Int32) <<< (nI top &&& 31)) j = true)) (k := top) (n := n) (fun i _ => hs_i0 _) ht
    rw [hs_it ((b1 top (by omega)).mpr rfl)] at this
    exact this
end
end
section
theorem xw_within {post : Int32 → Prop} {x y z lim : Int32} (K1 : xy_W lim x y z → post 1) (K0 : ¬ xy_W lim x y z → post 0) : wpX_within post x y z lim := by
  have lo : ¬ xy_W lim x y z → wX_within_22 post x y z lim := by
    intro k
    unfold wX_within_22 wX_within_23
    exact br_t rfl (K0 k)
  unfold wpX_within
  refine br_c (fun a => lo fun k => k.1.1 a) (fun a => br_c (fun b => lo fun k => k.2.1.1 b) (fun b => br_c (fun c => lo fun k => k.2.2.1 c) (fun c => ?_)))
  unfold wX_within_23
  exact br_f (by decide) (br_c (fun d => K0 fun k => k.1.2 d) (fun d => br_c (fun e => K0 fun k => k.2.1.2 e) (fun e => br_c (fun f => K0 fun k => k.2.2.2 f) (fun f => K1 ⟨⟨a, d⟩, ⟨b, e⟩, ⟨c, f⟩⟩))))
section
variable {f_room f_count f_isSolid f_facetCount f_cornerCount f_edgeCount f_volume : Int32} {a_px a_py a_pz a_alive a_origin a_twin a_sees a_stack a_rimFrom a_rimTo a_rimOuter a_fan a_facetOf a_leader a_planes a_joined : Nat → Int32}
variable {S : Nat → Prop} {nf : Nat}
theorem xw_side {post : Int32 → Prop} (M : xm_M a_px a_py a_pz a_alive a_origin a_twin S) (hnf : nf ≤ 26) (I : xg_I a_px a_py a_pz a_alive a_origin a_leader nf 26) {x y z : Int32} (hb : xp_b x y z)
    (K : ∀ r, xy_sd (fun f => hm_t (xp_P a_px a_py a_pz) (xp_O a_origin) (xp_O a_leader f) (xp_Q x y z)) nf r → post r) :
    ∀ e g N a, g + e = nf → e < N → ((a = 2 ∧ ∀ h, h < g → hm_t (xp_P a_px a_py a_pz) (xp_O a_origin) (xp_O a_leader h) (xp_Q x y z) < 0) ∨
      (a = 1 ∧ (∀ h, h < g → hm_t (xp_P a_px a_py a_pz) (xp_O a_origin) (xp_O a_leader h) (xp_Q x y z) ≤ 0) ∧ ∃ h, h < g ∧ hm_t (xp_P a_px a_py a_pz) (xp_O a_origin) (xp_O a_leader h) (xp_Q x y z) = 0)) →
      wX_side_30 post x y z f_room f_count f_isSolid (nI nf) f_cornerCount f_edgeCount f_volume a_px a_py a_pz a_alive a_origin a_twin a_sees a_stack a_rimFrom a_rimTo a_rimOuter a_fan a_facetOf a_leader a_planes a_joined N a (nI g) := by
  intro e
  induction e with
  | zero =>
    intro g N a hg hN h
    obtain ⟨N, rfl⟩ : ∃ m, N = m + 1 := ⟨N - 1, by omega⟩
    have : g = nf := by omega
    subst this
    refine br_t (nI_le (Nat.le_refl _) (by omega)) (K a ?_)
    rcases h with ⟨h1, h2⟩ | ⟨h1, h2, h3⟩
    · exact Or.inr (Or.inr ⟨h1, h2⟩)
    · exact Or.inr (Or.inl ⟨h1, h2, h3⟩)
  | succ e ih =>
    intro g N a hg hN h
    obtain ⟨N, rfl⟩ : ∃ m, N = m + 1 := ⟨N - 1, by omega⟩
    have hg' : g < nf := by omega
    obtain ⟨l1, l2, l3⟩ := I.1 g hg'
    unfold wX_side_30
    rw [nI_clamp (show g < 2 ^ 31 by omega), l1]
    refine br_f (nI_ge hg' (by omega)) ⟨vp_in_nI (show g < 26 by omega) (by decide), xw_height l2 (xm_o M l2 l3) M.2.2.1 hb fun r hr => br_c (fun z1 => br_c (fun z2 => nm_r (nI_1 g) (ih (g + 1) N 1 (by omega) (by omega) (Or.inr ⟨rfl, fun h' hh => ?_, g, by omega, ?_⟩))) (fun z2 => nm_r (nI_1 g) (ih (g + 1) N a (by omega) (by omega) ?_)))
      (fun z1 => K 0 (Or.inl ⟨rfl, g, hg', ?_⟩))⟩
    · rw [xp_le0, hr] at z1
      rcases Nat.lt_or_ge h' g with c | c
      · rcases h with ⟨_, h2⟩ | ⟨_, h2, _⟩
        · exact Int.le_of_lt (h2 h' c)
        · exact h2 h' c
      · rw [show h' = g by omega]; exact z1
    · rw [← hr]; exact xp_eq0.mp z2
    · rw [xp_le0, hr] at z1
      rw [xp_eq0, hr] at z2
      rcases h with ⟨h1, h2⟩ | ⟨h1, h2, h3, h4, h5⟩
      · refine Or.inl ⟨h1, fun h' hh => ?_⟩
        rcases Nat.lt_or_ge h' g with c | c
        · exact h2 h' c
        · rw [show h' = g by omega]; omega
      · refine Or.inr ⟨h1, fun h' hh => ?_, h3, by omega, h5⟩
        rcases Nat.lt_or_ge h' g with c | c
        · exact h2 h' c
        · rw [show h' = g by omega]; exact z1
    · show 0 < hm_t (xp_P a_px a_py a_pz) (xp_O a_origin) (xp_O a_leader g) (xp_Q x y z)
      rw [← hr]
      exact Int.not_le.mp fun k => z1 (xp_le0.mpr k)
theorem xw_visible {post : Int32 → Prop} (M : xm_M a_px a_py a_pz a_alive a_origin a_twin S) (hnf : nf ≤ 26) (I : xg_I a_px a_py a_pz a_alive a_origin a_leader nf 26) {x y z : Int32} (hb : xp_b x y z)
    (K : post (nI (xc_n (fun f => decide (0 < hm_t (xp_P a_px a_py a_pz) (xp_O a_origin) (xp_O a_leader f) (xp_Q x y z))) nf))) :
    ∀ e g N, g + e = nf → e < N → wX_visible_30 post x y z f_room f_count f_isSolid (nI nf) f_cornerCount f_edgeCount f_volume a_px a_py a_pz a_alive a_origin a_twin a_sees a_stack a_rimFrom a_rimTo a_rimOuter a_fan a_facetOf a_leader a_planes a_joined N (nI (xc_n (fun f => decide (0 < hm_t (xp_P a_px a_py a_pz) (xp_O a_origin) (xp_O a_leader f) (xp_Q x y z))) g)) (nI g) := by
  intro e
  induction e with
  | zero =>
    intro g N hg hN
    obtain ⟨N, rfl⟩ : ∃ m, N = m + 1 := ⟨N - 1, by omega⟩
    have : g = nf := by omega
    subst this
    exact br_t (nI_le (Nat.le_refl _) (by omega)) K
  | succ e ih =>
    intro g N hg hN
    obtain ⟨N, rfl⟩ : ∃ m, N = m + 1 := ⟨N - 1, by omega⟩
    have hg' : g < nf := by omega
    obtain ⟨l1, l2, l3⟩ := I.1 g hg'
    have go := ih (g + 1) N (by omega) (by omega)
    have s1 : xc_n (fun f => decide (0 < hm_t (xp_P a_px a_py a_pz) (xp_O a_origin) (xp_O a_leader f) (xp_Q x y z))) (g + 1) = xc_n (fun f => decide (0 < hm_t (xp_P a_px a_py a_pz) (xp_O a_origin) (xp_O a_leader f) (xp_Q x y z))) g + (if decide (0 < hm_t (xp_P a_px a_py a_pz) (xp_O a_origin) (xp_O a_leader g) (xp_Q x y z)) then 1 else 0) := rfl
    rw [s1] at go
    unfold wX_visible_30
    rw [nI_clamp (show g < 2 ^ 31 by omega), l1]
    refine br_f (nI_ge hg' (by omega)) ⟨vp_in_nI (show g < 26 by omega) (by decide), xw_height l2 (xm_o M l2 l3) M.2.2.1 hb fun r hr => br_c (fun z1 => nm_r (nI_1 g) ?_) (fun z1 => nm_r (nI_1 _) (nm_r (nI_1 g) ?_))⟩
    · rw [xp_le0, hr] at z1
      rw [if_neg (by rw [decide_eq_true_eq]; omega)] at go
      exact go
    · rw [xp_le0, hr] at z1
      rw [if_pos (by rw [decide_eq_true_eq]; omega)] at go
      exact go
end
/-- edges both ways and edges upwards -/
theorem xq_half {e u : Nat → Nat → Bool} (sy : ∀ a b, e a b = e b a) (ir : ∀ a, e a a = false) (hu : ∀ a b, u a b = (decide (a < b) && e a b)) :
    ∀ n, xq_s (fun a => xc_n (e a) n) n = 2 * xq_s (fun a => xc_n (u a) n) n := by
  have up : ∀ n, xc_n (u n) n = 0 := by
    intro n
    have : ∀ k, k ≤ n → xc_n (u n) k = 0 := by
      intro k
      induction k with
      | zero => intro _; rfl
      | succ k ih =>
        intro hk
        show xc_n (u n) k + (if u n k then 1 else 0) = 0
        have e0 : u n k = false := by rw [hu, decide_eq_false (show ¬ n < k by omega)]; rfl
        rw [ih (by omega), e0]; rfl
    exact this n (Nat.le_refl n)
  have col : ∀ f : Nat → Nat → Bool, ∀ n k, xq_s (fun a => xc_n (f a) (n + 1)) k = xq_s (fun a => xc_n (f a) n) k + xc_n (fun a => f a n) k := by
    intro f n k
    induction k with
    | zero => rfl
    | succ k ih =>
      show xq_s (fun a => xc_n (f a) (n + 1)) k + (xc_n (f k) n + (if f k n then 1 else 0)) = xq_s (fun a => xc_n (f a) n) k + xc_n (f k) n + (xc_n (fun a => f a n) k + (if f k n then 1 else 0))
      rw [ih]; omega
  intro n
  induction n with
  | zero => rfl
  | succ n ih =>
    have e1 : xq_s (fun a => xc_n (e a) (n + 1)) (n + 1) = xq_s (fun a => xc_n (e a) (n + 1)) n + xc_n (e n) (n + 1) := rfl
    have e2 : xq_s (fun a => xc_n (u a) (n + 1)) (n + 1) = xq_s (fun a => xc_n (u a) (n + 1)) n + xc_n (u n) (n + 1) := rfl
    have e3 : xc_n (e n) (n + 1) = xc_n (e n) n + (if e n n then 1 else 0) := rfl
    have e4 : xc_n (u n) (n + 1) = xc_n (u n) n + (if u n n then 1 else 0) := rfl
    have e5 : u n n = false := by rw [hu, decide_eq_false (show ¬ n < n by omega)]; rfl
    have e6 : xc_n (fun a => e a n) n = xc_n (e n) n := xc_cg fun i _ => sy i n
    have e7 : xc_n (fun a => u a n) n = xc_n (e n) n := xc_cg fun i hi => by rw [hu, decide_eq_true hi, Bool.true_and]; exact sy i n
    rw [e1, e2, col e, col u, e3, e4, ir, e5, up n, ih, e6, e7]
    simp only [Bool.false_eq_true, if_false]
    omega
theorem yc_sy (holds : Nat → Int32) (m a b : Nat) : yc_e holds m a b = yc_e holds m b a := by
  have e : yc_t holds m a b = yc_t holds m b a := xc_cg fun g _ => Bool.and_comm _ _
  unfold yc_e
  rw [e]
  refine Bool.eq_iff_iff.mpr ?_
  rw [decide_eq_true_eq, decide_eq_true_eq]
  exact ⟨fun h => ⟨fun x => h.1 x.symm, h.2.2.1, h.2.1, h.2.2.2⟩, fun h => ⟨fun x => h.1 x.symm, h.2.2.1, h.2.1, h.2.2.2⟩⟩
theorem yc_ir (holds : Nat → Int32) (m a : Nat) : yc_e holds m a a = false := decide_eq_false fun k => k.1 rfl
theorem xq_scg {f g : Nat → Nat} : ∀ {n : Nat}, (∀ i, i < n → f i = g i) → xq_s f n = xq_s g n
  | 0, _ => rfl
  | n + 1, h => by
    show xq_s f n + f n = xq_s g n + g n
    rw [xq_scg (fun i hi => h i (Nat.lt_succ_of_lt hi)), h n (Nat.lt_succ_self n)]
/-- the answers of side agree -/
theorem xy_sdu {E E' : Nat → Int} {m m' : Nat} {r r' : Int32} (h1 : ∀ f, f < m → ∃ g, g < m' ∧ (0 < E f ↔ 0 < E' g) ∧ (E f = 0 ↔ E' g = 0)) (h2 : ∀ g, g < m' → ∃ f, f < m ∧ (0 < E f ↔ 0 < E' g) ∧ (E f = 0 ↔ E' g = 0))
    (s : xy_sd E m r) (s' : xy_sd E' m' r') : r' = r := by
  rcases s with ⟨a, f, hf, p⟩ | ⟨a, np, f, hf, p⟩ | ⟨a, np⟩ <;> rcases s' with ⟨a', g, hg, p'⟩ | ⟨a', np', g, hg, p'⟩ | ⟨a', np'⟩
  · rw [a, a']
  · obtain ⟨k, hk, k1, k2⟩ := h1 f hf
    have := np' k hk; have := k1.mp p; omega
  · obtain ⟨k, hk, k1, k2⟩ := h1 f hf
    have := np' k hk; have := k1.mp p; omega
  · obtain ⟨k, hk, k1, k2⟩ := h2 g hg
    have := np k hk; have := k1.mpr p'; omega
  · rw [a, a']
  · obtain ⟨k, hk, k1, k2⟩ := h1 f hf
    have := np' k hk; have := k2.mp p; omega
  · obtain ⟨k, hk, k1, k2⟩ := h2 g hg
    have := np k hk; have := k1.mpr p'; omega
  · obtain ⟨k, hk, k1, k2⟩ := h2 g hg
    have := np k hk; have := k2.mpr p'; omega
  · rw [a, a']
end
section
/-- the mesh knows its own points alone -/
theorem hm_cgP {P P' : Nat → hu_V} {S : Nat → Prop} {O T : Nat → Nat} {A : Nat → Prop} (M : hm_M P S O T A) (w : ∀ x, (P' x).1 = 1) (h : ∀ x, S x → P' x = P x) : hm_M P' S O T A := by
  have et : ∀ t, t < 26 → A t → ∀ z, hm_t P' O t z = hm_t P O t z := by
    intro t ht a z
    obtain ⟨s0, s1, s2⟩ := hm_S3 M ht a
    unfold hm_t
    rw [h _ s0, h _ s1, h _ s2]
  refine ⟨w, fun k hk a => hm_S M hk a, ?_, ?_, fun k hk a => hm_T M hk a, ?_, hm_ex M, ?_⟩
  · intro t ht a x s
    rw [et t ht a, h x s]; exact hm_np M ht a s
  · intro t ht a
    obtain ⟨x, s, n⟩ := hm_ng M ht a
    exact ⟨x, s, by rw [et t ht a, h x s]; exact n⟩
  · intro t u ht hu a b ne
    obtain ⟨s0, s1, s2⟩ := hm_S3 M ht a
    obtain ⟨r0, r1, r2⟩ := hm_S3 M hu b
    have k := hm_sp M ht hu a b ne
    unfold hm_sep at k ⊢
    rw [h _ s0, h _ s1, h _ s2, h _ r0, h _ r1, h _ r2]; exact k
  · obtain ⟨a, b, c, d, sa, sb, sc, sd, ne⟩ := hm_4 M
    exact ⟨a, b, c, d, sa, sb, sc, sd, by rw [h _ sa, h _ sb, h _ sc, h _ sd]; exact ne⟩
/-- one of the first n is at x, y, z -/
def xy_dup (px py pz : Nat → Int32) (n : Nat) (x y z : Int32) : Prop := ∃ i, i < n ∧ px i = x ∧ py i = y ∧ pz i = z
theorem xy_pu {px py pz : Nat → Int32} {n : Nat} {x y z : Int32} {i : Nat} (h : i ≠ n) : xp_P (upd px n x) (upd py n y) (upd pz n z) i = xp_P px py pz i := by
  unfold xp_P; rw [pk_un h, pk_un h, pk_un h]
theorem xy_Bu {px py pz : Nat → Int32} {n : Nat} {x y z : Int32} (hB : xp_B px py pz) (h : xy_W 60 x y z) : xp_B (upd px n x) (upd py n y) (upd pz n z) := by
  intro i
  rcases Nat.decEq i n with c | c
  · rw [pk_un c, pk_un c, pk_un c]; exact hB i
  · rw [c, pk_us, pk_us, pk_us]; exact xy_W60 h
theorem xy_Du {px py pz : Nat → Int32} {n : Nat} {x y z : Int32} (hD : ∀ a b, a < n → b < n → xp_P px py pz a = xp_P px py pz b → a = b) (nd : ¬ xy_dup px py pz n x y z) :
    ∀ a b, a < n + 1 → b < n + 1 → xp_P (upd px n x) (upd py n y) (upd pz n z) a = xp_P (upd px n x) (upd py n y) (upd pz n z) b → a = b := by
  have new : ∀ a, a < n → xp_P (upd px n x) (upd py n y) (upd pz n z) a = xp_P (upd px n x) (upd py n y) (upd pz n z) n → False := by
    intro a ha e
    rw [xy_pu (by omega)] at e
    unfold xp_P at e
    rw [pk_us, pk_us, pk_us] at e
    refine nd ⟨a, ha, ?_, ?_, ?_⟩
    · exact Int32.toInt_inj.mp (congrArg (fun v : hu_V => v.2.1) e)
    · exact Int32.toInt_inj.mp (congrArg (fun v : hu_V => v.2.2.1) e)
    · exact Int32.toInt_inj.mp (congrArg (fun v : hu_V => v.2.2.2) e)
  intro a b ha hb e
  rcases Nat.lt_or_ge a n with c | c <;> rcases Nat.lt_or_ge b n with d | d
  · rw [xy_pu (by omega), xy_pu (by omega)] at e; exact hD a b c d e
  · rw [show b = n by omega] at e; exact (new a c e).elim
  · rw [show a = n by omega] at e; exact (new b d e.symm).elim
  · omega
section
variable {f_room f_count f_isSolid f_facetCount f_cornerCount f_edgeCount f_volume : Int32} {a_px a_py a_pz a_alive a_origin a_twin a_sees a_stack a_rimFrom a_rimTo a_rimOuter a_fan a_facetOf a_leader a_planes a_joined : Nat → Int32}
theorem xw_add {post : Int32 → SX → Prop} {n room : Nat} (hr : room ≤ 14) (hn : n ≤ room) (hB : xp_B a_px a_py a_pz) (hD : ∀ a b, a < n → b < n → xp_P a_px a_py a_pz a = xp_P a_px a_py a_pz b → a = b)
    (Z : xz_S a_px a_py a_pz a_alive a_origin a_twin a_leader a_planes a_joined n f_isSolid f_facetCount f_cornerCount f_edgeCount f_volume) {x y z : Int32}
    (K1 : ¬ xy_W 60 x y z → post (-1) (nI room, nI n, f_isSolid, f_facetCount, f_cornerCount, f_edgeCount, f_volume, a_px, a_py, a_pz, a_alive, a_origin, a_twin, a_sees, a_stack, a_rimFrom, a_rimTo, a_rimOuter, a_fan, a_facetOf, a_leader, a_planes, a_joined)) (K2 : xy_W 60 x y z → ¬ n < room → post (-2) (nI room, nI n, f_isSolid, f_facetCount, f_cornerCount, f_edgeCount, f_volume, a_px, a_py, a_pz, a_alive, a_origin, a_twin, a_sees, a_stack, a_rimFrom, a_rimTo, a_rimOuter, a_fan, a_facetOf, a_leader, a_planes, a_joined))
    (K3 : xy_W 60 x y z → n < room → xy_dup a_px a_py a_pz n x y z → post (-3) (nI room, nI n, f_isSolid, f_facetCount, f_cornerCount, f_edgeCount, f_volume, a_px, a_py, a_pz, a_alive, a_origin, a_twin, a_sees, a_stack, a_rimFrom, a_rimTo, a_rimOuter, a_fan, a_facetOf, a_leader, a_planes, a_joined))
    (K4 : xy_W 60 x y z → n < room → ¬ xy_dup a_px a_py a_pz n x y z → ∀ solid fc cc ec vol alive origin twin sees stack rf rt ro fan fo leader pl jo,
      xz_S (upd a_px n x) (upd a_py n y) (upd a_pz n z) alive origin twin leader pl jo (n + 1) solid fc cc ec vol →
      post (nI n) (nI room, nI (n + 1), solid, fc, cc, ec, vol, upd a_px n x, upd a_py n y, upd a_pz n z, alive, origin, twin, sees, stack, rf, rt, ro, fan, fo, leader, pl, jo)) :
    wpX_add post (nI room, nI n, f_isSolid, f_facetCount, f_cornerCount, f_edgeCount, f_volume, a_px, a_py, a_pz, a_alive, a_origin, a_twin, a_sees, a_stack, a_rimFrom, a_rimTo, a_rimOuter, a_fan, a_facetOf, a_leader, a_planes, a_joined) x y z := by
  unfold wpX_add
  dsimp only
  refine xw_within (fun w => br_f (by decide) (pk_lt n room (fun lt => ⟨n + 1, ?_⟩) (fun ge => K2 w (by omega)))) (fun w => br_t rfl (K1 w))
  have hB' := xy_Bu (n := n) hB w
  have loop : ∀ e i N, i + e = n → e < N → (∀ j, j < i → ¬ (a_px j = x ∧ a_py j = y ∧ a_pz j = z)) → wX_add_30 post x y z (nI room) (nI n) f_isSolid f_facetCount f_cornerCount f_edgeCount f_volume a_px a_py a_pz a_alive a_origin a_twin a_sees a_stack a_rimFrom a_rimTo a_rimOuter a_fan a_facetOf a_leader a_planes a_joined N (nI i) := by
    intro e
    induction e with
    | zero =>
      intro i N hi hN h
      obtain ⟨N, rfl⟩ : ∃ m, N = m + 1 := ⟨N - 1, by omega⟩
      have : i = n := by omega
      subst this
      have nd : ¬ xy_dup a_px a_py a_pz i x y z := fun ⟨j, hj, k⟩ => h j hj k
      have hD' := xy_Du hD nd
      have v := vp_in_nI (show i < 14 by omega) (show 14 < 2 ^ 31 by decide)
      unfold wX_add_30
      rw [nI_clamp (show i < 2 ^ 31 by omega)]
      refine br_t (nI_le (Nat.le_refl _) (by omega)) ⟨v, nm_e ⟨v, nm_e ⟨v, nm_e (nm_r (nI_1 i) ?_)⟩⟩⟩
      refine br_c (fun zs => ?_) (fun zs => ?_)
      · refine xw_rebuild hB' (show i + 1 ≤ 14 by omega) hD' fun solid fc cc ec vol alive origin twin sees stack rf rt ro fan fo leader pl jo Z' => ?_
        show post (nI (i + 1) - 1) _
        rw [nI_pred]
        exact K4 w lt nd solid fc cc ec vol alive origin twin sees stack rf rt ro fan fo leader pl jo Z'
      · rcases Z with ⟨e0, _⟩ | ⟨e1, M, cn, nf, _, _⟩
        · exact absurd e0 zs
        · have M' : xm_M (upd a_px i x) (upd a_py i y) (upd a_pz i z) a_alive a_origin a_twin (fun x => x < i) :=
            ⟨hm_cgP M.1 (fun _ => rfl) (fun q hq => xy_pu (by omega)), M.2.1, hB', M.2.2.2⟩
          rw [nI_pred]
          refine xw_insert M' (show i < 14 by omega) cn (by omega) fun alive origin twin sees stack rf rt ro fan M'' cn' => ?_
          have eS : (fun q => q < i ∨ q = i) = (fun q => q < i + 1) := by
            funext q
            exact propext ⟨fun k => by omega, fun k => by omega⟩
          rw [eS] at M''
          refine xw_refresh M'' (show i + 1 ≤ 14 by omega) fun nf cc ec vol stack' fo leader pl jo R => ?_
          show post (nI (i + 1) - 1) _
          rw [nI_pred, e1]
          exact K4 w lt nd 1 (nI nf) cc ec vol alive origin twin sees stack' rf rt ro fan fo leader pl jo (Or.inr ⟨rfl, M'', cn', nf, rfl, R⟩)
    | succ e ih =>
      intro i N hi hN h
      obtain ⟨N, rfl⟩ : ∃ m, N = m + 1 := ⟨N - 1, by omega⟩
      have v := vp_in_nI (show i < 14 by omega) (show 14 < 2 ^ 31 by decide)
      have go : ¬ (a_px i = x ∧ a_py i = y ∧ a_pz i = z) → wX_add_30 post x y z (nI room) (nI n) f_isSolid f_facetCount f_cornerCount f_edgeCount f_volume a_px a_py a_pz a_alive a_origin a_twin a_sees a_stack a_rimFrom a_rimTo a_rimOuter a_fan a_facetOf a_leader a_planes a_joined N (nI (i + 1)) := by
        intro k
        refine ih (i + 1) N (by omega) (by omega) fun j hj => ?_
        rcases Nat.lt_or_ge j i with c | c
        · exact h j c
        · rw [show j = i by omega]; exact k
      unfold wX_add_30
      rw [nI_clamp (show i < 2 ^ 31 by omega)]
      exact br_f (nI_ge (show i < n by omega) (by omega)) ⟨v, br_c (fun z1 => ⟨v, br_c (fun z2 => ⟨v, br_c (fun z3 => K3 w lt ⟨i, by omega, z1, z2, z3⟩) (fun z3 => nm_r (nI_1 i) (go fun k => z3 k.2.2))⟩) (fun z2 => nm_r (nI_1 i) (go fun k => z2 k.2.1))⟩) (fun z1 => nm_r (nI_1 i) (go fun k => z1 k.1))⟩
  exact loop n 0 (n + 1) (by omega) (by omega) (fun j hj => absurd hj (Nat.not_lt_zero j))
theorem xw_remove {post : Int32 → SX → Prop} {n : Nat} (hn : n ≤ 14) (hB : xp_B a_px a_py a_pz) (hD : ∀ a b, a < n → b < n → xp_P a_px a_py a_pz a = xp_P a_px a_py a_pz b → a = b)
    (K1 : n = 0 → post (-4) (f_room, nI n, f_isSolid, f_facetCount, f_cornerCount, f_edgeCount, f_volume, a_px, a_py, a_pz, a_alive, a_origin, a_twin, a_sees, a_stack, a_rimFrom, a_rimTo, a_rimOuter, a_fan, a_facetOf, a_leader, a_planes, a_joined))
    (K4 : ∀ p, n = p + 1 → ∀ solid fc cc ec vol alive origin twin sees stack rf rt ro fan fo leader pl jo,
      xz_S a_px a_py a_pz alive origin twin leader pl jo p solid fc cc ec vol →
      post (nI p) (f_room, nI p, solid, fc, cc, ec, vol, a_px, a_py, a_pz, alive, origin, twin, sees, stack, rf, rt, ro, fan, fo, leader, pl, jo)) :
    wpX_removeLast post (f_room, nI n, f_isSolid, f_facetCount, f_cornerCount, f_edgeCount, f_volume, a_px, a_py, a_pz, a_alive, a_origin, a_twin, a_sees, a_stack, a_rimFrom, a_rimTo, a_rimOuter, a_fan, a_facetOf, a_leader, a_planes, a_joined) := by
  unfold wpX_removeLast
  dsimp only
  refine pk_eq n 0 (fun c => K1 c) (fun c => ?_)
  obtain ⟨p, rfl⟩ : ∃ p, n = p + 1 := ⟨n - 1, by omega⟩
  exact nm_r (nI_pred p) (xw_rebuild hB (show p ≤ 14 by omega) (fun a b ha hb e => hD a b (by omega) (by omega) e) fun solid fc cc ec vol alive origin twin sees stack rf rt ro fan fo leader pl jo Z' => K4 p rfl solid fc cc ec vol alive origin twin sees stack rf rt ro fan fo leader pl jo Z')
end
section
variable {f_room f_n f_solid f_planes : Int32} {a_px a_py a_pz a_nx a_ny a_nz a_off a_holds : Nat → Int32}
theorem yw_add {post : Int32 → SY → Prop} {n room m : Nat} (hr : room ≤ 14) (hn : n ≤ room) (hB : xp_B a_px a_py a_pz) {x y z : Int32}
    (K1 : ¬ xy_W 60 x y z → post (-1) (nI room, nI n, f_solid, nI m, a_px, a_py, a_pz, a_nx, a_ny, a_nz, a_off, a_holds)) (K2 : xy_W 60 x y z → ¬ n < room → post (-2) (nI room, nI n, f_solid, nI m, a_px, a_py, a_pz, a_nx, a_ny, a_nz, a_off, a_holds))
    (K3 : xy_W 60 x y z → n < room → xy_dup a_px a_py a_pz n x y z → post (-3) (nI room, nI n, f_solid, nI m, a_px, a_py, a_pz, a_nx, a_ny, a_nz, a_off, a_holds))
    (K4 : xy_W 60 x y z → n < room → ¬ xy_dup a_px a_py a_pz n x y z → ∀ solid m' nx ny nz off holds,
      yz_S (upd a_px n x) (upd a_py n y) (upd a_pz n z) nx ny nz off holds (n + 1) m' solid →
      post (nI n) (nI room, nI (n + 1), solid, nI m', upd a_px n x, upd a_py n y, upd a_pz n z, nx, ny, nz, off, holds)) :
    wpY_add post (nI room, nI n, f_solid, nI m, a_px, a_py, a_pz, a_nx, a_ny, a_nz, a_off, a_holds) x y z := by
  unfold wpY_add
  dsimp only
  refine yw_within (fun a => br_f (by decide) (yw_within (fun b => br_f (by decide) (yw_within (fun c => br_f (by decide) ?_) (fun c => br_t rfl (K1 fun k => c k.2.2)))) (fun b => br_t rfl (K1 fun k => b k.2.1)))) (fun a => br_t rfl (K1 fun k => a k.1))
  have w : xy_W 60 x y z := ⟨a, b, c⟩
  refine pk_eq n room (fun e => K2 w (by omega)) (fun ne => ⟨n + 1, ?_⟩)
  have lt : n < room := by omega
  have hB' := xy_Bu (n := n) hB w
  have loop : ∀ e i N, i + e = n → e < N → (∀ j, j < i → ¬ (a_px j = x ∧ a_py j = y ∧ a_pz j = z)) → wY_add_46 post x y z (nI room) (nI n) f_solid (nI m) a_px a_py a_pz a_nx a_ny a_nz a_off a_holds N (nI i) := by
    intro e
    induction e with
    | zero =>
      intro i N hi hN h
      obtain ⟨N, rfl⟩ : ∃ m, N = m + 1 := ⟨N - 1, by omega⟩
      have : i = n := by omega
      subst this
      have nd : ¬ xy_dup a_px a_py a_pz i x y z := fun ⟨j, hj, k⟩ => h j hj k
      have v := vp_in_nI (show i < 14 by omega) (show 14 < 2 ^ 31 by decide)
      unfold wY_add_46
      rw [nI_clamp (show i < 2 ^ 31 by omega)]
      refine br_t (nI_le (Nat.le_refl _) (by omega)) ⟨v, nm_e ⟨v, nm_e ⟨v, nm_e (nm_r (nI_1 i) (yw_gather hB' (show i + 1 ≤ 14 by omega) fun solid m' nx ny nz off holds I hm => ?_))⟩⟩⟩
      show post (nI (i + 1) - 1) _
      rw [nI_pred]
      exact K4 w lt nd solid m' nx ny nz off holds ⟨I, hm⟩
    | succ e ih =>
      intro i N hi hN h
      obtain ⟨N, rfl⟩ : ∃ m, N = m + 1 := ⟨N - 1, by omega⟩
      have v := vp_in_nI (show i < 14 by omega) (show 14 < 2 ^ 31 by decide)
      have go : ¬ (a_px i = x ∧ a_py i = y ∧ a_pz i = z) → wY_add_46 post x y z (nI room) (nI n) f_solid (nI m) a_px a_py a_pz a_nx a_ny a_nz a_off a_holds N (nI (i + 1)) := by
        intro k
        refine ih (i + 1) N (by omega) (by omega) fun j hj => ?_
        rcases Nat.lt_or_ge j i with c | c
        · exact h j c
        · rw [show j = i by omega]; exact k
      unfold wY_add_46
      rw [nI_clamp (show i < 2 ^ 31 by omega)]
      exact br_f (nI_ge (show i < n by omega) (by omega)) ⟨v, br_c (fun z1 => ⟨v, br_c (fun z2 => ⟨v, br_c (fun z3 => K3 w lt ⟨i, by omega, z1, z2, z3⟩) (fun z3 => nm_r (nI_1 i) (go fun k => z3 k.2.2))⟩) (fun z2 => nm_r (nI_1 i) (go fun k => z2 k.2.1))⟩) (fun z1 => nm_r (nI_1 i) (go fun k => z1 k.1))⟩
  exact loop n 0 (n + 1) (by omega) (by omega) (fun j hj => absurd hj (Nat.not_lt_zero j))
theorem yw_remove {post : Int32 → SY → Prop} {n m : Nat} (hn : n ≤ 14) (hB : xp_B a_px a_py a_pz)
    (K1 : n = 0 → post (-4) (f_room, nI n, f_solid, nI m, a_px, a_py, a_pz, a_nx, a_ny, a_nz, a_off, a_holds))
    (K4 : ∀ p, n = p + 1 → ∀ solid m' nx ny nz off holds, yz_S a_px a_py a_pz nx ny nz off holds p m' solid →
      post (nI p) (f_room, nI p, solid, nI m', a_px, a_py, a_pz, nx, ny, nz, off, holds)) :
    wpY_removeLast post (f_room, nI n, f_solid, nI m, a_px, a_py, a_pz, a_nx, a_ny, a_nz, a_off, a_holds) := by
  unfold wpY_removeLast
  dsimp only
  refine pk_eq n 0 (fun c => K1 c) (fun c => ?_)
  obtain ⟨p, rfl⟩ : ∃ p, n = p + 1 := ⟨n - 1, by omega⟩
  exact nm_r (nI_pred p) (yw_gather hB (show p ≤ 14 by omega) fun solid m' nx ny nz off holds I hm => K4 p rfl solid m' nx ny nz off holds ⟨I, hm⟩)
end
end
section
/-! the relation -/
def xy_I (f_room f_count f_isSolid f_facetCount f_cornerCount f_edgeCount f_volume : Int32) (a_px a_py a_pz a_alive a_origin a_twin a_leader a_planes a_joined : Nat → Int32)
    (g_room g_n g_solid g_planes : Int32) (b_px b_py b_pz a_nx a_ny a_nz a_off a_holds : Nat → Int32) : Prop :=
  b_px = a_px ∧ b_py = a_py ∧ b_pz = a_pz ∧ ∃ room n m : Nat, f_room = nI room ∧ g_room = nI room ∧ f_count = nI n ∧ g_n = nI n ∧ g_planes = nI m ∧ 4 ≤ room ∧ room ≤ 14 ∧ n ≤ room ∧
    xp_B a_px a_py a_pz ∧ (∀ a b, a < n → b < n → xp_P a_px a_py a_pz a = xp_P a_px a_py a_pz b → a = b) ∧
    xz_S a_px a_py a_pz a_alive a_origin a_twin a_leader a_planes a_joined n f_isSolid f_facetCount f_cornerCount f_edgeCount f_volume ∧
    yz_S a_px a_py a_pz a_nx a_ny a_nz a_off a_holds n m g_solid
/-- the same points; the component's surface and its sets, the reference's planes stand for them -/
def i_Rel (k : Nat) (u : SX) (v : SY) : Prop := match u, v with
  | (f_room, f_count, f_isSolid, f_facetCount, f_cornerCount, f_edgeCount, f_volume, a_px, a_py, a_pz, a_alive, a_origin, a_twin, a_sees, a_stack, a_rimFrom, a_rimTo, a_rimOuter, a_fan, a_facetOf, a_leader, a_planes, a_joined), (g_room, g_n, g_solid, g_planes, b_px, b_py, b_pz, a_nx, a_ny, a_nz, a_off, a_holds) =>
    xy_I f_room f_count f_isSolid f_facetCount f_cornerCount f_edgeCount f_volume a_px a_py a_pz a_alive a_origin a_twin a_leader a_planes a_joined g_room g_n g_solid g_planes b_px b_py b_pz a_nx a_ny a_nz a_off a_holds
theorem i_up {k : Nat} {u : SX} {v : SY} (h : i_Rel k u v) : i_Rel (k + 4) u v := h
theorem xy_in {k room n m : Nat} {f_isSolid f_facetCount f_cornerCount f_edgeCount f_volume g_solid : Int32}
    {a_px a_py a_pz a_alive a_origin a_twin a_sees a_stack a_rimFrom a_rimTo a_rimOuter a_fan a_facetOf a_leader a_planes a_joined a_nx a_ny a_nz a_off a_holds : Nat → Int32}
    (h1 : 4 ≤ room) (h2 : room ≤ 14) (h3 : n ≤ room) (hB : xp_B a_px a_py a_pz) (hD : ∀ a b, a < n → b < n → xp_P a_px a_py a_pz a = xp_P a_px a_py a_pz b → a = b)
    (Z : xz_S a_px a_py a_pz a_alive a_origin a_twin a_leader a_planes a_joined n f_isSolid f_facetCount f_cornerCount f_edgeCount f_volume)
    (Y : yz_S a_px a_py a_pz a_nx a_ny a_nz a_off a_holds n m g_solid) :
    i_Rel k (nI room, nI n, f_isSolid, f_facetCount, f_cornerCount, f_edgeCount, f_volume, a_px, a_py, a_pz, a_alive, a_origin, a_twin, a_sees, a_stack, a_rimFrom, a_rimTo, a_rimOuter, a_fan, a_facetOf, a_leader, a_planes, a_joined) (nI room, nI n, g_solid, nI m, a_px, a_py, a_pz, a_nx, a_ny, a_nz, a_off, a_holds) :=
  ⟨rfl, rfl, rfl, room, n, m, rfl, rfl, rfl, rfl, rfl, h1, h2, h3, hB, hD, Z, Y⟩
theorem xy_el {Pr : SX → SY → Prop} {k : Nat} {u : SX} {v : SY} (I : i_Rel k u v)
    (h : ∀ (room n m : Nat) (f_isSolid f_facetCount f_cornerCount f_edgeCount f_volume g_solid : Int32)
      (a_px a_py a_pz a_alive a_origin a_twin a_sees a_stack a_rimFrom a_rimTo a_rimOuter a_fan a_facetOf a_leader a_planes a_joined a_nx a_ny a_nz a_off a_holds : Nat → Int32),
      4 ≤ room → room ≤ 14 → n ≤ room → xp_B a_px a_py a_pz → (∀ a b, a < n → b < n → xp_P a_px a_py a_pz a = xp_P a_px a_py a_pz b → a = b) →
      xz_S a_px a_py a_pz a_alive a_origin a_twin a_leader a_planes a_joined n f_isSolid f_facetCount f_cornerCount f_edgeCount f_volume →
      yz_S a_px a_py a_pz a_nx a_ny a_nz a_off a_holds n m g_solid →
      Pr (nI room, nI n, f_isSolid, f_facetCount, f_cornerCount, f_edgeCount, f_volume, a_px, a_py, a_pz, a_alive, a_origin, a_twin, a_sees, a_stack, a_rimFrom, a_rimTo, a_rimOuter, a_fan, a_facetOf, a_leader, a_planes, a_joined) (nI room, nI n, g_solid, nI m, a_px, a_py, a_pz, a_nx, a_ny, a_nz, a_off, a_holds)) : Pr u v := by
  obtain ⟨f_room, f_count, f_isSolid, f_facetCount, f_cornerCount, f_edgeCount, f_volume, a_px, a_py, a_pz, a_alive, a_origin, a_twin, a_sees, a_stack, a_rimFrom, a_rimTo, a_rimOuter, a_fan, a_facetOf, a_leader, a_planes, a_joined⟩ := u
  obtain ⟨g_room, g_n, g_solid, g_planes, b_px, b_py, b_pz, a_nx, a_ny, a_nz, a_off, a_holds⟩ := v
  obtain ⟨e1, e2, e3, room, n, m, e4, e5, e6, e7, e8, h1, h2, h3, hB, hD, Z, Y⟩ := (show xy_I f_room f_count f_isSolid f_facetCount f_cornerCount f_edgeCount f_volume a_px a_py a_pz a_alive a_origin a_twin a_leader a_planes a_joined g_room g_n g_solid g_planes b_px b_py b_pz a_nx a_ny a_nz a_off a_holds from I)
  subst e1 e2 e3 e4 e5 e6 e7 e8
  exact h room n m f_isSolid f_facetCount f_cornerCount f_edgeCount f_volume g_solid b_px b_py b_pz a_alive a_origin a_twin a_sees a_stack a_rimFrom a_rimTo a_rimOuter a_fan a_facetOf a_leader a_planes a_joined a_nx a_ny a_nz a_off a_holds h1 h2 h3 hB hD Z Y
/-- both flat, or both solid and the facets in pairs -/
theorem xy_two {px py pz alive origin twin leader planes joined nx ny nz off holds : Nat → Int32} {n m : Nat} {solid fc cc ec vol s' : Int32} (hn : n ≤ 14)
    (hD : ∀ a b, a < n → b < n → xp_P px py pz a = xp_P px py pz b → a = b) (Z : xz_S px py pz alive origin twin leader planes joined n solid fc cc ec vol) (Y : yz_S px py pz nx ny nz off holds n m s') :
    (solid = 0 ∧ s' = 0) ∨ (solid = 1 ∧ s' = 1 ∧ 0 < n ∧ xm_M px py pz alive origin twin (fun x => x < n) ∧ hf_F (xp_P px py pz) n m (yl_L nx ny nz off) ∧ ∃ nf, fc = nI nf ∧ xq_R px py pz alive origin leader planes joined n nf cc ec vol) := by
  rcases Z with ⟨e0, n4⟩ | ⟨e1, M, _, nf, ef, R⟩
  · rcases yz_4 Y with ⟨k, _⟩ | ⟨_, k⟩
    · exact Or.inl ⟨e0, k⟩
    · exact absurd k n4
  · have h4 : xz_4 (xp_P px py pz) n := by
      obtain ⟨a, b, c, d, sa, sb, sc, sd, ne⟩ := hm_4 M.1
      exact ⟨a, b, c, d, sa, sb, sc, sd, ne⟩
    rcases yz_4 Y with ⟨_, k⟩ | ⟨k, _⟩
    · exact absurd h4 k
    · have n0 : 0 < n := by obtain ⟨a, _, _, _, ha, _⟩ := h4; omega
      exact Or.inr ⟨e1, k, n0, M, yz_F hn Y hD h4, nf, ef, R⟩
theorem i_vc0 (k0 : Int32) : wpX_init (fun u => wpY_init (fun v => i_Rel 1 u v) k0) k0 := by
  have B0 : xp_B (fun _ => 0) (fun _ => 0) (fun _ => 0) := fun i => by
    have e : (0 : Int32).toInt = 0 := by decide
    show (-60 ≤ (0 : Int32).toInt ∧ (0 : Int32).toInt ≤ 60) ∧ (-60 ≤ (0 : Int32).toInt ∧ (0 : Int32).toInt ≤ 60) ∧ (-60 ≤ (0 : Int32).toInt ∧ (0 : Int32).toInt ≤ 60)
    rw [e]; omega
  have D0 : ∀ a b, a < 0 → b < 0 → xp_P (fun _ => 0) (fun _ => 0) (fun _ => 0) a = xp_P (fun _ => 0) (fun _ => 0) (fun _ => 0) b → a = b := fun a _ ha => absurd ha (Nat.not_lt_zero a)
  have Z0 : xz_S (fun _ => 0) (fun _ => 0) (fun _ => 0) (fun _ => 0) (fun _ => 0) (fun _ => 0) (fun _ => 0) (fun _ => 0) (fun _ => 0) 0 0 0 0 0 0 := Or.inl ⟨rfl, xz_few (by omega)⟩
  have Y0 : yz_S (fun _ => 0) (fun _ => 0) (fun _ => 0) (fun _ => 0) (fun _ => 0) (fun _ => 0) (fun _ => 0) (fun _ => 0) 0 0 0 :=
    ⟨⟨fun g hg => absurd hg (Nat.not_lt_zero g), fun g _ hg => absurd hg (Nat.not_lt_zero g), fun a b c d => by unfold yt_D at d; omega, Or.inl ⟨rfl, fun a b c d => by unfold yt_D at d; omega⟩⟩, by omega⟩
  have key : ∀ room, 4 ≤ room → room ≤ 14 → ∀ x, x = nI room → i_Rel 1 (x, 0, 0, 0, 0, 0, 0, (fun _ => 0), (fun _ => 0), (fun _ => 0), (fun _ => 0), (fun _ => 0), (fun _ => 0), (fun _ => 0), (fun _ => 0), (fun _ => 0), (fun _ => 0), (fun _ => 0), (fun _ => 0), (fun _ => 0), (fun _ => 0), (fun _ => 0), (fun _ => 0))
      (x, 0, 0, 0, (fun _ => 0), (fun _ => 0), (fun _ => 0), (fun _ => 0), (fun _ => 0), (fun _ => 0), (fun _ => 0), (fun _ => 0)) := by
    intro room h1 h2 x ex
    exact ⟨rfl, rfl, rfl, room, 0, 0, ex, ex, rfl, rfl, rfl, h1, h2, by omega, B0, D0, Z0, Y0⟩
  unfold wpX_init wX_init_26
  unfold wpY_init
  refine br_c (fun c1 => br_c (fun c2 => br_t c1 (br_t c2 ?_)) (fun c2 => br_t c1 (br_f c2 (key 14 (by omega) (by omega) _ rfl)))) (fun c1 => br_f c1 (key 4 (by omega) (by omega) _ rfl))
  have n0 : ¬ k0 < 0 := fun x => by
    rw [Int32.le_iff_toInt_le] at c1
    rw [Int32.lt_iff_toInt_lt] at x
    have e4 : (4 : Int32).toInt = 4 := by decide
    have e0 : (0 : Int32).toInt = 0 := by decide
    omega
  obtain ⟨j, hj, rfl⟩ := nI_of2 (M := 14) (n := 14) (by decide) n0 c2
  exact key j ((nI_leI (a := 4) (by omega) (by omega)).mp c1) hj _ rfl
end
section
theorem i_vc_add {k : Nat} {u : SX} {v : SY} (I : i_Rel k u v) (hk : k + 4 ≤ 2049) (v1 : Int32) (v2 : Int32) (v3 : Int32) : wpX_add (fun r u' => wpY_add (fun r' v' => r' = r ∧ i_Rel (k + 4) u' v') v v1 v2 v3) u v1 v2 v3 := by
  refine xy_el (Pr := fun u v => wpX_add (fun r u' => wpY_add (fun r' v' => r' = r ∧ i_Rel (k + 4) u' v') v v1 v2 v3) u v1 v2 v3) I ?_
  intro room n m f_isSolid f_facetCount f_cornerCount f_edgeCount f_volume g_solid a_px a_py a_pz a_alive a_origin a_twin a_sees a_stack a_rimFrom a_rimTo a_rimOuter a_fan a_facetOf a_leader a_planes a_joined a_nx a_ny a_nz a_off a_holds h1 h2 h3 hB hD Z Y
  refine xw_add h2 h3 hB hD Z (fun w => ?_) (fun w c => ?_) (fun w c d => ?_) (fun w c d solid fc cc ec vol alive origin twin sees stack rf rt ro fan fo leader pl jo Z' => ?_)
  · exact yw_add h2 h3 hB (fun _ => ⟨rfl, xy_in h1 h2 h3 hB hD Z Y⟩) (fun w' => absurd w' w) (fun w' => absurd w' w) (fun w' => absurd w' w)
  · exact yw_add h2 h3 hB (fun w' => absurd w w') (fun _ _ => ⟨rfl, xy_in h1 h2 h3 hB hD Z Y⟩) (fun _ c' => absurd c' c) (fun _ c' => absurd c' c)
  · exact yw_add h2 h3 hB (fun w' => absurd w w') (fun _ c' => absurd c c') (fun _ _ _ => ⟨rfl, xy_in h1 h2 h3 hB hD Z Y⟩) (fun _ _ d' => absurd d d')
  · exact yw_add h2 h3 hB (fun w' => absurd w w') (fun _ c' => absurd c c') (fun _ _ d' => absurd d' d) (fun _ _ _ s' m' nx ny nz off holds Y' => ⟨rfl, xy_in h1 h2 (by omega) (xy_Bu hB w) (xy_Du hD d) Z' Y'⟩)
theorem i_vc_removeLast {k : Nat} {u : SX} {v : SY} (I : i_Rel k u v) (hk : k + 4 ≤ 2049) : wpX_removeLast (fun r u' => wpY_removeLast (fun r' v' => r' = r ∧ i_Rel (k + 4) u' v') v) u := by
  refine xy_el (Pr := fun u v => wpX_removeLast (fun r u' => wpY_removeLast (fun r' v' => r' = r ∧ i_Rel (k + 4) u' v') v) u) I ?_
  intro room n m f_isSolid f_facetCount f_cornerCount f_edgeCount f_volume g_solid a_px a_py a_pz a_alive a_origin a_twin a_sees a_stack a_rimFrom a_rimTo a_rimOuter a_fan a_facetOf a_leader a_planes a_joined a_nx a_ny a_nz a_off a_holds h1 h2 h3 hB hD Z Y
  refine xw_remove (by omega) hB hD (fun c => ?_) (fun p ep solid fc cc ec vol alive origin twin sees stack rf rt ro fan fo leader pl jo Z' => ?_)
  · exact yw_remove (by omega) hB (fun _ => ⟨rfl, xy_in h1 h2 h3 hB hD Z Y⟩) (fun p ep => by omega)
  · refine yw_remove (by omega) hB (fun c => by omega) (fun p' ep' s' m' nx ny nz off holds Y' => ?_)
    have e : p' = p := by omega
    subst e
    exact ⟨rfl, xy_in h1 h2 (by omega) hB (fun a b ha hb => hD a b (by omega) (by omega)) Z' Y'⟩
theorem i_vc_size {k : Nat} {u : SX} {v : SY} (I : i_Rel k u v) (hk : k + 4 ≤ 2049) : wpX_size (fun r => wpY_size (fun r' => r' = r ∧ i_Rel (k + 4) u v) v) u := by
  refine xy_el (Pr := fun u v => wpX_size (fun r => wpY_size (fun r' => r' = r ∧ i_Rel (k + 4) u v) v) u) I ?_
  intro room n m f_isSolid f_facetCount f_cornerCount f_edgeCount f_volume g_solid a_px a_py a_pz a_alive a_origin a_twin a_sees a_stack a_rimFrom a_rimTo a_rimOuter a_fan a_facetOf a_leader a_planes a_joined a_nx a_ny a_nz a_off a_holds h1 h2 h3 hB hD Z Y
  exact ⟨rfl, xy_in h1 h2 h3 hB hD Z Y⟩
theorem i_vc_solid {k : Nat} {u : SX} {v : SY} (I : i_Rel k u v) (hk : k + 4 ≤ 2049) : wpX_solid (fun r => wpY_solid (fun r' => r' = r ∧ i_Rel (k + 4) u v) v) u := by
  refine xy_el (Pr := fun u v => wpX_solid (fun r => wpY_solid (fun r' => r' = r ∧ i_Rel (k + 4) u v) v) u) I ?_
  intro room n m f_isSolid f_facetCount f_cornerCount f_edgeCount f_volume g_solid a_px a_py a_pz a_alive a_origin a_twin a_sees a_stack a_rimFrom a_rimTo a_rimOuter a_fan a_facetOf a_leader a_planes a_joined a_nx a_ny a_nz a_off a_holds h1 h2 h3 hB hD Z Y
  have hI : i_Rel (k + 4) _ _ := xy_in (k := k + 4) (a_sees := a_sees) (a_stack := a_stack) (a_rimFrom := a_rimFrom) (a_rimTo := a_rimTo) (a_rimOuter := a_rimOuter) (a_fan := a_fan) (a_facetOf := a_facetOf) h1 h2 h3 hB hD Z Y
  rcases xy_two (by omega) hD Z Y with ⟨e1, e2⟩ | ⟨e1, e2, _⟩
  · subst e1 e2
    exact ⟨rfl, rfl, rfl, hI⟩
  · subst e1 e2
    exact ⟨rfl, rfl, rfl, hI⟩
theorem i_vc_side {k : Nat} {u : SX} {v : SY} (I : i_Rel k u v) (hk : k + 4 ≤ 2049) (v1 : Int32) (v2 : Int32) (v3 : Int32) : wpX_side (fun r => wpY_side (fun r' => r' = r ∧ i_Rel (k + 4) u v) v v1 v2 v3) u v1 v2 v3 := by
  refine xy_el (Pr := fun u v => wpX_side (fun r => wpY_side (fun r' => r' = r ∧ i_Rel (k + 4) u v) v v1 v2 v3) u v1 v2 v3) I ?_
  intro room n m f_isSolid f_facetCount f_cornerCount f_edgeCount f_volume g_solid a_px a_py a_pz a_alive a_origin a_twin a_sees a_stack a_rimFrom a_rimTo a_rimOuter a_fan a_facetOf a_leader a_planes a_joined a_nx a_ny a_nz a_off a_holds h1 h2 h3 hB hD Z Y
  have hI : i_Rel (k + 4) _ _ := xy_in (k := k + 4) (a_sees := a_sees) (a_stack := a_stack) (a_rimFrom := a_rimFrom) (a_rimTo := a_rimTo) (a_rimOuter := a_rimOuter) (a_fan := a_fan) (a_facetOf := a_facetOf) h1 h2 h3 hB hD Z Y
  unfold wpX_side
  dsimp only
  refine xw_within (fun w => br_f (by decide) ?_) (fun w => br_t rfl ?_)
  · have hb := xy_W200 w
    rcases xy_two (by omega) hD Z Y with ⟨e1, e2⟩ | ⟨e1, e2, n0, M, F, nf, ef, R⟩
    · subst e1 e2
      refine br_t rfl ?_
      unfold wpY_side
      dsimp only
      exact yw_refusePlace (fun w' => absurd w w') (fun _ _ => br_f (by decide) ⟨rfl, hI⟩) (fun _ c => absurd rfl c)
    · subst e1 e2 ef
      obtain ⟨hnf, G, _⟩ := R
      refine br_f (by decide) ⟨nf + 1, xw_side M hnf G hb (fun r sr => ?_) nf 0 (nf + 1) 2 (by omega) (by omega) (Or.inl ⟨rfl, fun h hh => absurd hh (Nat.not_lt_zero h)⟩)⟩
      unfold wpY_side
      dsimp only
      refine yw_refusePlace (fun w' => absurd w w') (fun _ c => absurd c (by decide)) (fun _ _ => br_t (by decide) ⟨m + 1, yw_side hB Y hb (fun r' sr' => ⟨?_, hI⟩) m 0 (m + 1) 2 (by omega) (by omega) (Or.inl ⟨rfl, fun h hh => absurd hh (Nat.not_lt_zero h)⟩)⟩)
      refine xy_sdu (fun f hf => ?_) (fun g hg => ?_) sr sr'
      · obtain ⟨g, hg, p⟩ := xy_1 M F G f hf
        exact ⟨g, hg, xy_sg M F G hf hg p _⟩
      · obtain ⟨f, hf, p⟩ := xy_2 M F G g hg
        exact ⟨f, hf, xy_sg M F G hf hg p _⟩
  · unfold wpY_side
    dsimp only
    exact yw_refusePlace (fun _ => br_f (by decide) ⟨rfl, hI⟩) (fun w' => absurd w' w) (fun w' => absurd w' w)
theorem i_vc_visible {k : Nat} {u : SX} {v : SY} (I : i_Rel k u v) (hk : k + 4 ≤ 2049) (v1 : Int32) (v2 : Int32) (v3 : Int32) : wpX_visible (fun r => wpY_visible (fun r' => r' = r ∧ i_Rel (k + 4) u v) v v1 v2 v3) u v1 v2 v3 := by
  refine xy_el (Pr := fun u v => wpX_visible (fun r => wpY_visible (fun r' => r' = r ∧ i_Rel (k + 4) u v) v v1 v2 v3) u v1 v2 v3) I ?_
  intro room n m f_isSolid f_facetCount f_cornerCount f_edgeCount f_volume g_solid a_px a_py a_pz a_alive a_origin a_twin a_sees a_stack a_rimFrom a_rimTo a_rimOuter a_fan a_facetOf a_leader a_planes a_joined a_nx a_ny a_nz a_off a_holds h1 h2 h3 hB hD Z Y
  have hI : i_Rel (k + 4) _ _ := xy_in (k := k + 4) (a_sees := a_sees) (a_stack := a_stack) (a_rimFrom := a_rimFrom) (a_rimTo := a_rimTo) (a_rimOuter := a_rimOuter) (a_fan := a_fan) (a_facetOf := a_facetOf) h1 h2 h3 hB hD Z Y
  unfold wpX_visible
  dsimp only
  refine xw_within (fun w => br_f (by decide) ?_) (fun w => br_t rfl ?_)
  · have hb := xy_W200 w
    rcases xy_two (by omega) hD Z Y with ⟨e1, e2⟩ | ⟨e1, e2, n0, M, F, nf, ef, R⟩
    · subst e1 e2
      refine br_t rfl ?_
      unfold wpY_visible
      dsimp only
      exact yw_refusePlace (fun w' => absurd w w') (fun _ _ => br_f (by decide) ⟨rfl, hI⟩) (fun _ c => absurd rfl c)
    · subst e1 e2 ef
      obtain ⟨hnf, G, _⟩ := R
      refine br_f (by decide) ⟨nf + 1, xw_visible M hnf G hb ?_ nf 0 (nf + 1) (by omega) (by omega)⟩
      unfold wpY_visible
      dsimp only
      refine yw_refusePlace (fun w' => absurd w w') (fun _ c => absurd c (by decide)) (fun _ _ => br_t (by decide) ⟨m + 1, yw_visible hB Y hb ⟨?_, hI⟩ m 0 (m + 1) (by omega) (by omega)⟩)
      congr 1
      have e := xy_cnt M F G (p := fun f => decide (0 < hm_t (xp_P a_px a_py a_pz) (xp_O a_origin) (xp_O a_leader f) (xp_Q v1 v2 v3)) = true) (q := fun g => decide (0 < hu_l (yl_L a_nx a_ny a_nz a_off g) (xp_Q v1 v2 v3)) = true)
        (fun f g hf hg p => by rw [decide_eq_true_eq, decide_eq_true_eq]; exact (xy_sg M F G hf hg p _).1)
      have c1 := xc_i (fun f => decide (0 < hm_t (xp_P a_px a_py a_pz) (xp_O a_origin) (xp_O a_leader f) (xp_Q v1 v2 v3))) nf
      have c2 := xc_i (fun g => decide (0 < hu_l (yl_L a_nx a_ny a_nz a_off g) (xp_Q v1 v2 v3))) m
      omega
  · unfold wpY_visible
    dsimp only
    exact yw_refusePlace (fun _ => br_f (by decide) ⟨rfl, hI⟩) (fun w' => absurd w' w) (fun w' => absurd w' w)
theorem i_vc_facets {k : Nat} {u : SX} {v : SY} (I : i_Rel k u v) (hk : k + 4 ≤ 2049) : wpX_facets (fun r => wpY_facets (fun r' => r' = r ∧ i_Rel (k + 4) u v) v) u := by
  refine xy_el (Pr := fun u v => wpX_facets (fun r => wpY_facets (fun r' => r' = r ∧ i_Rel (k + 4) u v) v) u) I ?_
  intro room n m f_isSolid f_facetCount f_cornerCount f_edgeCount f_volume g_solid a_px a_py a_pz a_alive a_origin a_twin a_sees a_stack a_rimFrom a_rimTo a_rimOuter a_fan a_facetOf a_leader a_planes a_joined a_nx a_ny a_nz a_off a_holds h1 h2 h3 hB hD Z Y
  have hI : i_Rel (k + 4) _ _ := xy_in (k := k + 4) (a_sees := a_sees) (a_stack := a_stack) (a_rimFrom := a_rimFrom) (a_rimTo := a_rimTo) (a_rimOuter := a_rimOuter) (a_fan := a_fan) (a_facetOf := a_facetOf) h1 h2 h3 hB hD Z Y
  unfold wpX_facets wpY_facets
  dsimp only
  rcases xy_two (by omega) hD Z Y with ⟨e1, e2⟩ | ⟨e1, e2, n0, M, F, nf, ef, R⟩
  · subst e1 e2
    exact br_t rfl (br_t rfl ⟨rfl, hI⟩)
  · subst e1 e2 ef
    exact br_f (by decide) (br_f (by decide) ⟨by rw [xy_nf M F R.2.1], hI⟩)
theorem i_vc_corners {k : Nat} {u : SX} {v : SY} (I : i_Rel k u v) (hk : k + 4 ≤ 2049) : wpX_corners (fun r => wpY_corners (fun r' => r' = r ∧ i_Rel (k + 4) u v) v) u := by
  refine xy_el (Pr := fun u v => wpX_corners (fun r => wpY_corners (fun r' => r' = r ∧ i_Rel (k + 4) u v) v) u) I ?_
  intro room n m f_isSolid f_facetCount f_cornerCount f_edgeCount f_volume g_solid a_px a_py a_pz a_alive a_origin a_twin a_sees a_stack a_rimFrom a_rimTo a_rimOuter a_fan a_facetOf a_leader a_planes a_joined a_nx a_ny a_nz a_off a_holds h1 h2 h3 hB hD Z Y
  have hI : i_Rel (k + 4) _ _ := xy_in (k := k + 4) (a_sees := a_sees) (a_stack := a_stack) (a_rimFrom := a_rimFrom) (a_rimTo := a_rimTo) (a_rimOuter := a_rimOuter) (a_fan := a_fan) (a_facetOf := a_facetOf) h1 h2 h3 hB hD Z Y
  unfold wpX_corners wpY_corners
  dsimp only
  rcases xy_two (by omega) hD Z Y with ⟨e1, e2⟩ | ⟨e1, e2, n0, M, F, nf, ef, R⟩
  · subst e1 e2
    exact br_t rfl (br_t rfl ⟨rfl, hI⟩)
  · subst e1 e2 ef
    refine br_f (by decide) (br_f (by decide) ⟨n + 1, yw_corners (by omega) Y.2 ⟨?_, hI⟩ n 0 (n + 1) (by omega) (by omega)⟩)
    rw [R.2.2.2.2.1]
    congr 1
    exact xc_cg fun p hp => (xy_c (by omega) M F Y R hp).symm
theorem i_vc_edges {k : Nat} {u : SX} {v : SY} (I : i_Rel k u v) (hk : k + 4 ≤ 2049) : wpX_edges (fun r => wpY_edges (fun r' => r' = r ∧ i_Rel (k + 4) u v) v) u := by
  refine xy_el (Pr := fun u v => wpX_edges (fun r => wpY_edges (fun r' => r' = r ∧ i_Rel (k + 4) u v) v) u) I ?_
  intro room n m f_isSolid f_facetCount f_cornerCount f_edgeCount f_volume g_solid a_px a_py a_pz a_alive a_origin a_twin a_sees a_stack a_rimFrom a_rimTo a_rimOuter a_fan a_facetOf a_leader a_planes a_joined a_nx a_ny a_nz a_off a_holds h1 h2 h3 hB hD Z Y
  have hI : i_Rel (k + 4) _ _ := xy_in (k := k + 4) (a_sees := a_sees) (a_stack := a_stack) (a_rimFrom := a_rimFrom) (a_rimTo := a_rimTo) (a_rimOuter := a_rimOuter) (a_fan := a_fan) (a_facetOf := a_facetOf) h1 h2 h3 hB hD Z Y
  unfold wpX_edges wpY_edges
  dsimp only
  rcases xy_two (by omega) hD Z Y with ⟨e1, e2⟩ | ⟨e1, e2, n0, M, F, nf, ef, R⟩
  · subst e1 e2
    exact br_t rfl (br_t rfl ⟨rfl, hI⟩)
  · subst e1 e2 ef
    refine br_f (by decide) (br_f (by decide) ⟨n + 1, yw_edges (by omega) Y.2 ⟨?_, hI⟩ n 0 (n + 1) (by omega) (by omega)⟩)
    rw [R.2.2.2.2.2.1]
    congr 1
    have e1 : xq_s (fun a => xc_n (xq_e a_planes a) n) n = xq_s (fun a => xc_n (yc_e a_holds m a) n) n := xq_scg fun a ha => xc_cg fun b hb => xy_e (by omega) M F Y R ha hb
    have e2 := xq_half (e := yc_e a_holds m) (u := yc_u a_holds m) (yc_sy a_holds m) (yc_ir a_holds m) (fun _ _ => rfl) n
    rw [e1, e2]
    omega
theorem i_vc_corner {k : Nat} {u : SX} {v : SY} (I : i_Rel k u v) (hk : k + 4 ≤ 2049) (v1 : Int32) : wpX_corner (fun r => wpY_corner (fun r' => r' = r ∧ i_Rel (k + 4) u v) v v1) u v1 := by
  refine xy_el (Pr := fun u v => wpX_corner (fun r => wpY_corner (fun r' => r' = r ∧ i_Rel (k + 4) u v) v v1) u v1) I ?_
  intro room n m f_isSolid f_facetCount f_cornerCount f_edgeCount f_volume g_solid a_px a_py a_pz a_alive a_origin a_twin a_sees a_stack a_rimFrom a_rimTo a_rimOuter a_fan a_facetOf a_leader a_planes a_joined a_nx a_ny a_nz a_off a_holds h1 h2 h3 hB hD Z Y
  have hI : i_Rel (k + 4) _ _ := xy_in (k := k + 4) (a_sees := a_sees) (a_stack := a_stack) (a_rimFrom := a_rimFrom) (a_rimTo := a_rimTo) (a_rimOuter := a_rimOuter) (a_fan := a_fan) (a_facetOf := a_facetOf) h1 h2 h3 hB hD Z Y
  unfold wpX_corner wpY_corner
  dsimp only
  refine br_c (fun z => ?_) (fun z => br_c (fun z2 => ?_) (fun z2 => ?_))
  · exact yw_refusePoints (show n ≤ 14 by omega) (fun _ => br_f (by decide) ⟨rfl, hI⟩) (fun c => absurd z c.1.1) (fun c => absurd z c.1.1)
  · obtain ⟨j, hj, rfl⟩ := nI_of z
    have hj' : j < n := (nI_ltI (by omega) (by omega)).mp z2
    rcases xy_two (by omega) hD Z Y with ⟨e1, e2⟩ | ⟨e1, e2, n0, M, F, nf, ef, R⟩
    · subst e1 e2
      exact br_t rfl (yw_refusePoints (show n ≤ 14 by omega) (fun c => absurd ⟨⟨z, z2⟩, ⟨z, z2⟩⟩ c) (fun _ _ => br_f (by decide) ⟨rfl, hI⟩) (fun _ c => absurd rfl c))
    · subst e1 e2 ef
      have ec := xy_c (by omega) M F Y R hj'
      unfold xq_c at ec
      refine br_f (by decide) (xw_isCorner (show j < 14 by omega) (fun c => br_f (by decide) ?_) (fun c => br_t rfl ?_))
      · rw [decide_eq_true c] at ec
        exact yw_refusePoints (show n ≤ 14 by omega) (fun c => absurd ⟨⟨z, z2⟩, ⟨z, z2⟩⟩ c) (fun _ c => absurd c (by decide)) (fun _ _ => br_t (by decide) (yw_isCorner Y.2 (show j < 14 by omega) (fun _ => br_f (by decide) ⟨rfl, hI⟩) (fun d => absurd (ec.trans d) (by decide))))
      · rw [decide_eq_false c] at ec
        exact yw_refusePoints (show n ≤ 14 by omega) (fun c => absurd ⟨⟨z, z2⟩, ⟨z, z2⟩⟩ c) (fun _ c => absurd c (by decide)) (fun _ _ => br_t (by decide) (yw_isCorner Y.2 (show j < 14 by omega) (fun d => absurd (ec.trans d) (by decide)) (fun _ => br_t rfl ⟨rfl, hI⟩)))
  · exact yw_refusePoints (show n ≤ 14 by omega) (fun _ => br_f (by decide) ⟨rfl, hI⟩) (fun c => absurd c.1.2 z2) (fun c => absurd c.1.2 z2)
theorem i_vc_touching {k : Nat} {u : SX} {v : SY} (I : i_Rel k u v) (hk : k + 4 ≤ 2049) (v1 : Int32) : wpX_touching (fun r => wpY_touching (fun r' => r' = r ∧ i_Rel (k + 4) u v) v v1) u v1 := by
  refine xy_el (Pr := fun u v => wpX_touching (fun r => wpY_touching (fun r' => r' = r ∧ i_Rel (k + 4) u v) v v1) u v1) I ?_
  intro room n m f_isSolid f_facetCount f_cornerCount f_edgeCount f_volume g_solid a_px a_py a_pz a_alive a_origin a_twin a_sees a_stack a_rimFrom a_rimTo a_rimOuter a_fan a_facetOf a_leader a_planes a_joined a_nx a_ny a_nz a_off a_holds h1 h2 h3 hB hD Z Y
  have hI : i_Rel (k + 4) _ _ := xy_in (k := k + 4) (a_sees := a_sees) (a_stack := a_stack) (a_rimFrom := a_rimFrom) (a_rimTo := a_rimTo) (a_rimOuter := a_rimOuter) (a_fan := a_fan) (a_facetOf := a_facetOf) h1 h2 h3 hB hD Z Y
  unfold wpX_touching wpY_touching
  dsimp only
  unfold wpY_shared
  dsimp only
  refine br_c (fun z => ?_) (fun z => br_c (fun z2 => ?_) (fun z2 => ?_))
  · exact yw_refusePoints (show n ≤ 14 by omega) (fun _ => br_f (by decide) ⟨rfl, hI⟩) (fun c => absurd z c.1.1) (fun c => absurd z c.1.1)
  · obtain ⟨j, hj, rfl⟩ := nI_of z
    have hj' : j < n := (nI_ltI (by omega) (by omega)).mp z2
    rcases xy_two (by omega) hD Z Y with ⟨e1, e2⟩ | ⟨e1, e2, n0, M, F, nf, ef, R⟩
    · subst e1 e2
      exact br_t rfl (yw_refusePoints (show n ≤ 14 by omega) (fun c => absurd ⟨⟨z, z2⟩, ⟨z, z2⟩⟩ c) (fun _ _ => br_f (by decide) ⟨rfl, hI⟩) (fun _ c => absurd rfl c))
    · subst e1 e2 ef
      rw [nI_clamp (show j < 2 ^ 31 by omega)]
      refine br_f (by decide) ⟨vp_in_nI (show j < 14 by omega) (by decide), xw_size ?_⟩
      exact yw_refusePoints (show n ≤ 14 by omega) (fun c => absurd ⟨⟨z, z2⟩, ⟨z, z2⟩⟩ c) (fun _ c => absurd c (by decide)) (fun _ _ => br_t (by decide) (yw_tog Y.2 (show j < 14 by omega) (show j < 14 by omega) ⟨by rw [xy_t1 (by omega) M F Y R hj'], hI⟩))
  · exact yw_refusePoints (show n ≤ 14 by omega) (fun _ => br_f (by decide) ⟨rfl, hI⟩) (fun c => absurd c.1.2 z2) (fun c => absurd c.1.2 z2)
theorem i_vc_edge {k : Nat} {u : SX} {v : SY} (I : i_Rel k u v) (hk : k + 4 ≤ 2049) (v1 : Int32) (v2 : Int32) : wpX_edge (fun r => wpY_edge (fun r' => r' = r ∧ i_Rel (k + 4) u v) v v1 v2) u v1 v2 := by
  refine xy_el (Pr := fun u v => wpX_edge (fun r => wpY_edge (fun r' => r' = r ∧ i_Rel (k + 4) u v) v v1 v2) u v1 v2) I ?_
  intro room n m f_isSolid f_facetCount f_cornerCount f_edgeCount f_volume g_solid a_px a_py a_pz a_alive a_origin a_twin a_sees a_stack a_rimFrom a_rimTo a_rimOuter a_fan a_facetOf a_leader a_planes a_joined a_nx a_ny a_nz a_off a_holds h1 h2 h3 hB hD Z Y
  have hI : i_Rel (k + 4) _ _ := xy_in (k := k + 4) (a_sees := a_sees) (a_stack := a_stack) (a_rimFrom := a_rimFrom) (a_rimTo := a_rimTo) (a_rimOuter := a_rimOuter) (a_fan := a_fan) (a_facetOf := a_facetOf) h1 h2 h3 hB hD Z Y
  unfold wpX_edge wpY_edge
  dsimp only
  refine br_c (fun z => ?_) (fun z => br_c (fun z2 => ?_) (fun z2 => br_c (fun z3 => ?_) (fun z3 => br_c (fun z4 => ?_) (fun z4 => ?_))))
  · exact yw_refusePoints (show n ≤ 14 by omega) (fun _ => br_f (by decide) ⟨rfl, hI⟩) (fun c => absurd z c.1.1) (fun c => absurd z c.1.1)
  · exact yw_refusePoints (show n ≤ 14 by omega) (fun _ => br_f (by decide) ⟨rfl, hI⟩) (fun c => absurd c.1.2 (Int32.not_lt.mpr z2)) (fun c => absurd c.1.2 (Int32.not_lt.mpr z2))
  · exact yw_refusePoints (show n ≤ 14 by omega) (fun _ => br_f (by decide) ⟨rfl, hI⟩) (fun c => absurd z3 c.2.1) (fun c => absurd z3 c.2.1)
  · have z2' := Int32.not_le.mp z2
    obtain ⟨j, hj, rfl⟩ := nI_of z
    obtain ⟨i, hi, rfl⟩ := nI_of z3
    have hj' : j < n := (nI_ltI (by omega) (by omega)).mp z2'
    have hi' : i < n := (nI_ltI (by omega) (by omega)).mp z4
    rcases xy_two (by omega) hD Z Y with ⟨e1, e2⟩ | ⟨e1, e2, n0, M, F, nf, ef, R⟩
    · subst e1 e2
      exact br_t rfl (yw_refusePoints (show n ≤ 14 by omega) (fun c => absurd ⟨⟨z, z2'⟩, ⟨z3, z4⟩⟩ c) (fun _ _ => br_f (by decide) ⟨rfl, hI⟩) (fun _ c => absurd rfl c))
    · subst e1 e2 ef
      rw [nI_clamp (show j < 2 ^ 31 by omega), xc_bit _ (by omega)]
      have ee := xy_e (by omega) M F Y R hj' hi'
      have jj := R.2.2.2.1 j hj' i (by omega)
      rw [ee] at jj
      refine br_f (by decide) ⟨vp_in_nI (show j < 14 by omega) (by decide), ?_⟩
      refine yw_refusePoints (show n ≤ 14 by omega) (fun c => absurd ⟨⟨z, z2'⟩, ⟨z3, z4⟩⟩ c) (fun _ c => absurd c (by decide)) (fun _ _ => br_t (by decide) (yw_isEdge Y.2 (show j < 14 by omega) (show i < 14 by omega) (fun d => br_f (by decide) ⟨?_, hI⟩) (fun d => br_t rfl ⟨?_, hI⟩)))
      · rw [jj.mpr ⟨hi', d⟩]; rfl
      · rw [if_neg (fun x => by rw [(jj.mp x).2] at d; exact absurd d (by decide))]; rfl
  · exact yw_refusePoints (show n ≤ 14 by omega) (fun _ => br_f (by decide) ⟨rfl, hI⟩) (fun c => absurd c.2.2 z4) (fun c => absurd c.2.2 z4)
theorem i_vc_shared {k : Nat} {u : SX} {v : SY} (I : i_Rel k u v) (hk : k + 4 ≤ 2049) (v1 : Int32) (v2 : Int32) : wpX_shared (fun r => wpY_shared (fun r' => r' = r ∧ i_Rel (k + 4) u v) v v1 v2) u v1 v2 := by
  refine xy_el (Pr := fun u v => wpX_shared (fun r => wpY_shared (fun r' => r' = r ∧ i_Rel (k + 4) u v) v v1 v2) u v1 v2) I ?_
  intro room n m f_isSolid f_facetCount f_cornerCount f_edgeCount f_volume g_solid a_px a_py a_pz a_alive a_origin a_twin a_sees a_stack a_rimFrom a_rimTo a_rimOuter a_fan a_facetOf a_leader a_planes a_joined a_nx a_ny a_nz a_off a_holds h1 h2 h3 hB hD Z Y
  have hI : i_Rel (k + 4) _ _ := xy_in (k := k + 4) (a_sees := a_sees) (a_stack := a_stack) (a_rimFrom := a_rimFrom) (a_rimTo := a_rimTo) (a_rimOuter := a_rimOuter) (a_fan := a_fan) (a_facetOf := a_facetOf) h1 h2 h3 hB hD Z Y
  unfold wpX_shared wpY_shared
  dsimp only
  refine br_c (fun z => ?_) (fun z => br_c (fun z2 => ?_) (fun z2 => br_c (fun z3 => ?_) (fun z3 => br_c (fun z4 => ?_) (fun z4 => ?_))))
  · exact yw_refusePoints (show n ≤ 14 by omega) (fun _ => br_f (by decide) ⟨rfl, hI⟩) (fun c => absurd z c.1.1) (fun c => absurd z c.1.1)
  · exact yw_refusePoints (show n ≤ 14 by omega) (fun _ => br_f (by decide) ⟨rfl, hI⟩) (fun c => absurd c.1.2 (Int32.not_lt.mpr z2)) (fun c => absurd c.1.2 (Int32.not_lt.mpr z2))
  · exact yw_refusePoints (show n ≤ 14 by omega) (fun _ => br_f (by decide) ⟨rfl, hI⟩) (fun c => absurd z3 c.2.1) (fun c => absurd z3 c.2.1)
  · have z2' := Int32.not_le.mp z2
    obtain ⟨j, hj, rfl⟩ := nI_of z
    obtain ⟨i, hi, rfl⟩ := nI_of z3
    have hj' : j < n := (nI_ltI (by omega) (by omega)).mp z2'
    have hi' : i < n := (nI_ltI (by omega) (by omega)).mp z4
    rcases xy_two (by omega) hD Z Y with ⟨e1, e2⟩ | ⟨e1, e2, n0, M, F, nf, ef, R⟩
    · subst e1 e2
      exact br_t rfl (yw_refusePoints (show n ≤ 14 by omega) (fun c => absurd ⟨⟨z, z2'⟩, ⟨z3, z4⟩⟩ c) (fun _ _ => br_f (by decide) ⟨rfl, hI⟩) (fun _ c => absurd rfl c))
    · subst e1 e2 ef
      rw [nI_clamp (show j < 2 ^ 31 by omega), nI_clamp (show i < 2 ^ 31 by omega)]
      refine br_f (by decide) ⟨vp_in_nI (show j < 14 by omega) (by decide), vp_in_nI (show i < 14 by omega) (by decide), xw_size ?_⟩
      exact yw_refusePoints (show n ≤ 14 by omega) (fun c => absurd ⟨⟨z, z2'⟩, ⟨z3, z4⟩⟩ c) (fun _ c => absurd c (by decide)) (fun _ _ => br_t (by decide) (yw_tog Y.2 (show j < 14 by omega) (show i < 14 by omega) ⟨by rw [xy_t (by omega) M F Y R hj' hi'], hI⟩))
  · exact yw_refusePoints (show n ≤ 14 by omega) (fun _ => br_f (by decide) ⟨rfl, hI⟩) (fun c => absurd c.2.2 z4) (fun c => absurd c.2.2 z4)
theorem i_vc_sixVolume {k : Nat} {u : SX} {v : SY} (I : i_Rel k u v) (hk : k + 4 ≤ 2049) : wpX_sixVolume (fun r => wpY_sixVolume (fun r' => r' = r ∧ i_Rel (k + 4) u v) v) u := by
  refine xy_el (Pr := fun u v => wpX_sixVolume (fun r => wpY_sixVolume (fun r' => r' = r ∧ i_Rel (k + 4) u v) v) u) I ?_
  intro room n m f_isSolid f_facetCount f_cornerCount f_edgeCount f_volume g_solid a_px a_py a_pz a_alive a_origin a_twin a_sees a_stack a_rimFrom a_rimTo a_rimOuter a_fan a_facetOf a_leader a_planes a_joined a_nx a_ny a_nz a_off a_holds h1 h2 h3 hB hD Z Y
  have hI : i_Rel (k + 4) _ _ := xy_in (k := k + 4) (a_sees := a_sees) (a_stack := a_stack) (a_rimFrom := a_rimFrom) (a_rimTo := a_rimTo) (a_rimOuter := a_rimOuter) (a_fan := a_fan) (a_facetOf := a_facetOf) h1 h2 h3 hB hD Z Y
  unfold wpX_sixVolume wpY_sixVolume
  dsimp only
  rcases xy_two (by omega) hD Z Y with ⟨e1, e2⟩ | ⟨e1, e2, n0, M, F, nf, ef, R⟩
  · subst e1 e2
    exact br_t rfl (br_t rfl ⟨rfl, hI⟩)
  · subst e1 e2 ef
    have bits : ∀ g, g < m → ∀ c, c < n → (bt (a_holds g) c = true ↔ hu_l (yl_L a_nx a_ny a_nz a_off g) (xp_P a_px a_py a_pz c) = 0) := by
      intro g hg c hc
      obtain ⟨_, _, _, _, _, _, _, _, _, _, _, h8⟩ := Y.1.1 g hg
      rw [h8 c (by omega)]
      exact ⟨fun x => x.2, fun x => ⟨hc, x⟩⟩
    refine br_f (by decide) (br_f (by decide) ⟨m + 1, yw_six hB (by omega) Y.2 ?_ (v := fun g => hs_s (fun t => hs_i (hv_G (xp_P a_px a_py a_pz) (yl_L a_nx a_ny a_nz a_off) (xp_O a_origin) (fun t => ¬ a_alive t = 0) g t) * - hm_t (xp_P a_px a_py a_pz) (xp_O a_origin) t (xp_P a_px a_py a_pz 0)) 26) ?_ ⟨?_, hI⟩ m 0 (m + 1) (by omega) (by omega)⟩)
    · intro g hg
      obtain ⟨c, hc, gc, kc⟩ := hf_cg F hg
      exact ⟨c, hc, (bits g hg c hc).mpr gc, (yk_c (by omega) Y hc).mpr kc⟩
    · intro g hg c hc bc
      exact yv_v (by omega) n0 M F Y hg hc ((bits g hg c hc).mp bc)
    · rw [R.2.2.2.2.2.2]
      congr 1
      have e1 : hs_s (fun t => hs_i (¬ a_alive t = 0) * - hm_t (xp_P a_px a_py a_pz) (xp_O a_origin) t (xp_P a_px a_py a_pz 0)) 26
          = hs_s (fun t => hs_s (fun g => hs_i (hv_G (xp_P a_px a_py a_pz) (yl_L a_nx a_ny a_nz a_off) (xp_O a_origin) (fun t => ¬ a_alive t = 0) g t) * - hm_t (xp_P a_px a_py a_pz) (xp_O a_origin) t (xp_P a_px a_py a_pz 0)) m) 26 := by
        refine hs_cg fun t ht => ?_
        rcases Classical.em (¬ a_alive t = 0) with a | a
        · obtain ⟨g, hg, G, _⟩ := hv_ex M.1 F ht a
          rw [hs_one (k := g) hg (fun g' hg' ne => by rw [hs_if (fun G' => ne (hv_un M.1 F hg' hg G' G))]; omega), hs_it a, hs_it G]
        · rw [hs_if a, hs_0 (fun g _ => by rw [hs_if (fun G => a G.2.1)]; omega)]; omega
      rw [e1, hs_swap]
theorem i_vc_farthest {k : Nat} {u : SX} {v : SY} (I : i_Rel k u v) (hk : k + 4 ≤ 2049) (v1 : Int32) (v2 : Int32) (v3 : Int32) : wpX_farthest (fun r => wpY_farthest (fun r' => r' = r ∧ i_Rel (k + 4) u v) v v1 v2 v3) u v1 v2 v3 := by
  refine xy_el (Pr := fun u v => wpX_farthest (fun r => wpY_farthest (fun r' => r' = r ∧ i_Rel (k + 4) u v) v v1 v2 v3) u v1 v2 v3) I ?_
  intro room n m f_isSolid f_facetCount f_cornerCount f_edgeCount f_volume g_solid a_px a_py a_pz a_alive a_origin a_twin a_sees a_stack a_rimFrom a_rimTo a_rimOuter a_fan a_facetOf a_leader a_planes a_joined a_nx a_ny a_nz a_off a_holds h1 h2 h3 hB hD Z Y
  have hI : i_Rel (k + 4) _ _ := xy_in (k := k + 4) (a_sees := a_sees) (a_stack := a_stack) (a_rimFrom := a_rimFrom) (a_rimTo := a_rimTo) (a_rimOuter := a_rimOuter) (a_fan := a_fan) (a_facetOf := a_facetOf) h1 h2 h3 hB hD Z Y
  unfold wpX_farthest
  dsimp only
  refine xw_within (fun w => br_f (by decide) ?_) (fun w => br_t rfl ?_)
  · have hb := xy_W200 w
    rcases xy_two (by omega) hD Z Y with ⟨e1, e2⟩ | ⟨e1, e2, n0, M, F, nf, ef, R⟩
    · subst e1 e2
      refine br_t rfl ?_
      unfold wpY_farthest
      dsimp only
      exact yw_refusePlace (fun w' => absurd w w') (fun _ _ => br_f (by decide) ⟨rfl, hI⟩) (fun _ c => absurd rfl c)
    · subst e1 e2 ef
      have hn : n ≤ 14 := by omega
      refine br_f (by decide) (xw_far (W := fun p => hu_l (0, v1.toInt, v2.toInt, v3.toInt) (xp_P a_px a_py a_pz p)) (Kc := hf_K (xp_P a_px a_py a_pz) m (yl_L a_nx a_ny a_nz a_off))
        (Ed := fun a b => a < n ∧ b < n ∧ yc_e a_holds m a b = true) hn (fun p => xy_dot hB hb p) ?_ ?_ ?_ ?_ (hf_cx F) ?_ ?_ (fun b fb => ?_))
      · intro p hp
        have e := xy_c hn M F Y R hp
        have e2 := yk_c hn Y hp
        rw [← e] at e2
        unfold xq_c at e2
        rw [decide_eq_true_eq] at e2
        exact e2
      · intro a ha b hb'
        rw [R.2.2.2.1 a ha b hb']
        constructor
        · rintro ⟨x1, x2⟩
          rw [xy_e hn M F Y R ha x1] at x2
          exact ⟨x1, ha, x1, x2⟩
        · rintro ⟨x1, _, _, x2⟩
          rw [xy_e hn M F Y R ha x1]
          exact ⟨x1, x2⟩
      · rintro a b ⟨ha, hb', e⟩
        exact ((yk_e hn Y ha hb').mp e).2.2.1
      · rintro a b _ _ ⟨ha, hb', e⟩
        exact ⟨hb', ha, by rw [yc_sy]; exact e⟩
      · intro a ha ka x hx lt
        obtain ⟨w', hw, wa, kw, ew, lw⟩ := hf_c1 F ha ka (d := (0, v1.toInt, v2.toInt, v3.toInt)) hx lt
        exact ⟨w', hw, ⟨ha, hw, (yk_e hn Y ha hw).mpr ⟨fun e => wa e.symm, ka, kw, ew⟩⟩, lw⟩
      · intro Rr Mx top hRr cl exR z hz kz dz
        exact hf_pt F (d := (0, v1.toInt, v2.toInt, v3.toInt)) (R := Rr) (M := Mx) top hRr (fun x y rx hy ky exy nxy dy => cl x y rx hy ⟨(hRr x rx).1, hy, (yk_e hn Y (hRr x rx).1 hy).mpr ⟨nxy, (hRr x rx).2.1, ky, exy⟩⟩ dy) exR hz kz dz
      · unfold wpY_farthest
        dsimp only
        refine yw_refusePlace (fun w' => absurd w w') (fun _ c => absurd c (by decide)) (fun _ _ => br_t (by decide) ⟨n + 1, yw_far hB hn Y.2 hb (Kc := hf_K (xp_P a_px a_py a_pz) m (yl_L a_nx a_ny a_nz a_off)) (fun p hp => yk_c hn Y hp) (hf_cx F) (fun c fc => ⟨?_, hI⟩) n 0 (n + 1) (-1) 0 (by omega) (by omega) (Or.inl ⟨rfl, fun q hq => absurd hq (Nat.not_lt_zero q)⟩)⟩)
        rw [xy_faru fb fc]
  · unfold wpY_farthest
    dsimp only
    exact yw_refusePlace (fun _ => br_f (by decide) ⟨rfl, hI⟩) (fun w' => absurd w' w) (fun w' => absurd w' w)
end
