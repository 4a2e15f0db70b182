section
theorem pk_us {f : Nat → Int32} {k : Nat} {x : Int32} : upd f k x k = x := if_pos rfl
theorem pk_un {f : Nat → Int32} {k j : Nat} {x : Int32} (h : j ≠ k) : upd f k x j = f j := if_neg h
theorem pk_uLs {f : Nat → Int64} {k : Nat} {x : Int64} : vp_updL f k x k = x := if_pos rfl
theorem pk_uLn {f : Nat → Int64} {k j : Nat} {x : Int64} (h : j ≠ k) : vp_updL f k x j = f j := if_neg h
theorem pk_sub {a b : Nat} (h : b ≤ a) : nI a - nI b = nI (a - b) := by
  obtain ⟨c, rfl⟩ : ∃ c, a = c + b := ⟨a - b, by omega⟩
  rw [← nI_add, Int32.add_sub_cancel, Nat.add_sub_cancel]
theorem pk_m1 (n : Nat) : nI (n + 1) + (-1) = nI n := by
  rw [← nI_1, Int32.add_assoc, show (1 : Int32) + (-1) = 0 from rfl, Int32.add_zero]
theorem pk_mul (a b : Nat) : nI a * nI b = nI (a * b) := (Int32.ofNat_mul a b).symm
theorem pk_ix (x : Int32) {n : Nat} (hn : n < 2 ^ 31) : x < 0 ∨ nI n ≤ x ∨ ∃ j : Nat, j < n ∧ x = nI j := by
  by_cases h : x < 0
  · exact Or.inl h
  · obtain ⟨j, hj, rfl⟩ := nI_of h
    by_cases h2 : j < n
    · exact Or.inr (Or.inr ⟨j, h2, rfl⟩)
    · exact Or.inr (Or.inl (nI_le (by omega) hj))
theorem pk_le {x y : Int32} {A B : Prop} (a b : Nat) (f : a ≤ b → A) (g : b < a → B) (hx : x = nI a := by rfl) (hy : y = nI b := by rfl) (ha : a < 2 ^ 31 := by omega) (hb : b < 2 ^ 31 := by omega) : (x ≤ y → A) ∧ (¬ x ≤ y → B) := by
  subst hx hy
  rw [nI_leI ha hb]
  exact ⟨f, fun z => g (by omega)⟩
theorem pk_lt {x y : Int32} {A B : Prop} (a b : Nat) (f : a < b → A) (g : b ≤ a → B) (hx : x = nI a := by rfl) (hy : y = nI b := by rfl) (ha : a < 2 ^ 31 := by omega) (hb : b < 2 ^ 31 := by omega) : (x < y → A) ∧ (¬ x < y → B) := by
  subst hx hy
  rw [nI_ltI ha hb]
  exact ⟨f, fun z => g (by omega)⟩
theorem pk_eq {x y : Int32} {A B : Prop} (a b : Nat) (f : a = b → A) (g : a ≠ b → B) (hx : x = nI a := by rfl) (hy : y = nI b := by rfl) (ha : a < 2 ^ 31 := by omega) (hb : b < 2 ^ 31 := by omega) : (x = y → A) ∧ (¬ x = y → B) := by
  subst hx hy
  rw [nI_eq ha hb]
  exact ⟨f, g⟩
theorem pk_in {x : Int32} (n N : Nat) (h : n < N) (hx : x = nI n := by rfl) (hN : N < 2 ^ 31 := by omega) : vp_in x N := by
  subst hx
  exact vp_in_nI h hN
theorem pk_cl {x : Int32} (n : Nat) (hx : x = nI n := by rfl) (h : n < 2 ^ 31 := by omega) : x.toNatClampNeg = n := by
  subst hx
  exact nI_clamp h
theorem pk_vb (z : Int32) : vp_nar .byte z.toInt8.toInt32 = z.toInt8.toInt32 := by rw [vp_nar_byte]; simp
theorem pk_lT {n : Nat} (h : n < 2 ^ 63) : (lN n).toInt = (n : Int) := lg_ofNat_toInt h
theorem pk_lLT {a b : Nat} (ha : a < 2 ^ 63) (hb : b < 2 ^ 63) : lN a < lN b ↔ a < b := by
  rw [Int64.lt_iff_toInt_lt, pk_lT ha, pk_lT hb]; omega
theorem pk_lLE {a b : Nat} (ha : a < 2 ^ 63) (hb : b < 2 ^ 63) : lN a ≤ lN b ↔ a ≤ b := by
  rw [Int64.le_iff_toInt_le, pk_lT ha, pk_lT hb]; omega
theorem pk_lEQ {a b : Nat} (ha : a < 2 ^ 63) (hb : b < 2 ^ 63) : lN a = lN b ↔ a = b := by
  rw [← Int64.toInt_inj, pk_lT ha, pk_lT hb]; omega
theorem pk_lOf {x : Int64} (h : ¬ x < 0) : ∃ k : Nat, k < 2 ^ 63 ∧ x = lN k := by
  rw [Int64.lt_iff_toInt_lt] at h
  have h0 : (0 : Int64).toInt = 0 := by decide
  have hx := Int64.toInt_lt x
  refine ⟨x.toInt.toNat, by omega, Int64.toInt_inj.mp ?_⟩
  rw [pk_lT (by omega)]
  omega
theorem pk_lDiv {a b : Nat} (ha : a < 2 ^ 63) (h0 : 0 < b) (hb : b < 2 ^ 63) : lN a / lN b = lN (a / b) := by
  apply Int64.toInt_inj.mp
  rw [lg_ldiv_nonneg (by rw [pk_lT ha]; omega) (by rw [pk_lT hb]; omega), pk_lT ha, pk_lT hb, pk_lT (Nat.lt_of_le_of_lt (Nat.div_le_self a b) ha)]
  rfl
theorem pk_lRem {a b : Nat} (ha : a < 2 ^ 63) (h0 : 0 < b) (hb : b < 2 ^ 63) : lN a - lN a / lN b * lN b = lN (a % b) := by
  rw [pk_lDiv ha h0 hb, lN_mul, lN_sub (Nat.div_mul_le_self a b)]
  exact congrArg lN (by have := Nat.div_add_mod' a b; omega)
end
section
/-- finite sums -/
def ml_sm (f : Nat → Int) : Nat → Int
  | 0 => 0
  | n + 1 => ml_sm f n + f n
theorem ml_sm_s (f : Nat → Int) (n : Nat) : ml_sm f (n + 1) = ml_sm f n + f n := rfl
theorem ml_sm_congr {f g : Nat → Int} {n : Nat} (h : ∀ i, i < n → f i = g i) : ml_sm f n = ml_sm g n := by
  induction n with
  | zero => rfl
  | succ n ih =>
    rw [ml_sm_s, ml_sm_s, ih (fun i hi => h i (by omega)), h n (by omega)]
theorem ml_sm_add (f g : Nat → Int) (n : Nat) : ml_sm (fun i => f i + g i) n = ml_sm f n + ml_sm g n := by
  induction n with
  | zero => rfl
  | succ n ih => rw [ml_sm_s, ml_sm_s, ml_sm_s, ih]; omega
theorem ml_sm_sub (f g : Nat → Int) (n : Nat) : ml_sm (fun i => f i - g i) n = ml_sm f n - ml_sm g n := by
  induction n with
  | zero => rfl
  | succ n ih => rw [ml_sm_s, ml_sm_s, ml_sm_s, ih]; omega
theorem ml_sm_mul (a : Int) (f : Nat → Int) (n : Nat) : ml_sm (fun i => a * f i) n = a * ml_sm f n := by
  induction n with
  | zero => exact (Int.mul_zero a).symm
  | succ n ih => rw [ml_sm_s, ml_sm_s, ih, Int.mul_add]
theorem ml_sm_zero (n : Nat) : ml_sm (fun _ => 0) n = 0 := by
  induction n with
  | zero => rfl
  | succ n ih => rw [ml_sm_s, ih]; rfl
theorem ml_sm_z {f : Nat → Int} {n : Nat} (h : ∀ i, i < n → f i = 0) : ml_sm f n = 0 := (ml_sm_congr h).trans (ml_sm_zero n)
theorem ml_sm_nonneg {f : Nat → Int} {n : Nat} (h : ∀ i, i < n → 0 ≤ f i) : 0 ≤ ml_sm f n := by
  induction n with
  | zero => exact Int.le_refl 0
  | succ n ih =>
    have h1 := ih (fun i hi => h i (by omega))
    have h2 := h n (by omega)
    rw [ml_sm_s]; omega
theorem ml_sm_le {f g : Nat → Int} {n : Nat} (h : ∀ i, i < n → f i ≤ g i) : ml_sm f n ≤ ml_sm g n := by
  induction n with
  | zero => exact Int.le_refl 0
  | succ n ih =>
    have h1 := ih (fun i hi => h i (by omega))
    have h2 := h n (by omega)
    rw [ml_sm_s, ml_sm_s]; omega
theorem ml_sm_pos {f : Nat → Int} {n : Nat} (h : 0 < ml_sm f n) : ∃ i, i < n ∧ 0 < f i := by
  induction n with
  | zero => exact absurd h (Int.lt_irrefl 0)
  | succ n ih =>
    rw [ml_sm_s] at h
    by_cases h2 : 0 < f n
    · exact ⟨n, by omega, h2⟩
    · obtain ⟨i, hi, h3⟩ := ih (by omega)
      exact ⟨i, by omega, h3⟩
theorem ml_sm_one {f : Nat → Int} {k n : Nat} (hk : k < n) (h : ∀ i, i < n → i ≠ k → f i = 0) : ml_sm f n = f k := by
  induction n with
  | zero => omega
  | succ n ih =>
    rw [ml_sm_s]
    by_cases e : k = n
    · subst e
      rw [ml_sm_z (fun i hi => h i (by omega) (by omega))]; omega
    · rw [ih (by omega) (fun i hi hne => h i (by omega) hne), h n (by omega) (fun z => e z.symm)]; omega
theorem ml_sm_app (f : Nat → Int) (a b : Nat) : ml_sm f (a + b) = ml_sm f a + ml_sm (fun i => f (a + i)) b := by
  induction b with
  | zero => show ml_sm f a = ml_sm f a + 0; omega
  | succ b ih => rw [← Nat.add_assoc, ml_sm_s, ml_sm_s, ih]; omega
theorem ml_sm_ab {f : Nat → Int} {B : Int} {n : Nat} (h : ∀ i, i < n → -B ≤ f i ∧ f i ≤ B) : -(n * B) ≤ ml_sm f n ∧ ml_sm f n ≤ n * B := by
  induction n with
  | zero => rw [show ((0 : Nat) : Int) * B = 0 from Int.zero_mul B]; exact ⟨Int.le_refl 0, Int.le_refl 0⟩
  | succ n ih =>
    have h1 := ih (fun i hi => h i (by omega))
    have h2 := h n (by omega)
    rw [ml_sm_s, show ((n + 1 : Nat) : Int) * B = n * B + B from by rw [Int.natCast_add, Int.add_mul]; simp]
    omega
/-- products within bounds -/
theorem ml_mb {a b A B : Int} (ha : -A ≤ a ∧ a ≤ A) (hb : -B ≤ b ∧ b ≤ B) : -(A * B) ≤ a * b ∧ a * b ≤ A * B := by
  have h1 := Int.mul_nonneg (show 0 ≤ A - a by omega) (show 0 ≤ B + b by omega)
  have h2 := Int.mul_nonneg (show 0 ≤ A + a by omega) (show 0 ≤ B - b by omega)
  have h3 := Int.mul_nonneg (show 0 ≤ A - a by omega) (show 0 ≤ B - b by omega)
  have h4 := Int.mul_nonneg (show 0 ≤ A + a by omega) (show 0 ≤ B + b by omega)
  simp only [Int.sub_mul, Int.mul_add, Int.add_mul, Int.mul_sub] at h1 h2 h3 h4
  omega
theorem ml_cancel {a b c : Int} (hc : 0 < c) (h : c * a = c * b) : a = b := Int.eq_of_mul_eq_mul_left (by omega) h
theorem ml_cancel0 {a c : Int} (hc : 0 < c) (h : c * a = 0) : a = 0 := ml_cancel hc (h.trans (Int.mul_zero c).symm)
theorem ml_cle {a b c : Int} (hc : 0 < c) (h : c * a ≤ c * b) : a ≤ b := Int.le_of_mul_le_mul_left h hc
theorem ml_clt {a b c : Int} (hc : 0 < c) (h : c * a < c * b) : a < b := Int.lt_of_mul_lt_mul_left h (by omega)
/-- fractions in a row: a1/d1 ≤ a2/d2 ≤ a3/d3 -/
theorem ml_tr {a1 a2 a3 d1 d2 d3 : Int} (h1 : 0 < d1) (h2 : 0 < d2) (h3 : 0 < d3) (e1 : a1 * d2 ≤ a2 * d1) (e2 : a2 * d3 ≤ a3 * d2) : a1 * d3 ≤ a3 * d1 := by
  apply ml_cle h2
  have f1 : a1 * d2 * d3 ≤ a2 * d1 * d3 := Int.mul_le_mul_of_nonneg_right e1 (by omega)
  have f2 : a2 * d3 * d1 ≤ a3 * d2 * d1 := Int.mul_le_mul_of_nonneg_right e2 (by omega)
  have g1 : d2 * (a1 * d3) = a1 * d2 * d3 := by grind
  have g2 : d2 * (a3 * d1) = a3 * d2 * d1 := by grind
  have g3 : a2 * d1 * d3 = a2 * d3 * d1 := by grind
  omega
theorem ml_tr_lt {a1 a2 a3 d1 d2 d3 : Int} (h1 : 0 < d1) (h2 : 0 < d2) (h3 : 0 < d3) (e1 : a1 * d2 ≤ a2 * d1) (e2 : a2 * d3 < a3 * d2) : a1 * d3 < a3 * d1 := by
  apply ml_clt h2
  have f1 : a1 * d2 * d3 ≤ a2 * d1 * d3 := Int.mul_le_mul_of_nonneg_right e1 (by omega)
  have f2 : a2 * d3 * d1 < a3 * d2 * d1 := Int.mul_lt_mul_of_pos_right e2 h1
  have g1 : d2 * (a1 * d3) = a1 * d2 * d3 := by grind
  have g2 : d2 * (a3 * d1) = a3 * d2 * d1 := by grind
  have g3 : a2 * d1 * d3 = a2 * d3 * d1 := by grind
  omega
theorem ml_tr_lt' {a1 a2 a3 d1 d2 d3 : Int} (h1 : 0 < d1) (h2 : 0 < d2) (h3 : 0 < d3) (e1 : a1 * d2 < a2 * d1) (e2 : a2 * d3 ≤ a3 * d2) : a1 * d3 < a3 * d1 := by
  apply ml_clt h2
  have f1 : a1 * d2 * d3 < a2 * d1 * d3 := Int.mul_lt_mul_of_pos_right e1 h3
  have f2 : a2 * d3 * d1 ≤ a3 * d2 * d1 := Int.mul_le_mul_of_nonneg_right e2 (by omega)
  have g1 : d2 * (a1 * d3) = a1 * d2 * d3 := by grind
  have g2 : d2 * (a3 * d1) = a3 * d2 * d1 := by grind
  have g3 : a2 * d1 * d3 = a2 * d3 * d1 := by grind
  omega
/-- two equal values among many -/
theorem ml_php : ∀ (N : Nat) (f : Nat → Nat), (∀ k, f k < N) → ∃ a b, a < b ∧ f a = f b := by
  intro N
  induction N with
  | zero => intro f h; exact absurd (h 0) (by omega)
  | succ N ih =>
    intro f h
    by_cases e : ∃ k, f k = N
    · obtain ⟨k, hk⟩ := e
      by_cases e2 : ∃ j, k < j ∧ f j = N
      · obtain ⟨j, hj, hv⟩ := e2
        exact ⟨k, j, hj, hk.trans hv.symm⟩
      · obtain ⟨a, b, hab, hv⟩ := ih (fun i => f (k + 1 + i)) (fun i => by
          have h1 := h (k + 1 + i)
          have h2 : f (k + 1 + i) ≠ N := fun z => e2 ⟨k + 1 + i, by omega, z⟩
          show f (k + 1 + i) < N
          omega)
        exact ⟨k + 1 + a, k + 1 + b, by omega, hv⟩
    · exact ih f (fun k => by
        have h1 := h k
        have h2 : f k ≠ N := fun z => e ⟨k, z⟩
        omega)
/-- a set of columns as a number -/
noncomputable def ml_cd (S : Nat → Prop) : Nat → Nat
  | 0 => 0
  | m + 1 => ml_cd S m + (@ite _ (S m) (Classical.propDecidable _) (2 ^ m) 0)
theorem ml_cd_lt (S : Nat → Prop) (m : Nat) : ml_cd S m < 2 ^ m := by
  induction m with
  | zero => exact Nat.one_pos
  | succ m ih =>
    show ml_cd S m + (@ite _ (S m) (Classical.propDecidable _) (2 ^ m) 0) < 2 ^ (m + 1)
    rw [Nat.pow_succ]
    split <;> omega
theorem ml_cd_inj {S S' : Nat → Prop} {m : Nat} (h : ml_cd S m = ml_cd S' m) : ∀ c, c < m → (S c ↔ S' c) := by
  induction m with
  | zero => intro c hc; omega
  | succ m ih =>
    have h1 := ml_cd_lt S m
    have h2 := ml_cd_lt S' m
    have e : ml_cd S m + (@ite _ (S m) (Classical.propDecidable _) (2 ^ m) 0) = ml_cd S' m + (@ite _ (S' m) (Classical.propDecidable _) (2 ^ m) 0) := h
    have k : (S m ↔ S' m) ∧ ml_cd S m = ml_cd S' m := by
      by_cases p : S m <;> by_cases p' : S' m
      · rw [if_pos p, if_pos p'] at e
        exact ⟨⟨fun _ => p', fun _ => p⟩, by omega⟩
      · rw [if_pos p, if_neg p'] at e
        omega
      · rw [if_neg p, if_pos p'] at e
        omega
      · rw [if_neg p, if_neg p'] at e
        exact ⟨⟨fun z => absurd z p, fun z => absurd z p'⟩, by omega⟩
    intro c hc
    by_cases hm : c = m
    · subst hm; exact k.1
    · exact ih k.2 c (by omega)
/-- the largest one -/
theorem ml_max {P : Nat → Prop} {N : Nat} (h : ∃ c, c < N ∧ P c) : ∃ c, c < N ∧ P c ∧ ∀ d, d < N → P d → d ≤ c := by
  induction N with
  | zero => obtain ⟨c, hc, _⟩ := h; omega
  | succ N ih =>
    by_cases e : P N
    · exact ⟨N, by omega, e, fun d hd _ => by omega⟩
    · obtain ⟨c, hc, hp⟩ := h
      have hcn : c ≠ N := fun z => e (z ▸ hp)
      obtain ⟨c', h1, h2, h3⟩ := ih ⟨c, by omega, hp⟩
      refine ⟨c', by omega, h2, fun d hd hpd => h3 d ?_ hpd⟩
      have : d ≠ N := fun z => e (z ▸ hpd)
      omega
/-- a change from true to false on the way -/
theorem ml_ivt {P : Nat → Prop} {a : Nat} : ∀ b, a ≤ b → P a → ¬ P b → ∃ k, a ≤ k ∧ k < b ∧ P k ∧ ¬ P (k + 1) := by
  intro b
  induction b with
  | zero => intro h h1 h2; exact absurd ((show a = 0 by omega) ▸ h1) h2
  | succ b ih =>
    intro h h1 h2
    by_cases e : a = b + 1
    · exact absurd (e ▸ h1) h2
    · by_cases p : P b
      · exact ⟨b, by omega, by omega, p, h2⟩
      · obtain ⟨k, k1, k2, k3⟩ := ih (by omega) h1 p
        exact ⟨k, k1, by omega, k3⟩
end
section
abbrev ml_St : Type := (Nat → Nat → Int) × Int × (Nat → Nat)
/-- one exchange: row and column as the program picks them, the new table as it reckons it -/
def ml_Piv (n : Nat) (s s' : ml_St) (row q : Nat) : Prop :=
  row < n ∧ q < 20 ∧ s.1 8 q < 0 ∧ (∀ c, c < q → 0 ≤ s.1 8 c) ∧ 0 < s.1 row q ∧
  (∀ r, r < n → 0 < s.1 r q → s.1 row 20 * s.1 r q ≤ s.1 r 20 * s.1 row q ∧ (s.1 row 20 * s.1 r q = s.1 r 20 * s.1 row q → s.2.2 row ≤ s.2.2 r)) ∧
  s'.2.1 = s.1 row q ∧
  (∀ r, (r < n ∨ r = 8) → r ≠ row → ∀ c, c ≤ 20 → s.2.1 * s'.1 r c = s.1 r c * s.1 row q - s.1 r q * s.1 row c) ∧
  (∀ c, c ≤ 20 → s'.1 row c = s.1 row c) ∧
  (∀ r, r < n → s'.2.2 r = if r = row then q else s.2.2 r)
def ml_Ok (n : Nat) (s : ml_St) : Prop :=
  0 < s.2.1 ∧ (∀ r, r < n → s.2.2 r < 20) ∧ (∀ r, r < n → ∀ r', r' < n → s.1 r (s.2.2 r') = if r = r' then s.2.1 else 0) ∧
  (∀ r, r < n → s.1 8 (s.2.2 r) = 0) ∧ (∀ r, r < n → 0 ≤ s.1 r 20)
def ml_L (n : Nat) (D : Int) (w : Nat → Int) (ix : Nat → Nat) (s : Nat) (v : Nat → Int) : Int := D * v s - ml_sm (fun r => w r * v (ix r)) n
theorem ml_L_lin {n : Nat} {D : Int} {w : Nat → Int} {ix : Nat → Nat} {s : Nat} {v v' u : Nat → Int} {d p a : Int}
    (hs : d * v' s = v s * p - a * u s) (hx : ∀ r, r < n → d * v' (ix r) = v (ix r) * p - a * u (ix r)) :
    d * ml_L n D w ix s v' = p * ml_L n D w ix s v - a * ml_L n D w ix s u := by
  have e : d * ml_sm (fun r => w r * v' (ix r)) n = p * ml_sm (fun r => w r * v (ix r)) n - a * ml_sm (fun r => w r * u (ix r)) n := by
    rw [← ml_sm_mul, ← ml_sm_mul, ← ml_sm_mul, ← ml_sm_sub]
    refine ml_sm_congr (fun r hr => ?_)
    have h := hx r hr
    grind
  unfold ml_L
  grind
theorem ml_L_eq {n : Nat} {D : Int} {w : Nat → Int} {ix : Nat → Nat} {s : Nat} {v v' : Nat → Int}
    (hs : v' s = v s) (hx : ∀ r, r < n → v' (ix r) = v (ix r)) : ml_L n D w ix s v' = ml_L n D w ix s v := by
  unfold ml_L
  rw [hs, ml_sm_congr (fun r hr => by rw [hx r hr])]
section
variable {n : Nat} {f : Nat → ml_St} {row q : Nat → Nat}
/-- the key identity, as it goes along -/
def ml_G (n : Nat) (f : Nat → ml_St) (k1 s k : Nat) : Prop :=
  (∀ r, r < n → ml_L n (f k1).2.1 (fun r => (f k1).1 r s) (f k1).2.2 s ((f k).1 r) = 0) ∧
  ml_L n (f k1).2.1 (fun r => (f k1).1 r s) (f k1).2.2 s ((f k).1 8) = (f k).2.1 * (f k1).1 8 s
theorem ml_G_0 (ho : ∀ k, ml_Ok n (f k)) (k s : Nat) : ml_G n f k s k := by
  obtain ⟨h1, h2, h3, h4, h5⟩ := ho k
  refine ⟨fun r hr => ?_, ?_⟩
  · unfold ml_L
    rw [ml_sm_one (k := r) hr (fun i hi hne => by rw [h3 r hr i hi, if_neg (fun z => hne z.symm), Int.mul_zero]), h3 r hr r hr, if_pos rfl, Int.mul_comm]
    dsimp only
    omega
  · unfold ml_L
    rw [ml_sm_z (fun i hi => by rw [h4 i hi, Int.mul_zero])]
    omega
theorem ml_G_up (hn : n ≤ 8) (hp : ∀ k, ml_Piv n (f k) (f (k + 1)) (row k) (q k)) (ho : ∀ k, ml_Ok n (f k)) {k1 s k : Nat} (hs : s ≤ 20) (h : ml_G n f k1 s k) : ml_G n f k1 s (k + 1) := by
  obtain ⟨p1, p2, p3, p4, p5, p6, p7, p8, p9, p10⟩ := hp k
  have hD := (ho k).1
  have hx := fun r hr => Nat.le_of_lt ((ho k1).2.1 r hr)
  obtain ⟨g1, g2⟩ := h
  have grow := g1 (row k) p1
  refine ⟨fun r hr => ?_, ?_⟩
  · by_cases e : r = row k
    · subst e
      rw [ml_L_eq (p9 s hs) (fun i hi => p9 _ (hx i hi))]
      exact grow
    · have e1 := ml_L_lin (D := (f k1).2.1) (w := fun r => (f k1).1 r s) (p8 r (Or.inl hr) e s hs) (fun i hi => p8 r (Or.inl hr) e _ (hx i hi))
      rw [g1 r hr, grow] at e1
      refine ml_cancel0 hD ?_
      rw [e1]; simp
  · have e8 : 8 ≠ row k := by omega
    have e1 := ml_L_lin (D := (f k1).2.1) (w := fun r => (f k1).1 r s) (p8 8 (Or.inr rfl) e8 s hs) (fun i hi => p8 8 (Or.inr rfl) e8 _ (hx i hi))
    rw [g2, grow] at e1
    refine ml_cancel hD ?_
    rw [e1, p7]
    grind
theorem ml_G_dn (hn : n ≤ 8) (hp : ∀ k, ml_Piv n (f k) (f (k + 1)) (row k) (q k)) (ho : ∀ k, ml_Ok n (f k)) {k1 s k : Nat} (hs : s ≤ 20) (h : ml_G n f k1 s (k + 1)) : ml_G n f k1 s k := by
  obtain ⟨p1, p2, p3, p4, p5, p6, p7, p8, p9, p10⟩ := hp k
  have hD := (ho k).1
  have hx := fun r hr => Nat.le_of_lt ((ho k1).2.1 r hr)
  obtain ⟨g1, g2⟩ := h
  have grow := g1 (row k) p1
  rw [ml_L_eq (p9 s hs) (fun i hi => p9 _ (hx i hi))] at grow
  refine ⟨fun r hr => ?_, ?_⟩
  · by_cases e : r = row k
    · subst e
      exact grow
    · have e1 := ml_L_lin (D := (f k1).2.1) (w := fun r => (f k1).1 r s) (p8 r (Or.inl hr) e s hs) (fun i hi => p8 r (Or.inl hr) e _ (hx i hi))
      rw [g1 r hr, grow] at e1
      refine ml_cancel0 p5 ?_
      rw [Int.mul_zero, Int.mul_zero] at e1
      omega
  · have e8 : 8 ≠ row k := by omega
    have e1 := ml_L_lin (D := (f k1).2.1) (w := fun r => (f k1).1 r s) (p8 8 (Or.inr rfl) e8 s hs) (fun i hi => p8 8 (Or.inr rfl) e8 _ (hx i hi))
    rw [g2, grow, p7, Int.mul_zero] at e1
    refine ml_cancel p5 ?_
    grind
theorem ml_G_all (hn : n ≤ 8) (hp : ∀ k, ml_Piv n (f k) (f (k + 1)) (row k) (q k)) (ho : ∀ k, ml_Ok n (f k)) (k1 s k : Nat) (hs : s ≤ 20) : ml_G n f k1 s k := by
  have h0 := ml_G_0 ho k1 s
  have up : ∀ j, ml_G n f k1 s (k1 + j) := by
    intro j
    induction j with
    | zero => exact h0
    | succ j ih => exact ml_G_up hn hp ho hs ih
  have dn : ∀ j, j ≤ k1 → ml_G n f k1 s (k1 - j) := by
    intro j
    induction j with
    | zero => intro _; exact h0
    | succ j ih =>
      intro hj
      have h := ih (by omega)
      rw [show k1 - j = (k1 - (j + 1)) + 1 by omega] at h
      exact ml_G_dn hn hp ho hs h
  by_cases e : k1 ≤ k
  · have h := up (k - k1)
    rw [show k1 + (k - k1) = k by omega] at h
    exact h
  · have h := dn (k1 - k) (by omega)
    rw [show k1 - (k1 - k) = k by omega] at h
    exact h
/-- the cost over the denominator never rises -/
theorem ml_mono1 (hn : n ≤ 8) (hp : ∀ k, ml_Piv n (f k) (f (k + 1)) (row k) (q k)) (ho : ∀ k, ml_Ok n (f k)) (k : Nat) :
    (f k).1 8 20 * (f (k + 1)).2.1 ≤ (f (k + 1)).1 8 20 * (f k).2.1 ∧ ((f k).1 8 20 * (f (k + 1)).2.1 = (f (k + 1)).1 8 20 * (f k).2.1 → (f k).1 (row k) 20 = 0) := by
  obtain ⟨p1, p2, p3, p4, p5, p6, p7, p8, p9, p10⟩ := hp k
  have e := p8 8 (Or.inr rfl) (by omega) 20 (by omega)
  have h0 := (ho k).2.2.2.2 (row k) p1
  have h1 : 0 ≤ -((f k).1 8 (q k)) * (f k).1 (row k) 20 := Int.mul_nonneg (by omega) h0
  rw [Int.neg_mul] at h1
  rw [p7, Int.mul_comm ((f (k + 1)).1 8 20)]
  refine ⟨by omega, fun z => ?_⟩
  have h2 : (f k).1 8 (q k) * (f k).1 (row k) 20 = 0 := by omega
  rcases Int.mul_eq_zero.mp h2 with h | h
  · omega
  · exact h
theorem ml_mono (hn : n ≤ 8) (hp : ∀ k, ml_Piv n (f k) (f (k + 1)) (row k) (q k)) (ho : ∀ k, ml_Ok n (f k)) (a j : Nat) :
    (f a).1 8 20 * (f (a + j)).2.1 ≤ (f (a + j)).1 8 20 * (f a).2.1 := by
  induction j with
  | zero => exact Int.le_refl _
  | succ j ih => exact ml_tr (ho a).1 (ho (a + j)).1 (ho (a + (j + 1))).1 ih (ml_mono1 hn hp ho (a + j)).1
theorem ml_cyc0 (hn : n ≤ 8) (hp : ∀ k, ml_Piv n (f k) (f (k + 1)) (row k) (q k)) (ho : ∀ k, ml_Ok n (f k)) {a b k : Nat} (hab : (f a).1 8 20 * (f b).2.1 = (f b).1 8 20 * (f a).2.1) (h1 : a ≤ k) (h2 : k < b) :
    (f k).1 (row k) 20 = 0 := by
  obtain ⟨m1, m2⟩ := ml_mono1 hn hp ho k
  have ma := ml_mono hn hp ho a (k - a)
  rw [show a + (k - a) = k by omega] at ma
  have mb := ml_mono hn hp ho (k + 1) (b - (k + 1))
  rw [show k + 1 + (b - (k + 1)) = b by omega] at mb
  apply m2
  by_cases e : (f k).1 8 20 * (f (k + 1)).2.1 = (f (k + 1)).1 8 20 * (f k).2.1
  · exact e
  · have h5 : (f k).1 8 20 * (f (k + 1)).2.1 < (f (k + 1)).1 8 20 * (f k).2.1 := by omega
    have h3 := ml_tr_lt (ho a).1 (ho k).1 (ho (k + 1)).1 ma h5
    have h4 := ml_tr_lt' (ho a).1 (ho (k + 1)).1 (ho b).1 h3 mb
    omega
def ml_In (n : Nat) (f : Nat → ml_St) (c k : Nat) : Prop := ∃ r, r < n ∧ (f k).2.2 r = c
def ml_Z (n : Nat) (f : Nat → ml_St) (c k : Nat) : Prop := ∀ r, r < n → (f k).2.2 r = c → (f k).1 r 20 = 0
theorem ml_own_inj (ho : ∀ k, ml_Ok n (f k)) {k r r' : Nat} (hr : r < n) (hr' : r' < n) (e : (f k).2.2 r = (f k).2.2 r') : r = r' := by
  obtain ⟨h1, h2, h3, h4, h5⟩ := ho k
  by_cases z : r = r'
  · exact z
  · have a := h3 r hr r' hr'
    have b := h3 r hr r hr
    rw [if_neg z, ← e, b, if_pos rfl] at a
    omega
theorem ml_q_out (hp : ∀ k, ml_Piv n (f k) (f (k + 1)) (row k) (q k)) (ho : ∀ k, ml_Ok n (f k)) (k : Nat) : ¬ ml_In n f (q k) k := by
  rintro ⟨r, hr, e⟩
  have h := (ho k).2.2.2.1 r hr
  have h2 := (hp k).2.2.1
  rw [e] at h
  omega
theorem ml_enters (hp : ∀ k, ml_Piv n (f k) (f (k + 1)) (row k) (q k)) {c k : Nat} (h1 : ¬ ml_In n f c k) (h2 : ml_In n f c (k + 1)) : q k = c := by
  obtain ⟨p1, p2, p3, p4, p5, p6, p7, p8, p9, p10⟩ := hp k
  obtain ⟨r, hr, e⟩ := h2
  rw [p10 r hr] at e
  by_cases z : r = row k
  · rw [if_pos z] at e; exact e
  · rw [if_neg z] at e; exact absurd ⟨r, hr, e⟩ h1
theorem ml_leaves (hp : ∀ k, ml_Piv n (f k) (f (k + 1)) (row k) (q k)) {c k : Nat} (h1 : ml_In n f c k) (h2 : ¬ ml_In n f c (k + 1)) : (f k).2.2 (row k) = c := by
  obtain ⟨p1, p2, p3, p4, p5, p6, p7, p8, p9, p10⟩ := hp k
  obtain ⟨r, hr, e⟩ := h1
  by_cases z : r = row k
  · rw [← z]; exact e
  · exact absurd ⟨r, hr, by rw [p10 r hr, if_neg z]; exact e⟩ h2
theorem ml_q_in (hp : ∀ k, ml_Piv n (f k) (f (k + 1)) (row k) (q k)) (k : Nat) : ml_In n f (q k) (k + 1) := by
  obtain ⟨p1, p2, p3, p4, p5, p6, p7, p8, p9, p10⟩ := hp k
  exact ⟨row k, p1, by rw [p10 _ p1, if_pos rfl]⟩
theorem ml_Z_step (hp : ∀ k, ml_Piv n (f k) (f (k + 1)) (row k) (q k)) (ho : ∀ k, ml_Ok n (f k)) {c k : Nat} (h0 : (f k).1 (row k) 20 = 0) : ml_Z n f c k ↔ ml_Z n f c (k + 1) := by
  obtain ⟨p1, p2, p3, p4, p5, p6, p7, p8, p9, p10⟩ := hp k
  constructor
  · intro h r hr e
    by_cases z : r = row k
    · rw [z, p9 20 (by omega)]; exact h0
    · rw [p10 r hr, if_neg z] at e
      have e1 := p8 r (Or.inl hr) z 20 (by omega)
      rw [h0, h r hr e, Int.mul_zero, Int.zero_mul] at e1
      exact ml_cancel0 (ho k).1 e1
  · intro h r hr e
    by_cases z : r = row k
    · rw [z]; exact h0
    · have e2 := h r hr (by rw [p10 r hr, if_neg z]; exact e)
      have e1 := p8 r (Or.inl hr) z 20 (by omega)
      rw [h0, e2, Int.mul_zero, Int.mul_zero, Int.mul_comm] at e1
      exact ml_cancel0 p5 (by omega)
theorem ml_Z_all (hp : ∀ k, ml_Piv n (f k) (f (k + 1)) (row k) (q k)) (ho : ∀ k, ml_Ok n (f k)) {a b c : Nat} (h0 : ∀ k, a ≤ k → k < b → (f k).1 (row k) 20 = 0) :
    ∀ j, a + j ≤ b → (ml_Z n f c a ↔ ml_Z n f c (a + j)) := by
  intro j
  induction j with
  | zero => intro _; exact Iff.rfl
  | succ j ih => intro h; exact (ih (by omega)).trans (ml_Z_step hp ho (h0 (a + j) (by omega) (by omega)))
/-- Bland's rule never runs for ever -/
theorem ml_bland (hn : n ≤ 8) (hp : ∀ k, ml_Piv n (f k) (f (k + 1)) (row k) (q k)) (ho : ∀ k, ml_Ok n (f k)) : False := by
  obtain ⟨a, b, hab, hcd⟩ := ml_php (2 ^ 20) (fun k => ml_cd (fun c => ml_In n f c k) 20) (fun k => ml_cd_lt _ 20)
  have hset := ml_cd_inj hcd
  -- the same value at both ends
  have hval : (f a).1 8 20 * (f b).2.1 = (f b).1 8 20 * (f a).2.1 := by
    have g := (ml_G_all hn hp ho a 20 b (by omega)).2
    unfold ml_L at g
    rw [ml_sm_z (fun r hr => by
      obtain ⟨r', hr', e'⟩ := (hset ((f a).2.2 r) ((ho a).2.1 r hr)).mp ⟨r, hr, rfl⟩
      rw [← e', (ho b).2.2.2.1 r' hr', Int.mul_zero])] at g
    rw [Int.mul_comm ((f a).1 8 20), Int.mul_comm ((f b).1 8 20)]
    omega
  have h0 : ∀ k, a ≤ k → k < b → (f k).1 (row k) 20 = 0 := fun k h1 h2 => ml_cyc0 hn hp ho hval h1 h2
  -- the largest column that enters
  obtain ⟨t, ht, ⟨k2, hk2a, hk2b, hk2⟩, hmax⟩ := ml_max (P := fun c => ∃ k, a ≤ k ∧ k < b ∧ q k = c) ⟨q a, (hp a).2.1, a, Nat.le_refl a, hab, rfl⟩
  -- a column that is in at one time and out at another enters at some time
  have hent : ∀ c, c < 20 → ∀ k k', a ≤ k → k ≤ b → a ≤ k' → k' ≤ b → ml_In n f c k → ¬ ml_In n f c k' → ∃ j, a ≤ j ∧ j < b ∧ q j = c := by
    intro c hc k k' ka kb k'a k'b hin hout
    by_cases hA : ml_In n f c a
    · have hB := (hset c hc).mp hA
      obtain ⟨j, j1, j2, j3, j4⟩ := ml_ivt (P := fun i => ¬ ml_In n f c i) b k'b hout (fun z => z hB)
      exact ⟨j, by omega, j2, ml_enters hp j3 (Classical.not_not.mp j4)⟩
    · obtain ⟨j, j1, j2, j3, j4⟩ := ml_ivt (P := fun i => ¬ ml_In n f c i) k ka hA (fun z => z hin)
      exact ⟨j, by omega, by omega, ml_enters hp j3 (Classical.not_not.mp j4)⟩
  -- t leaves at some time
  have hlv : ∃ j, a ≤ j ∧ j < b ∧ (f j).2.2 (row j) = t := by
    have hin := ml_q_in hp k2
    have hout := ml_q_out hp ho k2
    rw [hk2] at hin hout
    by_cases hA : ml_In n f t a
    · obtain ⟨j, j1, j2, j3, j4⟩ := ml_ivt (P := fun i => ml_In n f t i) k2 hk2a hA hout
      exact ⟨j, by omega, by omega, ml_leaves hp j3 j4⟩
    · have hB := fun z => hA ((hset t ht).mpr z)
      obtain ⟨j, j1, j2, j3, j4⟩ := ml_ivt (P := fun i => ml_In n f t i) b (show k2 + 1 ≤ b by omega) hin hB
      exact ⟨j, by omega, j2, ml_leaves hp j3 j4⟩
  obtain ⟨k1, hk1a, hk1b, hk1⟩ := hlv
  obtain ⟨p1, p2, p3, p4, p5, p6, p7, p8, p9, p10⟩ := hp k1
  obtain ⟨o1, o2, o3, o4, o5⟩ := ho k1
  have P2 := hp k2
  rw [hk2] at P2
  obtain ⟨u1, u2, u3, u4, u5, u6, u7, u8, u9, u10⟩ := P2
  have hst : q k1 < t := by
    have h1 := hmax (q k1) p2 ⟨k1, hk1a, hk1b, rfl⟩
    have h2 : q k1 ≠ t := fun z => ml_q_out hp ho k1 (z ▸ ⟨row k1, p1, hk1⟩)
    omega
  have g := (ml_G_all hn hp ho k1 (q k1) k2 (by omega)).2
  unfold ml_L at g
  dsimp only at g
  have hs2 := u4 (q k1) hst
  have hneg : (f k2).2.1 * (f k1).1 8 (q k1) < 0 := Int.mul_neg_of_pos_of_neg (ho k2).1 p3
  have hpos : 0 ≤ (f k1).2.1 * (f k2).1 8 (q k1) := Int.mul_nonneg (by omega) hs2
  obtain ⟨r, hr, hterm⟩ := ml_sm_pos (show 0 < ml_sm (fun r => (f k1).1 r (q k1) * (f k2).1 8 ((f k1).2.2 r)) n by omega)
  have hc20 := o2 r hr
  have hin1 : ml_In n f ((f k1).2.2 r) k1 := ⟨r, hr, rfl⟩
  have hout2 : ¬ ml_In n f ((f k1).2.2 r) k2 := by
    rintro ⟨r', hr', e'⟩
    have h := (ho k2).2.2.2.1 r' hr'
    rw [e'] at h
    rw [h, Int.mul_zero] at hterm
    omega
  have hct := hmax _ hc20 (hent _ hc20 k1 k2 hk1a (by omega) hk2a (by omega) hin1 hout2)
  by_cases e : (f k1).2.2 r = t
  · have er := ml_own_inj ho hr p1 (e.trans hk1.symm)
    rw [e, er] at hterm
    have := Int.mul_neg_of_pos_of_neg p5 u3
    omega
  · have hc2 := u4 ((f k1).2.2 r) (by omega)
    have hpr : 0 < (f k1).1 r (q k1) := by
      apply Classical.byContradiction
      intro z
      have := Int.mul_nonneg (show 0 ≤ -((f k1).1 r (q k1)) by omega) hc2
      rw [Int.neg_mul] at this
      omega
    have hz2 : ml_Z n f ((f k1).2.2 r) k2 := fun r' hr' e' => absurd ⟨r', hr', e'⟩ hout2
    have hza : ml_Z n f ((f k1).2.2 r) a := by
      have h := ml_Z_all hp ho (c := (f k1).2.2 r) h0 (k2 - a) (by omega)
      rw [show a + (k2 - a) = k2 by omega] at h
      exact h.mpr hz2
    have hz1 : ml_Z n f ((f k1).2.2 r) k1 := by
      have h := ml_Z_all hp ho (c := (f k1).2.2 r) h0 (k1 - a) (by omega)
      rw [show a + (k1 - a) = k1 by omega] at h
      exact h.mp hza
    have hr0 := hz1 r hr rfl
    have hrow0 := h0 k1 hk1a hk1b
    have htie := (p6 r hr hpr).2 (by rw [hr0, hrow0, Int.zero_mul, Int.zero_mul])
    omega
end
/-- so the exchanges are well founded -/
theorem ml_acc {n : Nat} (hn : n ≤ 8) (s : ml_St) : Acc (fun s' s => ml_Ok n s ∧ ml_Ok n s' ∧ ∃ row q, ml_Piv n s s' row q) s := by
  apply Classical.byContradiction
  intro hna
  have stp : ∀ s : { s : ml_St // ¬ Acc (fun s' s => ml_Ok n s ∧ ml_Ok n s' ∧ ∃ row q, ml_Piv n s s' row q) s }, ∃ s' : { s : ml_St // ¬ Acc (fun s' s => ml_Ok n s ∧ ml_Ok n s' ∧ ∃ row q, ml_Piv n s s' row q) s },
      ml_Ok n s.1 ∧ ml_Ok n s'.1 ∧ ∃ row q, ml_Piv n s.1 s'.1 row q := by
    intro s
    apply Classical.byContradiction
    intro h
    refine s.2 (Acc.intro s.1 (fun y hy => ?_))
    apply Classical.byContradiction
    intro hy2
    exact h ⟨⟨y, hy2⟩, hy⟩
  let g : Nat → { s : ml_St // ¬ Acc (fun s' s => ml_Ok n s ∧ ml_Ok n s' ∧ ∃ row q, ml_Piv n s s' row q) s } := fun k => Nat.rec ⟨s, hna⟩ (fun _ z => Classical.choose (stp z)) k
  have hg : ∀ k, ml_Ok n (g k).1 ∧ ml_Ok n (g (k + 1)).1 ∧ ∃ row q, ml_Piv n (g k).1 (g (k + 1)).1 row q := fun k => Classical.choose_spec (stp (g k))
  exact ml_bland (f := fun k => (g k).1) (row := fun k => Classical.choose (hg k).2.2) (q := fun k => Classical.choose (Classical.choose_spec (hg k).2.2)) hn
    (fun k => Classical.choose_spec (Classical.choose_spec (hg k).2.2)) (fun k => (hg k).1)
end
section
/-- columns in pairs -/
def ml_par (c : Nat) : Nat := if c = 0 then 1 else if c = 1 then 0 else if c = 2 then 3 else if c = 3 then 2 else if c < 12 then c + 8 else c - 8
def ml_kl (c : Nat) : Nat := if c < 2 then 0 else if c < 4 then 1 else if c < 12 then c - 2 else c - 10
theorem ml_par_lt : ∀ c, c < 20 → ml_par c < 20 := by decide
theorem ml_par_ne : ∀ c, c < 20 → ml_par c ≠ c := by decide
theorem ml_par_par : ∀ c, c < 20 → ml_par (ml_par c) = c := by decide
theorem ml_kl_par : ∀ c, c < 20 → ml_kl (ml_par c) = ml_kl c := by decide
set_option maxRecDepth 100000 in
theorem ml_kl_eq : ∀ c, c < 20 → ∀ d, d < 20 → ml_kl c = ml_kl d → c = d ∨ c = ml_par d := by decide +kernel
theorem ml_par_4 {k : Nat} (hk : k < 8) : ml_par (4 + k) = 12 + k := by
  unfold ml_par
  rw [if_neg (by omega), if_neg (by omega), if_neg (by omega), if_neg (by omega), if_pos (by omega)]; omega
theorem ml_par_12 {k : Nat} : ml_par (12 + k) = 4 + k := by
  unfold ml_par
  rw [if_neg (by omega), if_neg (by omega), if_neg (by omega), if_neg (by omega), if_neg (by omega)]; omega
def ml_g1 (n : Nat) (x : Nat → Int) (c : Nat) : Int :=
  if c = 0 then 1 else if c = 1 then -1 else if c < 4 then 0 else if c < 12 then (if c - 4 < n then - x (c - 4) else 0) else if c - 12 < n then x (c - 12) else 0
def ml_g2 (n : Nat) (c : Nat) : Int :=
  if c < 2 then 0 else if c = 2 then 1 else if c = 3 then -1 else if c < 12 then (if c - 4 < n then -1 else 0) else if c - 12 < n then 1 else 0
def ml_h (n : Nat) (y : Nat → Int) (c : Nat) : Int :=
  if c < 4 then 0 else if c < 12 then (if c - 4 < n then - y (c - 4) else 0) else if c - 12 < n then y (c - 12) else 0
def ml_cost (n : Nat) (l : Int) (c : Nat) : Int :=
  if c < 4 then 0 else if c < 12 then (if c - 4 < n then l else 0) else if c < 20 then (if c - 12 < n then 4 - l else 0) else 0
theorem ml_g1_4 {n : Nat} {x : Nat → Int} {k : Nat} (hk : k < 8) : ml_g1 n x (4 + k) = if k < n then - x k else 0 := by
  unfold ml_g1
  rw [if_neg (by omega), if_neg (by omega), if_neg (by omega), if_pos (by omega), Nat.add_sub_cancel_left]
theorem ml_g1_12 {n : Nat} {x : Nat → Int} {k : Nat} : ml_g1 n x (12 + k) = if k < n then x k else 0 := by
  unfold ml_g1
  rw [if_neg (by omega), if_neg (by omega), if_neg (by omega), if_neg (by omega), Nat.add_sub_cancel_left]
theorem ml_g2_4 {n : Nat} {k : Nat} (hk : k < 8) : ml_g2 n (4 + k) = if k < n then -1 else 0 := by
  unfold ml_g2
  rw [if_neg (by omega), if_neg (by omega), if_neg (by omega), if_pos (by omega), Nat.add_sub_cancel_left]
theorem ml_g2_12 {n : Nat} {k : Nat} : ml_g2 n (12 + k) = if k < n then 1 else 0 := by
  unfold ml_g2
  rw [if_neg (by omega), if_neg (by omega), if_neg (by omega), if_neg (by omega), Nat.add_sub_cancel_left]
theorem ml_h_4 {n : Nat} {y : Nat → Int} {k : Nat} (hk : k < 8) : ml_h n y (4 + k) = if k < n then - y k else 0 := by
  unfold ml_h
  rw [if_neg (by omega), if_pos (by omega), Nat.add_sub_cancel_left]
theorem ml_h_12 {n : Nat} {y : Nat → Int} {k : Nat} : ml_h n y (12 + k) = if k < n then y k else 0 := by
  unfold ml_h
  rw [if_neg (by omega), if_neg (by omega), Nat.add_sub_cancel_left]
theorem ml_cost_4 {n : Nat} {l : Int} {k : Nat} (hk : k < 8) : ml_cost n l (4 + k) = if k < n then l else 0 := by
  unfold ml_cost
  rw [if_neg (by omega), if_pos (by omega), Nat.add_sub_cancel_left]
theorem ml_cost_12 {n : Nat} {l : Int} {k : Nat} (hk : k < 8) : ml_cost n l (12 + k) = if k < n then 4 - l else 0 := by
  unfold ml_cost
  rw [if_neg (by omega), if_neg (by omega), if_pos (by omega), Nat.add_sub_cancel_left]
theorem ml_cost_lo {n : Nat} {l : Int} {c : Nat} (hc : c < 4) : ml_cost n l c = 0 := if_pos hc
theorem ml_cost_20 {n : Nat} {l : Int} : ml_cost n l 20 = 0 := rfl
theorem ml_cols {P : Nat → Prop} (h0 : P 0) (h1 : P 1) (h2 : P 2) (h3 : P 3) (h4 : ∀ k, k < 8 → P (4 + k)) (h5 : ∀ k, k < 8 → P (12 + k)) : ∀ c, c < 20 → P c := by
  intro c hc
  rcases (by omega : c = 0 ∨ c = 1 ∨ c = 2 ∨ c = 3 ∨ (4 ≤ c ∧ c < 12) ∨ 12 ≤ c) with rfl | rfl | rfl | rfl | h | h
  · exact h0
  · exact h1
  · exact h2
  · exact h3
  · have := h4 (c - 4) (by omega)
    rw [show 4 + (c - 4) = c by omega] at this
    exact this
  · have := h5 (c - 12) (by omega)
    rw [show 12 + (c - 12) = c by omega] at this
    exact this
theorem ml_g1_par {n : Nat} {x : Nat → Int} : ∀ c, c < 20 → ml_g1 n x (ml_par c) = - ml_g1 n x c := by
  apply ml_cols
  · rfl
  · rfl
  · rfl
  · rfl
  · intro k hk
    rw [ml_par_4 hk, ml_g1_4 hk, ml_g1_12]; split <;> omega
  · intro k hk
    rw [ml_par_12, ml_g1_4 hk, ml_g1_12]; split <;> omega
theorem ml_g2_par {n : Nat} : ∀ c, c < 20 → ml_g2 n (ml_par c) = - ml_g2 n c := by
  apply ml_cols
  · rfl
  · rfl
  · rfl
  · rfl
  · intro k hk
    rw [ml_par_4 hk, ml_g2_4 hk, ml_g2_12]; split <;> omega
  · intro k hk
    rw [ml_par_12, ml_g2_4 hk, ml_g2_12]; split <;> omega
theorem ml_h_par {n : Nat} {y : Nat → Int} : ∀ c, c < 20 → ml_h n y (ml_par c) = - ml_h n y c := by
  apply ml_cols
  · rfl
  · rfl
  · rfl
  · rfl
  · intro k hk
    rw [ml_par_4 hk, ml_h_4 hk, ml_h_12]; split <;> omega
  · intro k hk
    rw [ml_par_12, ml_h_4 hk, ml_h_12]; split <;> omega
def ml_bk (n : Nat) (x : Nat → Int) (A B : Nat) : Int := ml_g1 n x A * ml_g2 n B - ml_g2 n A * ml_g1 n x B
def ml_ch (n : Nat) (y : Nat → Int) (A c : Nat) : Int := if c = 20 then - ml_h n y A else (if c = A then 1 else 0) - (if c = ml_par A then 1 else 0)
def ml_row (n : Nat) (x y : Nat → Int) (e : Int) (P Q O c : Nat) : Int :=
  e * (ml_bk n x P Q * ml_ch n y O c + ml_bk n x Q O * ml_ch n y P c + ml_bk n x O P * ml_ch n y Q c)
theorem ml_bk_sw {n : Nat} {x : Nat → Int} (A B : Nat) : ml_bk n x A B = - ml_bk n x B A := by unfold ml_bk; grind
theorem ml_bk_p1 {n : Nat} {x : Nat → Int} {A : Nat} (hA : A < 20) (B : Nat) : ml_bk n x (ml_par A) B = - ml_bk n x A B := by
  unfold ml_bk; rw [ml_g1_par A hA, ml_g2_par A hA]; grind
theorem ml_bk_p2 {n : Nat} {x : Nat → Int} {A : Nat} (hA : A < 20) (B : Nat) : ml_bk n x B (ml_par A) = - ml_bk n x B A := by
  unfold ml_bk; rw [ml_g1_par A hA, ml_g2_par A hA]; grind
theorem ml_ch_p {n : Nat} {y : Nat → Int} {A : Nat} (hA : A < 20) (c : Nat) : ml_ch n y (ml_par A) c = - ml_ch n y A c := by
  unfold ml_ch
  rw [ml_h_par A hA, ml_par_par A hA]
  by_cases h : c = 20
  · rw [if_pos h, if_pos h]
  · rw [if_neg h, if_neg h]; omega
theorem ml_ch_self {n : Nat} {y : Nat → Int} {A : Nat} (hA : A < 20) : ml_ch n y A A = 1 := by
  unfold ml_ch
  rw [if_neg (by omega), if_pos rfl, if_neg (fun z => ml_par_ne A hA z.symm)]; rfl
theorem ml_ch_ne {n : Nat} {y : Nat → Int} {A c : Nat} (hA : A < 20) (hc : c < 20) (h : ml_kl c ≠ ml_kl A) : ml_ch n y A c = 0 := by
  unfold ml_ch
  rw [if_neg (by omega), if_neg (fun z => h (by rw [z])), if_neg (fun z => h (by rw [z, ml_kl_par A hA]))]; rfl
theorem ml_ch_20 {n : Nat} {y : Nat → Int} {A : Nat} : ml_ch n y A 20 = - ml_h n y A := if_pos rfl
theorem ml_row_sw {n : Nat} {x y : Nat → Int} (e : Int) (P Q O c : Nat) : ml_row n x y (-e) Q P O c = ml_row n x y e P Q O c := by
  unfold ml_row
  rw [ml_bk_sw Q P, ml_bk_sw P O, ml_bk_sw O Q]; grind
theorem ml_row_p {n : Nat} {x y : Nat → Int} (e : Int) {P : Nat} (hP : P < 20) (Q O c : Nat) : ml_row n x y (-e) (ml_par P) Q O c = ml_row n x y e P Q O c := by
  unfold ml_row
  rw [ml_bk_p1 hP, ml_ch_p hP, ml_bk_p2 hP]; grind
/-- the new row is an exact quotient -/
theorem ml_row_piv {n : Nat} {x y : Nat → Int} {e : Int} (he : e = 1 ∨ e = -1) (P Q R O c : Nat) :
    (e * ml_bk n x P Q) * ml_row n x y e Q R O c = ml_row n x y e P Q O c * (e * ml_bk n x Q R) - (e * ml_bk n x Q O) * ml_row n x y e P Q R c := by
  unfold ml_row ml_bk
  generalize ml_ch n y O c = cO
  generalize ml_ch n y P c = cP
  generalize ml_ch n y Q c = cQ
  generalize ml_ch n y R c = cR
  generalize ml_g1 n x P = p1
  generalize ml_g1 n x Q = q1
  generalize ml_g1 n x R = r1
  generalize ml_g1 n x O = o1
  generalize ml_g2 n P = p2
  generalize ml_g2 n Q = q2
  generalize ml_g2 n R = r2
  generalize ml_g2 n O = o2
  rcases he with rfl | rfl <;> grind
theorem ml_row_rot {n : Nat} {x y : Nat → Int} (e : Int) (P Q R c : Nat) : ml_row n x y e Q R P c = ml_row n x y e P Q R c := by
  unfold ml_row; grind
def ml_live (n c : Nat) : Prop := c < 4 ∨ (4 ≤ c ∧ c < 4 + n) ∨ (12 ≤ c ∧ c < 12 + n)
/-- the closed form of the table -/
def ml_IV (n : Nat) (x y : Nat → Int) (l : Int) (s : ml_St) (e : Int) (P Q : Nat) : Prop :=
  (e = 1 ∨ e = -1) ∧ P < 20 ∧ Q < 20 ∧ ml_kl P ≠ ml_kl Q ∧
  (∀ r, r < n → s.2.2 r < 20 ∧ ml_kl (s.2.2 r) ≠ ml_kl P ∧ ml_kl (s.2.2 r) ≠ ml_kl Q) ∧
  (∀ r, r < n → ∀ r', r' < n → r ≠ r' → ml_kl (s.2.2 r) ≠ ml_kl (s.2.2 r')) ∧
  (∀ c, c < 20 → ml_live n c → ml_kl c = ml_kl P ∨ ml_kl c = ml_kl Q ∨ ∃ r, r < n ∧ ml_kl c = ml_kl (s.2.2 r)) ∧
  s.2.1 = e * ml_bk n x P Q ∧ 0 < s.2.1 ∧
  (∀ r, r < n → ∀ c, c ≤ 20 → s.1 r c = ml_row n x y e P Q (s.2.2 r) c) ∧
  (∀ c, c ≤ 20 → s.1 8 c = s.2.1 * ml_cost n l c - ml_sm (fun r => ml_cost n l (s.2.2 r) * s.1 r c) n) ∧
  (∀ r, r < n → 0 ≤ s.1 r 20)
theorem ml_IV_sw {n : Nat} {x y : Nat → Int} {l : Int} {s : ml_St} {e : Int} {P Q : Nat} (h : ml_IV n x y l s e P Q) : ml_IV n x y l s (-e) Q P := by
  obtain ⟨h1, h2, h3, h4, h5, h6, h7, h8, h9, h10, h11, h12⟩ := h
  refine ⟨by omega, h3, h2, fun z => h4 z.symm, fun r hr => ⟨(h5 r hr).1, (h5 r hr).2.2, (h5 r hr).2.1⟩, h6, fun c hc hl => ?_, ?_, h9, fun r hr c hc => ?_, h11, h12⟩
  · rcases h7 c hc hl with h | h | h
    · exact Or.inr (Or.inl h)
    · exact Or.inl h
    · exact Or.inr (Or.inr h)
  · rw [h8, ml_bk_sw]; grind
  · rw [h10 r hr c hc, ml_row_sw]
theorem ml_IV_par {n : Nat} {x y : Nat → Int} {l : Int} {s : ml_St} {e : Int} {P Q : Nat} (h : ml_IV n x y l s e P Q) : ml_IV n x y l s (-e) (ml_par P) Q := by
  obtain ⟨h1, h2, h3, h4, h5, h6, h7, h8, h9, h10, h11, h12⟩ := h
  have hk := ml_kl_par P h2
  refine ⟨by omega, ml_par_lt P h2, h3, by rw [hk]; exact h4, by rw [hk]; exact h5, h6, by rw [hk]; exact h7, ?_, h9, fun r hr c hc => ?_, h11, h12⟩
  · rw [h8, ml_bk_p1 h2]; grind
  · rw [h10 r hr c hc, ml_row_p e h2]
theorem ml_IV_diag {n : Nat} {x y : Nat → Int} {l : Int} {s : ml_St} {e : Int} {P Q : Nat} (h : ml_IV n x y l s e P Q) :
    ∀ r, r < n → ∀ r', r' < n → s.1 r (s.2.2 r') = if r = r' then s.2.1 else 0 := by
  obtain ⟨h1, h2, h3, h4, h5, h6, h7, h8, h9, h10, h11, h12⟩ := h
  intro r hr r' hr'
  obtain ⟨a1, a2, a3⟩ := h5 r hr
  obtain ⟨b1, b2, b3⟩ := h5 r' hr'
  rw [h10 r hr _ (by omega)]
  unfold ml_row
  rw [ml_ch_ne h2 b1 b2, ml_ch_ne h3 b1 b3, h8]
  by_cases e' : r = r'
  · subst e'
    rw [ml_ch_self a1, if_pos rfl]; grind
  · rw [ml_ch_ne a1 b1 (h6 r' hr' r hr (fun z => e' z.symm)), if_neg e']; grind
theorem ml_IV_c0 {n : Nat} {x y : Nat → Int} {l : Int} {s : ml_St} {e : Int} {P Q : Nat} (h : ml_IV n x y l s e P Q) : ∀ r, r < n → s.1 8 (s.2.2 r) = 0 := by
  have hd := ml_IV_diag h
  obtain ⟨h1, h2, h3, h4, h5, h6, h7, h8, h9, h10, h11, h12⟩ := h
  intro r hr
  have hb := (h5 r hr).1
  rw [h11 _ (by omega), ml_sm_one (k := r) hr (fun i hi hne => by rw [hd i hi r hr, if_neg hne, Int.mul_zero]), hd r hr r hr, if_pos rfl, Int.mul_comm]
  omega
theorem ml_IV_ok {n : Nat} {x y : Nat → Int} {l : Int} {s : ml_St} {e : Int} {P Q : Nat} (h : ml_IV n x y l s e P Q) : ml_Ok n s :=
  ⟨h.2.2.2.2.2.2.2.2.1, fun r hr => (h.2.2.2.2.1 r hr).1, ml_IV_diag h, ml_IV_c0 h, h.2.2.2.2.2.2.2.2.2.2.2⟩
/-- a column that may enter is one of the free ones -/
theorem ml_IV_q {n : Nat} {x y : Nat → Int} {l : Int} {s : ml_St} {e : Int} {P Q row q : Nat} (h : ml_IV n x y l s e P Q) (hr : row < n) (hq : q < 20) (hc : s.1 8 q < 0) (hp : 0 < s.1 row q) :
    ∃ e' Q', ml_IV n x y l s e' q Q' := by
  have hv := h
  have h0 := ml_IV_c0 h row hr
  obtain ⟨h1, h2, h3, h4, h5, h6, h7, h8, h9, h10, h11, h12⟩ := h
  obtain ⟨a1, a2, a3⟩ := h5 row hr
  by_cases kp : ml_kl q = ml_kl P
  · rcases ml_kl_eq q hq P h2 kp with rfl | rfl
    · exact ⟨e, Q, hv⟩
    · exact ⟨-e, Q, ml_IV_par hv⟩
  · by_cases kq : ml_kl q = ml_kl Q
    · rcases ml_kl_eq q hq Q h3 kq with rfl | rfl
      · exact ⟨-e, P, ml_IV_sw hv⟩
      · exact ⟨- -e, P, ml_IV_par (ml_IV_sw hv)⟩
    · exfalso
      rw [h10 row hr q (by omega)] at hp
      unfold ml_row at hp
      rw [ml_ch_ne h2 hq kp, ml_ch_ne h3 hq kq] at hp
      by_cases kr : ml_kl q = ml_kl (s.2.2 row)
      · rcases ml_kl_eq q hq _ a1 kr with e1 | e1
        · rw [e1] at hc; omega
        · have e2 : ml_ch n y (s.2.2 row) q = -1 := by
            rw [e1, ← ml_par_par _ a1, ml_ch_p (ml_par_lt _ a1), ml_par_par _ a1, ml_ch_self (ml_par_lt _ a1)]
          rw [e2] at hp
          have : e * (ml_bk n x P Q * -1 + ml_bk n x Q (s.2.2 row) * 0 + ml_bk n x (s.2.2 row) P * 0) = - s.2.1 := by rw [h8]; grind
          omega
      · rw [ml_ch_ne a1 hq kr] at hp
        simp at hp
/-- the exchange keeps the closed form -/
theorem ml_IV_piv {n : Nat} {x y : Nat → Int} {l : Int} {s : ml_St} {e : Int} {P Q row : Nat} (hn : n ≤ 8) (h : ml_IV n x y l s e P Q) (hr : row < n) (hp : 0 < s.1 row P)
    (hrat : ∀ r, r < n → 0 < s.1 r P → s.1 row 20 * s.1 r P ≤ s.1 r 20 * s.1 row P) :
    ∃ s' : ml_St, ml_IV n x y l s' e Q (s.2.2 row) ∧ s'.2.1 = s.1 row P ∧
      (∀ r, (r < n ∨ r = 8) → r ≠ row → ∀ c, c ≤ 20 → s.2.1 * s'.1 r c = s.1 r c * s.1 row P - s.1 r P * s.1 row c) ∧
      (∀ c, c ≤ 20 → s'.1 row c = s.1 row c) ∧ (∀ r, s'.2.2 r = if r = row then P else s.2.2 r) := by
  have hd := ml_IV_diag h
  obtain ⟨h1, h2, h3, h4, h5, h6, h7, h8, h9, h10, h11, h12⟩ := h
  obtain ⟨a1, a2, a3⟩ := h5 row hr
  -- the entry in column P
  have hP : ∀ r, r < n → s.1 r P = e * ml_bk n x Q (s.2.2 r) := by
    intro r hr'
    obtain ⟨b1, b2, b3⟩ := h5 r hr'
    rw [h10 r hr' P (by omega)]
    unfold ml_row
    rw [ml_ch_self h2, ml_ch_ne b1 h2 (fun z => b2 z.symm), ml_ch_ne h3 h2 h4]; grind
  let ow : Nat → Nat := fun r => if r = row then P else s.2.2 r
  let T0 : Nat → Nat → Int := fun r c => ml_row n x y e Q (s.2.2 row) (ow r) c
  have hT0row : ∀ c, c ≤ 20 → T0 row c = s.1 row c := by
    intro c hc
    show ml_row n x y e Q (s.2.2 row) (if row = row then P else s.2.2 row) c = _
    rw [if_pos rfl, ml_row_rot, h10 row hr c hc]
  have hT0 : ∀ r, r < n → r ≠ row → ∀ c, c ≤ 20 → s.2.1 * T0 r c = s.1 r c * s.1 row P - s.1 r P * s.1 row c := by
    intro r hr' hne c hc
    show s.2.1 * ml_row n x y e Q (s.2.2 row) (if r = row then P else s.2.2 r) c = _
    rw [if_neg hne, h8, hP r hr', hP row hr, h10 r hr' c hc, h10 row hr c hc]
    exact ml_row_piv h1 P Q (s.2.2 row) (s.2.2 r) c
  let C0 : Nat → Int := fun c => s.1 row P * ml_cost n l c - ml_sm (fun r => ml_cost n l (ow r) * T0 r c) n
  let T' : Nat → Nat → Int := fun r c => if r = 8 then C0 c else T0 r c
  have hT' : ∀ r, r < n → ∀ c, T' r c = T0 r c := fun r hr' c => if_neg (by omega)
  have hC0 : ∀ c, c ≤ 20 → s.2.1 * C0 c = s.1 8 c * s.1 row P - s.1 8 P * s.1 row c := by
    intro c hc
    have e1 : s.2.1 * ml_sm (fun r => ml_cost n l (ow r) * T0 r c) n =
        s.1 row P * ml_sm (fun r => ml_cost n l (s.2.2 r) * s.1 r c) n - s.1 row c * ml_sm (fun r => ml_cost n l (s.2.2 r) * s.1 r P) n + s.2.1 * ml_cost n l P * s.1 row c := by
      rw [← ml_sm_mul, ← ml_sm_mul, ← ml_sm_mul, ← ml_sm_sub]
      rw [show s.2.1 * ml_cost n l P * s.1 row c = ml_sm (fun r => if r = row then s.2.1 * ml_cost n l P * s.1 row c else 0) n from by
        rw [ml_sm_one (k := row) hr (fun i hi hne => if_neg hne), if_pos rfl]]
      rw [← ml_sm_add]
      refine ml_sm_congr (fun r hr' => ?_)
      by_cases e' : r = row
      · subst e'
        rw [if_pos rfl, hT0row c hc]
        show s.2.1 * (ml_cost n l (if r = r then P else s.2.2 r) * s.1 r c) = _
        rw [if_pos rfl]; grind
      · rw [if_neg e']
        have h := hT0 r hr' e' c hc
        show s.2.1 * (ml_cost n l (if r = row then P else s.2.2 r) * T0 r c) = _
        rw [if_neg e']; grind
    rw [h11 c hc, h11 P (by omega)]
    show s.2.1 * (s.1 row P * ml_cost n l c - ml_sm (fun r => ml_cost n l (ow r) * T0 r c) n) = _
    rw [Int.mul_sub, e1]; grind
  refine ⟨(T', s.1 row P, ow), ⟨h1, h3, a1, fun z => a3 z.symm, fun r hr' => ?_, fun r hr' r' hr'' hne => ?_, fun c hc hl => ?_, hP row hr, hp, fun r hr' c hc => hT' r hr' c, fun c hc => ?_, fun r hr' => ?_⟩, rfl, ?_, ?_, fun r => rfl⟩
  · show (if r = row then P else s.2.2 r) < 20 ∧ ml_kl (if r = row then P else s.2.2 r) ≠ ml_kl Q ∧ ml_kl (if r = row then P else s.2.2 r) ≠ ml_kl (s.2.2 row)
    by_cases e' : r = row
    · rw [if_pos e']; exact ⟨h2, h4, fun z => a2 z.symm⟩
    · rw [if_neg e']; exact ⟨(h5 r hr').1, (h5 r hr').2.2, h6 r hr' row hr e'⟩
  · show ml_kl (if r = row then P else s.2.2 r) ≠ ml_kl (if r' = row then P else s.2.2 r')
    by_cases e' : r = row
    · rw [if_pos e', if_neg (fun z => hne (e'.trans z.symm))]; exact fun z => (h5 r' hr'').2.1 z.symm
    · rw [if_neg e']
      by_cases e'' : r' = row
      · rw [if_pos e'']; exact (h5 r hr').2.1
      · rw [if_neg e'']; exact h6 r hr' r' hr'' hne
  · rcases h7 c hc hl with h | h | ⟨r, hr', h⟩
    · exact Or.inr (Or.inr ⟨row, hr, by show _ = ml_kl (if row = row then P else s.2.2 row); rw [if_pos rfl]; exact h⟩)
    · exact Or.inl h
    · by_cases e' : r = row
      · exact Or.inr (Or.inl (by rw [← e']; exact h))
      · exact Or.inr (Or.inr ⟨r, hr', by show _ = ml_kl (if r = row then P else s.2.2 r); rw [if_neg e']; exact h⟩)
  · show (if (8 : Nat) = 8 then C0 c else T0 8 c) = s.1 row P * ml_cost n l c - ml_sm (fun r => ml_cost n l (ow r) * T' r c) n
    rw [if_pos rfl, ml_sm_congr (g := fun r => ml_cost n l (ow r) * T0 r c) (fun r hr' => by rw [hT' r hr' c])]
  · show 0 ≤ T' r 20
    rw [hT' r hr' 20]
    by_cases e' : r = row
    · rw [e', hT0row 20 (by omega)]; exact h12 row hr
    · have h := hT0 r hr' e' 20 (by omega)
      refine ml_cle h9 ?_
      rw [h, Int.mul_zero]
      by_cases hs : 0 < s.1 r P
      · have := hrat r hr' hs
        rw [Int.mul_comm (s.1 r P)]; omega
      · have k1 := Int.mul_nonneg (h12 r hr') (Int.le_of_lt hp)
        have k2 := Int.mul_nonneg (show 0 ≤ -(s.1 r P) by omega) (h12 row hr)
        rw [Int.neg_mul] at k2; omega
  · intro r hr' hne c hc
    rcases hr' with hr' | rfl
    · show s.2.1 * T' r c = _
      rw [hT' r hr' c]; exact hT0 r hr' hne c hc
    · show s.2.1 * (if (8 : Nat) = 8 then C0 c else T0 8 c) = _
      rw [if_pos rfl]; exact hC0 c hc
  · intro c hc
    show T' row c = _
    rw [hT' row hr c]; exact hT0row c hc
end
section
def ml_cf (l z : Int) : Int := if 0 < z then l * z else (l - 4) * z
def ml_LC (n : Nat) (x y : Nat → Int) (l A B W : Int) : Int := ml_sm (fun k => ml_cf l (W * y k - A * x k - B)) n
/-- t / b is the least cost of a line -/
def ml_min (n : Nat) (x y : Nat → Int) (l t b : Int) : Prop :=
  0 < b ∧ 0 ≤ t ∧ (∃ A B W, 0 < W ∧ b * ml_LC n x y l A B W = W * t) ∧ ∀ A B W, 0 < W → W * t ≤ b * ml_LC n x y l A B W
theorem ml_cf_nn {l : Int} (h1 : 1 ≤ l) (h3 : l ≤ 3) (z : Int) : 0 ≤ ml_cf l z := by
  unfold ml_cf
  split
  · exact Int.mul_nonneg (by omega) (by omega)
  · have := Int.mul_nonneg (show 0 ≤ 4 - l by omega) (show 0 ≤ -z by omega)
    have e : (4 - l) * -z = (l - 4) * z := by grind
    omega
theorem ml_LC_nn {n : Nat} {x y : Nat → Int} {l : Int} (h1 : 1 ≤ l) (h3 : l ≤ 3) (A B W : Int) : 0 ≤ ml_LC n x y l A B W := ml_sm_nonneg (fun _ _ => ml_cf_nn h1 h3 _)
def ml_pp (z : Int) : Int := if 0 < z then z else 0
theorem ml_pp_nn (z : Int) : 0 ≤ ml_pp z := by unfold ml_pp; split <;> omega
theorem ml_pp_np {z : Int} (h : z ≤ 0) : ml_pp z = 0 := if_neg (by omega)
theorem ml_pp_sub (z : Int) : ml_pp z - ml_pp (-z) = z := by unfold ml_pp; split <;> split <;> omega
theorem ml_pp_cf (l z : Int) : l * ml_pp z + (4 - l) * ml_pp (-z) = ml_cf l z := by
  unfold ml_pp ml_cf
  by_cases h : 0 < z
  · rw [if_pos h, if_neg (by omega), if_pos h]; grind
  · by_cases h2 : z = 0
    · subst h2; simp
    · rw [if_neg h, if_pos (by omega), if_neg h]; grind
def ml_F (n : Nat) (x y : Nat → Int) (A B W : Int) (c : Nat) : Int := ml_g1 n x c * A + ml_g2 n c * B - W * ml_h n y c
theorem ml_F_par {n : Nat} {x y : Nat → Int} {A B W : Int} {c : Nat} (hc : c < 20) : ml_F n x y A B W (ml_par c) = - ml_F n x y A B W c := by
  unfold ml_F; rw [ml_g1_par c hc, ml_g2_par c hc, ml_h_par c hc]; grind
theorem ml_ch_sum {n : Nat} {y : Nat → Int} {A : Nat} (hA : A < 20) (z : Nat → Int) : ml_sm (fun c => ml_ch n y A c * z c) 20 = z A - z (ml_par A) := by
  have e : ∀ c, c < 20 → ml_ch n y A c * z c = (if c = A then z A else 0) - (if c = ml_par A then z (ml_par A) else 0) := by
    intro c hc
    unfold ml_ch
    rw [if_neg (by omega)]
    by_cases h1 : c = A
    · subst h1
      rw [if_pos rfl, if_pos rfl, if_neg (fun z => ml_par_ne c hc z.symm), if_neg (fun z => ml_par_ne c hc z.symm)]; omega
    · rw [if_neg h1, if_neg h1]
      by_cases h2 : c = ml_par A
      · rw [if_pos h2, if_pos h2, h2]; omega
      · rw [if_neg h2, if_neg h2]; omega
  rw [ml_sm_congr e, ml_sm_sub, ml_sm_one (k := A) hA (fun i hi hne => if_neg hne), ml_sm_one (k := ml_par A) (ml_par_lt A hA) (fun i hi hne => if_neg hne), if_pos rfl, if_pos rfl]
/-- a row holds of the parts of any line -/
theorem ml_row_sum {n : Nat} {x y : Nat → Int} {e A B W : Int} {P Q O : Nat} (hP : P < 20) (hQ : Q < 20) (hO : O < 20) :
    ml_sm (fun c => ml_row n x y e P Q O c * ml_pp (ml_F n x y A B W c)) 20 = W * ml_row n x y e P Q O 20 := by
  have s : ∀ X, X < 20 → ml_sm (fun c => ml_ch n y X c * ml_pp (ml_F n x y A B W c)) 20 = ml_F n x y A B W X := by
    intro X hX
    rw [ml_ch_sum hX, ml_F_par hX]
    exact ml_pp_sub _
  have e1 : ml_sm (fun c => ml_row n x y e P Q O c * ml_pp (ml_F n x y A B W c)) 20 =
      e * (ml_bk n x P Q * ml_F n x y A B W O + ml_bk n x Q O * ml_F n x y A B W P + ml_bk n x O P * ml_F n x y A B W Q) := by
    rw [← s O hO, ← s P hP, ← s Q hQ, ← ml_sm_mul, ← ml_sm_mul, ← ml_sm_mul, ← ml_sm_add, ← ml_sm_add, ← ml_sm_mul]
    refine ml_sm_congr (fun c hc => ?_)
    unfold ml_row
    grind
  rw [e1]
  unfold ml_row
  rw [ml_ch_20, ml_ch_20, ml_ch_20]
  unfold ml_F ml_bk
  generalize ml_g1 n x P = p1
  generalize ml_g1 n x Q = q1
  generalize ml_g1 n x O = o1
  generalize ml_g2 n P = p2
  generalize ml_g2 n Q = q2
  generalize ml_g2 n O = o2
  generalize ml_h n y P = p3
  generalize ml_h n y Q = q3
  generalize ml_h n y O = o3
  grind
theorem ml_cost_sum {n : Nat} {x y : Nat → Int} {l A B W : Int} (hn : n ≤ 8) : ml_sm (fun c => ml_cost n l c * ml_pp (ml_F n x y A B W c)) 20 = ml_LC n x y l A B W := by
  have e1 := ml_sm_app (fun c => ml_cost n l c * ml_pp (ml_F n x y A B W c)) 4 16
  have e2 := ml_sm_app (fun i => ml_cost n l (4 + i) * ml_pp (ml_F n x y A B W (4 + i))) 8 8
  rw [show 4 + 16 = 20 from rfl, ml_sm_z (n := 4) (fun i hi => by rw [ml_cost_lo hi, Int.zero_mul]), show (16 : Nat) = 8 + 8 from rfl, e2, ← ml_sm_add] at e1
  rw [show (20 : Nat) = 4 + (8 + 8) from rfl, e1]
  have e3 : ∀ i, i < 8 → ml_cost n l (4 + i) * ml_pp (ml_F n x y A B W (4 + i)) + ml_cost n l (4 + (8 + i)) * ml_pp (ml_F n x y A B W (4 + (8 + i))) = if i < n then ml_cf l (W * y i - A * x i - B) else 0 := by
    intro i hi
    rw [show 4 + (8 + i) = 12 + i by omega, ml_cost_4 hi, ml_cost_12 hi]
    by_cases h : i < n
    · rw [if_pos h, if_pos h, if_pos h, ← ml_pp_cf]
      unfold ml_F
      rw [ml_g1_4 hi, ml_g2_4 hi, ml_h_4 hi, ml_g1_12, ml_g2_12, ml_h_12, if_pos h, if_pos h, if_pos h, if_pos h, if_pos h, if_pos h]
      rw [show -x i * A + -1 * B - W * -y i = W * y i - A * x i - B by grind, show x i * A + 1 * B - W * y i = -(W * y i - A * x i - B) by grind]
    · rw [if_neg h, if_neg h, if_neg h]; omega
  rw [ml_sm_congr e3, Int.zero_add]
  unfold ml_LC
  have e4 := ml_sm_app (fun i => if i < n then ml_cf l (W * y i - A * x i - B) else 0) n (8 - n)
  rw [show n + (8 - n) = 8 by omega, ml_sm_z (n := 8 - n) (fun i hi => if_neg (by omega))] at e4
  rw [e4, Int.add_zero]
  exact ml_sm_congr (fun i hi => if_pos hi)
/-- the cost row against any line -/
theorem ml_dual {n : Nat} {x y : Nat → Int} {l : Int} {s : ml_St} {e : Int} {P Q : Nat} (hn : n ≤ 8) (h : ml_IV n x y l s e P Q) (A B W : Int) :
    ml_sm (fun c => s.1 8 c * ml_pp (ml_F n x y A B W c)) 20 = s.2.1 * ml_LC n x y l A B W + W * s.1 8 20 := by
  obtain ⟨h1, h2, h3, h4, h5, h6, h7, h8, h9, h10, h11, h12⟩ := h
  have hc : ∀ (z : Nat → Int) (m : Nat), m ≤ 20 → ml_sm (fun c => s.1 8 c * z c) m = s.2.1 * ml_sm (fun c => ml_cost n l c * z c) m - ml_sm (fun r => ml_cost n l (s.2.2 r) * ml_sm (fun c => s.1 r c * z c) m) n := by
    intro z m
    induction m with
    | zero =>
      intro _
      rw [ml_sm_z (n := n) (fun r hr => by show ml_cost n l (s.2.2 r) * 0 = 0; omega)]
      show (0 : Int) = s.2.1 * 0 - 0
      omega
    | succ m ih =>
      intro hm
      rw [ml_sm_s, ih (by omega), h11 m (by omega), ml_sm_s]
      have e1 : ml_sm (fun r => ml_cost n l (s.2.2 r) * ml_sm (fun c => s.1 r c * z c) (m + 1)) n = ml_sm (fun r => ml_cost n l (s.2.2 r) * ml_sm (fun c => s.1 r c * z c) m) n + z m * ml_sm (fun r => ml_cost n l (s.2.2 r) * s.1 r m) n := by
        rw [← ml_sm_mul, ← ml_sm_add]
        refine ml_sm_congr (fun r hr => ?_)
        rw [ml_sm_s]; grind
      rw [e1]; grind
  rw [hc (fun c => ml_pp (ml_F n x y A B W c)) 20 (Nat.le_refl 20), ml_cost_sum hn, h11 20 (Nat.le_refl 20), ml_cost_20]
  have e2 : ml_sm (fun r => ml_cost n l (s.2.2 r) * ml_sm (fun c => s.1 r c * ml_pp (ml_F n x y A B W c)) 20) n = W * ml_sm (fun r => ml_cost n l (s.2.2 r) * s.1 r 20) n := by
    rw [← ml_sm_mul]
    refine ml_sm_congr (fun r hr => ?_)
    rw [ml_sm_congr (g := fun c => ml_row n x y e P Q (s.2.2 r) c * ml_pp (ml_F n x y A B W c)) (fun c hc' => by rw [h10 r hr c (by omega)]), ml_row_sum h2 h3 (h5 r hr).1, ← h10 r hr 20 (Nat.le_refl 20)]
    grind
  rw [e2]; grind
/-- the end of the exchanges is the least cost -/
theorem ml_opt {n : Nat} {x y : Nat → Int} {l : Int} {s : ml_St} {e : Int} {P Q : Nat} (hn : n ≤ 8) (l1 : 1 ≤ l) (l3 : l ≤ 3) (h : ml_IV n x y l s e P Q) (ht : ∀ c, c < 20 → 0 ≤ s.1 8 c) : ml_min n x y l (-(s.1 8 20)) s.2.1 := by
  have hc0 := ml_IV_c0 h
  have hdual := ml_dual hn h
  obtain ⟨h1, h2, h3, h4, h5, h6, h7, h8, h9, h10, h11, h12⟩ := h
  -- the vertex
  have hv : ∃ A B, ml_F n x y A B s.2.1 P = 0 ∧ ml_F n x y A B s.2.1 Q = 0 := by
    refine ⟨e * (ml_h n y P * ml_g2 n Q - ml_h n y Q * ml_g2 n P), e * (ml_g1 n x P * ml_h n y Q - ml_g1 n x Q * ml_h n y P), ?_, ?_⟩
    · unfold ml_F; rw [h8]; unfold ml_bk; grind
    · unfold ml_F; rw [h8]; unfold ml_bk; grind
  obtain ⟨A, B, hFP, hFQ⟩ := hv
  have hFO : ∀ r, r < n → ml_F n x y A B s.2.1 (s.2.2 r) = s.1 r 20 := by
    intro r hr
    have hO := (h5 r hr).1
    have e1 : e * (ml_bk n x P Q * ml_F n x y A B s.2.1 (s.2.2 r) + ml_bk n x Q (s.2.2 r) * ml_F n x y A B s.2.1 P + ml_bk n x (s.2.2 r) P * ml_F n x y A B s.2.1 Q) = s.2.1 * ml_row n x y e P Q (s.2.2 r) 20 := by
      unfold ml_row
      rw [ml_ch_20, ml_ch_20, ml_ch_20]
      generalize s.2.1 = W
      unfold ml_F ml_bk
      generalize ml_g1 n x P = p1
      generalize ml_g1 n x Q = q1
      generalize ml_g1 n x (s.2.2 r) = o1
      generalize ml_g2 n P = p2
      generalize ml_g2 n Q = q2
      generalize ml_g2 n (s.2.2 r) = o2
      generalize ml_h n y P = p3
      generalize ml_h n y Q = q3
      generalize ml_h n y (s.2.2 r) = o3
      grind
    rw [hFP, hFQ, ← h10 r hr 20 (Nat.le_refl 20)] at e1
    refine ml_cancel h9 ?_
    rw [← e1, h8]; grind
  have hslack : ∀ c, c < 20 → s.1 8 c * ml_pp (ml_F n x y A B s.2.1 c) = 0 := by
    intro c hc
    have zero : ∀ X, X < 20 → ml_F n x y A B s.2.1 X = 0 → ml_kl c = ml_kl X → ml_F n x y A B s.2.1 c = 0 := by
      intro X hX hF hk
      rcases ml_kl_eq c hc X hX hk with e' | e'
      · rw [e']; exact hF
      · rw [e', ml_F_par hX, hF]; rfl
    by_cases hl : ml_live n c
    · rcases h7 c hc hl with k | k | ⟨r, hr, k⟩
      · rw [zero P h2 hFP k]; exact Int.mul_zero _
      · rw [zero Q h3 hFQ k]; exact Int.mul_zero _
      · rcases ml_kl_eq c hc _ (h5 r hr).1 k with e' | e'
        · rw [e', hc0 r hr, Int.zero_mul]
        · rw [e', ml_F_par (h5 r hr).1, hFO r hr, ml_pp_np (by have := h12 r hr; omega), Int.mul_zero]
    · have hz : ml_F n x y A B s.2.1 c = 0 := by
        revert hl
        refine ml_cols (P := fun c => ¬ ml_live n c → ml_F n x y A B s.2.1 c = 0) ?_ ?_ ?_ ?_ ?_ ?_ c hc
        · exact fun z => absurd (Or.inl (by omega)) z
        · exact fun z => absurd (Or.inl (by omega)) z
        · exact fun z => absurd (Or.inl (by omega)) z
        · exact fun z => absurd (Or.inl (by omega)) z
        · intro k hk z
          have hkn : ¬ k < n := fun w => z (Or.inr (Or.inl ⟨by omega, by omega⟩))
          unfold ml_F
          rw [ml_g1_4 hk, ml_g2_4 hk, ml_h_4 hk, if_neg hkn, if_neg hkn, if_neg hkn]; simp
        · intro k hk z
          have hkn : ¬ k < n := fun w => z (Or.inr (Or.inr ⟨by omega, by omega⟩))
          unfold ml_F
          rw [ml_g1_12, ml_g2_12, ml_h_12, if_neg hkn, if_neg hkn, if_neg hkn]; simp
      rw [hz]; exact Int.mul_zero _
  have hd := hdual A B s.2.1
  rw [ml_sm_z hslack] at hd
  have heq : ml_LC n x y l A B s.2.1 = -(s.1 8 20) := by
    refine ml_cancel h9 ?_
    rw [Int.mul_neg]; omega
  refine ⟨h9, ?_, ⟨A, B, s.2.1, h9, by rw [heq]⟩, fun A' B' W' hW => ?_⟩
  · rw [← heq]; exact ml_LC_nn l1 l3 _ _ _
  · have hd' := hdual A' B' W'
    have := ml_sm_nonneg (f := fun c => s.1 8 c * ml_pp (ml_F n x y A' B' W' c)) (n := 20) (fun c hc => Int.mul_nonneg (ht c hc) (ml_pp_nn _))
    rw [hd'] at this
    rw [Int.mul_neg]; omega
/-- two least costs are one fraction -/
theorem ml_min_uniq {n : Nat} {x y : Nat → Int} {l t b t' b' : Int} (h : ml_min n x y l t b) (h' : ml_min n x y l t' b') : t * b' = t' * b := by
  have key : ∀ {t b t' b' : Int}, ml_min n x y l t b → ml_min n x y l t' b' → t' * b ≤ t * b' := by
    intro t b t' b' h h'
    obtain ⟨h1, h2, ⟨A, B, W, hW, he⟩, h3⟩ := h
    obtain ⟨g1, g2, _, g3⟩ := h'
    have k := g3 A B W hW
    apply ml_cle hW
    have k2 := Int.mul_le_mul_of_nonneg_right k (Int.le_of_lt h1)
    have e1 : W * (t' * b) = W * t' * b := by grind
    have e2 : W * (t * b') = b' * ml_LC n x y l A B W * b := by grind
    omega
  have a := key h h'
  have b := key h' h
  omega
end
section
theorem ml_cf_p {l z : Int} (h : 0 ≤ z) : ml_cf l z = l * z := by
  unfold ml_cf
  by_cases e : 0 < z
  · rw [if_pos e]
  · rw [if_neg e, show z = 0 by omega]; simp
theorem ml_cf_m {l z : Int} (h : z ≤ 0) : ml_cf l z = (l - 4) * z := if_neg (by omega)
theorem ml_cf_sub {l s : Int} (h1 : l - 4 ≤ s) (h2 : s ≤ l) (z : Int) : s * z ≤ ml_cf l z := by
  by_cases h : 0 ≤ z
  · rw [ml_cf_p h]; exact Int.mul_le_mul_of_nonneg_right h2 h
  · rw [ml_cf_m (by omega)]
    have := Int.mul_nonneg (show 0 ≤ s - (l - 4) by omega) (show 0 ≤ -z by omega)
    have e : (s - (l - 4)) * -z = (l - 4) * z - s * z := by grind
    omega
theorem ml_cf_le {l a b α β : Int} (hl : 0 ≤ l) (h4 : l ≤ 4) (ha : 0 ≤ α) (hb : 0 ≤ β) : ml_cf l (α * a + β * b) ≤ α * ml_cf l a + β * ml_cf l b := by
  have key : ∀ s, l - 4 ≤ s → s ≤ l → s * (α * a + β * b) ≤ α * ml_cf l a + β * ml_cf l b := by
    intro s h1 h2
    have e1 := Int.mul_le_mul_of_nonneg_left (ml_cf_sub h1 h2 a) ha
    have e2 := Int.mul_le_mul_of_nonneg_left (ml_cf_sub h1 h2 b) hb
    have e3 : s * (α * a + β * b) = α * (s * a) + β * (s * b) := by grind
    omega
  by_cases h : 0 ≤ α * a + β * b
  · rw [ml_cf_p h]; exact key l (by omega) (by omega)
  · rw [ml_cf_m (by omega)]; exact key (l - 4) (by omega) (by omega)
theorem ml_cf_add {l a b α β : Int} (ha : 0 ≤ α) (hb : 0 ≤ β) (h : (0 ≤ a ∧ 0 ≤ b) ∨ (a ≤ 0 ∧ b ≤ 0)) : ml_cf l (α * a + β * b) = α * ml_cf l a + β * ml_cf l b := by
  rcases h with ⟨h1, h2⟩ | ⟨h1, h2⟩
  · have e1 := Int.mul_nonneg ha h1
    have e2 := Int.mul_nonneg hb h2
    rw [ml_cf_p h1, ml_cf_p h2, ml_cf_p (by omega)]; grind
  · have e1 := Int.mul_nonneg ha (show 0 ≤ -a by omega)
    have e2 := Int.mul_nonneg hb (show 0 ≤ -b by omega)
    rw [Int.mul_neg] at e1 e2
    rw [ml_cf_m h1, ml_cf_m h2, ml_cf_m (by omega)]; grind
theorem ml_cf_hom {l a α : Int} (ha : 0 ≤ α) : ml_cf l (α * a) = α * ml_cf l a := by
  have h : (0 ≤ a ∧ (0 : Int) ≤ 0) ∨ (a ≤ 0 ∧ (0 : Int) ≤ 0) := by omega
  have e := ml_cf_add (l := l) ha (Int.le_refl 0) h
  simpa using e
/-- costs along a pencil of lines -/
def ml_PF (n : Nat) (u v : Nat → Int) (l s w : Int) : Int := ml_sm (fun k => ml_cf l (w * u k - s * v k)) n
theorem ml_PF_nn {n : Nat} {u v : Nat → Int} {l : Int} (h1 : 1 ≤ l) (h3 : l ≤ 3) (s w : Int) : 0 ≤ ml_PF n u v l s w := ml_sm_nonneg (fun _ _ => ml_cf_nn h1 h3 _)
theorem ml_PF_hom {n : Nat} {u v : Nat → Int} {l α s w : Int} (ha : 0 ≤ α) : ml_PF n u v l (α * s) (α * w) = α * ml_PF n u v l s w := by
  unfold ml_PF
  rw [← ml_sm_mul]
  refine ml_sm_congr (fun k _ => ?_)
  rw [← ml_cf_hom ha]
  exact congrArg (ml_cf l) (by grind)
theorem ml_PF_add {n : Nat} {u v : Nat → Int} {l α β s1 w1 s2 w2 : Int} (ha : 0 ≤ α) (hb : 0 ≤ β)
    (h : ∀ k, k < n → (0 ≤ w1 * u k - s1 * v k ∧ 0 ≤ w2 * u k - s2 * v k) ∨ (w1 * u k - s1 * v k ≤ 0 ∧ w2 * u k - s2 * v k ≤ 0)) :
    ml_PF n u v l (α * s1 + β * s2) (α * w1 + β * w2) = α * ml_PF n u v l s1 w1 + β * ml_PF n u v l s2 w2 := by
  unfold ml_PF
  rw [← ml_sm_mul, ← ml_sm_mul, ← ml_sm_add]
  refine ml_sm_congr (fun k hk => ?_)
  rw [← ml_cf_add ha hb (h k hk)]
  exact congrArg (ml_cf l) (by grind)
theorem ml_PF_le {n : Nat} {u v : Nat → Int} {l α β s1 w1 s2 w2 : Int} (hl : 0 ≤ l) (h4 : l ≤ 4) (ha : 0 ≤ α) (hb : 0 ≤ β) :
    ml_PF n u v l (α * s1 + β * s2) (α * w1 + β * w2) ≤ α * ml_PF n u v l s1 w1 + β * ml_PF n u v l s2 w2 := by
  unfold ml_PF
  rw [← ml_sm_mul, ← ml_sm_mul, ← ml_sm_add]
  refine ml_sm_le (fun k hk => ?_)
  have e := ml_cf_le (l := l) (a := w1 * u k - s1 * v k) (b := w2 * u k - s2 * v k) hl h4 ha hb
  rw [show (α * w1 + β * w2) * u k - (α * s1 + β * s2) * v k = α * (w1 * u k - s1 * v k) + β * (w2 * u k - s2 * v k) by grind]
  exact e
/-- equal slopes, equal costs -/
theorem ml_PF_eq {n : Nat} {u v : Nat → Int} {l s1 w1 s2 w2 : Int} (h1 : 0 ≤ w1) (h2 : 0 ≤ w2) (e : s1 * w2 = s2 * w1) : w2 * ml_PF n u v l s1 w1 = w1 * ml_PF n u v l s2 w2 := by
  rw [← ml_PF_hom h2, ← ml_PF_hom h1, show w2 * s1 = w1 * s2 by grind, Int.mul_comm w2 w1]
/-- a strict rise from a to b: nothing behind b is below a -/
theorem ml_PF_conv {n : Nat} {u v : Nat → Int} {l sa wa sb wb sc wc : Int} (hl : 0 ≤ l) (h4 : l ≤ 4) (ha : 0 < wa) (hb : 0 < wb) (hc : 0 < wc) (hab : sa * wb ≤ sb * wa) (hbc : sb * wc ≤ sc * wb)
    (hr : ml_PF n u v l sa wa * wb < ml_PF n u v l sb wb * wa) : ml_PF n u v l sa wa * wc ≤ ml_PF n u v l sc wc * wa := by
  apply Classical.byContradiction
  intro hcon
  have hac := ml_tr ha hb hc hab hbc
  have k := ml_PF_le (n := n) (u := u) (v := v) (l := l) (α := sc * wb - sb * wc) (β := sb * wa - sa * wb) (s1 := sa) (w1 := wa) (s2 := sc) (w2 := wc) hl h4 (by omega) (by omega)
  rw [show (sc * wb - sb * wc) * sa + (sb * wa - sa * wb) * sc = (sc * wa - sa * wc) * sb by grind, show (sc * wb - sb * wc) * wa + (sb * wa - sa * wb) * wc = (sc * wa - sa * wc) * wb by grind, ml_PF_hom (show 0 ≤ sc * wa - sa * wc by omega)] at k
  by_cases z : sa * wc = sc * wa
  · have e := ml_PF_eq (n := n) (u := u) (v := v) (l := l) (Int.le_of_lt ha) (Int.le_of_lt hc) z
    rw [Int.mul_comm wc, Int.mul_comm wa] at e
    omega
  · have hd : 0 < sc * wa - sa * wc := by omega
    generalize ml_PF n u v l sa wa = FA at *
    generalize ml_PF n u v l sb wb = FB at *
    generalize ml_PF n u v l sc wc = FC at *
    have k2 := Int.mul_le_mul_of_nonneg_left k (Int.le_of_lt ha)
    have k3 := Int.mul_le_mul_of_nonneg_left (show FC * wa ≤ FA * wc by omega) (show 0 ≤ sb * wa - sa * wb by omega)
    have k4 := Int.mul_lt_mul_of_pos_left hr hd
    have e1 : wa * ((sc * wa - sa * wc) * FB) = (sc * wa - sa * wc) * (FB * wa) := by grind
    have e2 : wa * ((sc * wb - sb * wc) * FA + (sb * wa - sa * wb) * FC) = wa * ((sc * wb - sb * wc) * FA) + (sb * wa - sa * wb) * (FC * wa) := by grind
    have e3 : wa * ((sc * wb - sb * wc) * FA) + (sb * wa - sa * wb) * (FA * wc) = (sc * wa - sa * wc) * (FA * wb) := by grind
    omega
theorem ml_fmin {P : Nat → Prop} {p q : Nat → Int} {N : Nat} (hq : ∀ j, j < N → P j → 0 < q j) (h : ∃ j, j < N ∧ P j) : ∃ j, j < N ∧ P j ∧ ∀ k, k < N → P k → p j * q k ≤ p k * q j := by
  induction N with
  | zero => obtain ⟨j, hj, _⟩ := h; omega
  | succ N ih =>
    by_cases e : ∃ j, j < N ∧ P j
    · obtain ⟨j, j1, j2, j3⟩ := ih (fun j hj => hq j (by omega)) e
      by_cases pn : P N
      · by_cases c : p j * q N ≤ p N * q j
        · refine ⟨j, by omega, j2, fun k hk pk => ?_⟩
          by_cases z : k = N
          · subst z; exact c
          · exact j3 k (by omega) pk
        · refine ⟨N, by omega, pn, fun k hk pk => ?_⟩
          by_cases z : k = N
          · subst z; exact Int.le_refl _
          · exact ml_tr (hq N (by omega) pn) (hq j (by omega) j2) (hq k (by omega) pk) (by omega) (j3 k (by omega) pk)
      · refine ⟨j, by omega, j2, fun k hk pk => j3 k ?_ pk⟩
        have : k ≠ N := fun z => pn (z ▸ pk)
        omega
    · obtain ⟨j, hj, pj⟩ := h
      have hjN : j = N := by
        apply Classical.byContradiction
        intro z
        exact e ⟨j, by omega, pj⟩
      subst hjN
      refine ⟨j, by omega, pj, fun k hk pk => ?_⟩
      by_cases z : k = j
      · subst z; exact Int.le_refl _
      · exact absurd ⟨k, by omega, pk⟩ e
def ml_pj (u v : Nat → Int) (j : Nat) : Int := if 0 < v j then u j else - u j
def ml_qj (v : Nat → Int) (j : Nat) : Int := if 0 < v j then v j else - v j
theorem ml_qj_pos {v : Nat → Int} {j : Nat} (h : v j ≠ 0) : 0 < ml_qj v j := by unfold ml_qj; split <;> omega
/-- the sign of a deviation against its breakpoint -/
theorem ml_dev {u v : Nat → Int} (k : Nat) (s w : Int) : (0 < v k ∧ w * u k - s * v k = ml_pj u v k * w - s * ml_qj v k) ∨ (v k ≤ 0 ∧ w * u k - s * v k = -(ml_pj u v k * w - s * ml_qj v k)) := by
  unfold ml_pj ml_qj
  by_cases h : 0 < v k
  · rw [if_pos h, if_pos h]; exact Or.inl ⟨h, by grind⟩
  · rw [if_neg h, if_neg h]; exact Or.inr ⟨by omega, by grind⟩
/-- the least cost along a pencil is at a breakpoint -/
theorem ml_PL {n : Nat} {u v : Nat → Int} {l S Wt : Int} (h1 : 1 ≤ l) (h3 : l ≤ 3) (hW : 0 < Wt) (hex : ∃ j, j < n ∧ v j ≠ 0) :
    ∃ j, j < n ∧ v j ≠ 0 ∧ Wt * ml_PF n u v l (ml_pj u v j) (ml_qj v j) ≤ ml_qj v j * ml_PF n u v l S Wt := by
  by_cases hon : ∃ j, j < n ∧ v j ≠ 0 ∧ ml_pj u v j * Wt = S * ml_qj v j
  · obtain ⟨j, hj, hv, e⟩ := hon
    have hq := ml_qj_pos hv
    exact ⟨j, hj, hv, Int.le_of_eq (ml_PF_eq (Int.le_of_lt hq) (Int.le_of_lt hW) e)⟩
  · by_cases hR : ∃ j, j < n ∧ (v j ≠ 0 ∧ S * ml_qj v j < ml_pj u v j * Wt)
    · obtain ⟨R, R1, ⟨R2, R3⟩, R4⟩ := ml_fmin (p := ml_pj u v) (q := ml_qj v) (fun j _ hp => ml_qj_pos hp.1) hR
      have qR := ml_qj_pos R2
      by_cases hL : ∃ j, j < n ∧ (v j ≠ 0 ∧ ml_pj u v j * Wt < S * ml_qj v j)
      · obtain ⟨L, L1, ⟨L2, L3⟩, L4⟩ := ml_fmin (p := fun j => - ml_pj u v j) (q := ml_qj v) (fun j _ hp => ml_qj_pos hp.1) hL
        have qL := ml_qj_pos L2
        have hsame : ∀ k, k < n → (0 ≤ ml_qj v L * u k - ml_pj u v L * v k ∧ 0 ≤ ml_qj v R * u k - ml_pj u v R * v k) ∨ (ml_qj v L * u k - ml_pj u v L * v k ≤ 0 ∧ ml_qj v R * u k - ml_pj u v R * v k ≤ 0) := by
          intro k hk
          by_cases hv : v k = 0
          · rw [hv]
            by_cases hu : 0 ≤ u k
            · have a := Int.mul_nonneg (Int.le_of_lt qL) hu
              have b := Int.mul_nonneg (Int.le_of_lt qR) hu
              left; simp; exact ⟨a, b⟩
            · have a := Int.mul_nonneg (Int.le_of_lt qL) (show 0 ≤ - u k by omega)
              have b := Int.mul_nonneg (Int.le_of_lt qR) (show 0 ≤ - u k by omega)
              rw [Int.mul_neg] at a b
              right; simp; omega
          · have qk := ml_qj_pos hv
            by_cases c : S * ml_qj v k < ml_pj u v k * Wt
            · have a := R4 k hk ⟨hv, c⟩
              have b := ml_tr qL hW qk (Int.le_of_lt L3) (Int.le_of_lt c)
              rcases ml_dev (u := u) (v := v) k (ml_pj u v L) (ml_qj v L) with ⟨d, e⟩ | ⟨d, e⟩ <;> rcases ml_dev (u := u) (v := v) k (ml_pj u v R) (ml_qj v R) with ⟨d', e'⟩ | ⟨d', e'⟩
              · left; omega
              · omega
              · omega
              · right; omega
            · have c' : ml_pj u v k * Wt < S * ml_qj v k := by
                have : ml_pj u v k * Wt ≠ S * ml_qj v k := fun z => hon ⟨k, hk, hv, z⟩
                omega
              have a := L4 k hk ⟨hv, c'⟩
              rw [Int.neg_mul, Int.neg_mul] at a
              have b := ml_tr qk hW qR (Int.le_of_lt c') (Int.le_of_lt R3)
              rcases ml_dev (u := u) (v := v) k (ml_pj u v L) (ml_qj v L) with ⟨d, e⟩ | ⟨d, e⟩ <;> rcases ml_dev (u := u) (v := v) k (ml_pj u v R) (ml_qj v R) with ⟨d', e'⟩ | ⟨d', e'⟩
              · right; omega
              · omega
              · omega
              · left; omega
        have k := ml_PF_add (l := l) (α := ml_pj u v R * Wt - S * ml_qj v R) (β := S * ml_qj v L - ml_pj u v L * Wt) (by omega) (by omega) hsame
        have hLR := ml_tr_lt qL hW qR (Int.le_of_lt L3) R3
        generalize hpL : ml_pj u v L = pL at *
        generalize hpR : ml_pj u v R = pR at *
        generalize hqL : ml_qj v L = wL at *
        generalize hqR : ml_qj v R = wR at *
        rw [show (pR * Wt - S * wR) * pL + (S * wL - pL * Wt) * pR = (pR * wL - pL * wR) * S by grind, show (pR * Wt - S * wR) * wL + (S * wL - pL * Wt) * wR = (pR * wL - pL * wR) * Wt by grind, ml_PF_hom (by omega)] at k
        by_cases g1 : Wt * ml_PF n u v l pL wL ≤ wL * ml_PF n u v l S Wt
        · exact ⟨L, L1, L2, by rw [hpL, hqL]; exact g1⟩
        · by_cases g2 : Wt * ml_PF n u v l pR wR ≤ wR * ml_PF n u v l S Wt
          · exact ⟨R, R1, R2, by rw [hpR, hqR]; exact g2⟩
          · exfalso
            generalize ml_PF n u v l pL wL = FL at *
            generalize ml_PF n u v l pR wR = FR at *
            generalize ml_PF n u v l S Wt = FS at *
            have m1 := Int.mul_lt_mul_of_pos_left (show wL * FS < Wt * FL by omega) (show 0 < pR * Wt - S * wR by omega)
            have m2 := Int.mul_lt_mul_of_pos_left (show wR * FS < Wt * FR by omega) (show 0 < S * wL - pL * Wt by omega)
            have e1 : Wt * ((pR * wL - pL * wR) * FS) = Wt * ((pR * Wt - S * wR) * FL + (S * wL - pL * Wt) * FR) := by rw [k]
            have e2 : Wt * ((pR * Wt - S * wR) * FL + (S * wL - pL * Wt) * FR) = (pR * Wt - S * wR) * (Wt * FL) + (S * wL - pL * Wt) * (Wt * FR) := by grind
            have e3 : Wt * ((pR * wL - pL * wR) * FS) = (pR * Wt - S * wR) * (wL * FS) + (S * wL - pL * Wt) * (wR * FS) := by grind
            omega
      · have hsame : ∀ k, k < n → (0 ≤ ml_qj v R * u k - ml_pj u v R * v k ∧ 0 ≤ 0 * u k - (-1) * v k) ∨ (ml_qj v R * u k - ml_pj u v R * v k ≤ 0 ∧ 0 * u k - (-1) * v k ≤ 0) := by
          intro k hk
          rw [show 0 * u k - (-1) * v k = v k by omega]
          by_cases hv : v k = 0
          · rw [hv]; omega
          · have qk := ml_qj_pos hv
            have c : S * ml_qj v k < ml_pj u v k * Wt := by
              have z1 : ml_pj u v k * Wt ≠ S * ml_qj v k := fun z => hon ⟨k, hk, hv, z⟩
              have z2 : ¬ ml_pj u v k * Wt < S * ml_qj v k := fun z => hL ⟨k, hk, hv, z⟩
              omega
            have a := R4 k hk ⟨hv, c⟩
            rcases ml_dev (u := u) (v := v) k (ml_pj u v R) (ml_qj v R) with ⟨d', e'⟩ | ⟨d', e'⟩
            · left; omega
            · right; omega
        have k := ml_PF_add (l := l) (α := Wt) (β := Wt * ml_pj u v R - S * ml_qj v R) (by omega) (by rw [Int.mul_comm Wt]; omega) hsame
        have nn := Int.mul_nonneg (show 0 ≤ Wt * ml_pj u v R - S * ml_qj v R by rw [Int.mul_comm Wt]; omega) (ml_PF_nn (n := n) (u := u) (v := v) h1 h3 (-1) 0)
        rw [show Wt * ml_pj u v R + (Wt * ml_pj u v R - S * ml_qj v R) * -1 = ml_qj v R * S by grind, show Wt * ml_qj v R + (Wt * ml_pj u v R - S * ml_qj v R) * 0 = ml_qj v R * Wt by grind, ml_PF_hom (Int.le_of_lt qR)] at k
        exact ⟨R, R1, R2, by omega⟩
    · have hL : ∃ j, j < n ∧ (v j ≠ 0 ∧ ml_pj u v j * Wt < S * ml_qj v j) := by
        obtain ⟨j, hj, hv⟩ := hex
        refine ⟨j, hj, hv, ?_⟩
        have z1 : ml_pj u v j * Wt ≠ S * ml_qj v j := fun z => hon ⟨j, hj, hv, z⟩
        have z2 : ¬ S * ml_qj v j < ml_pj u v j * Wt := fun z => hR ⟨j, hj, hv, z⟩
        omega
      obtain ⟨L, L1, ⟨L2, L3⟩, L4⟩ := ml_fmin (p := fun j => - ml_pj u v j) (q := ml_qj v) (fun j _ hp => ml_qj_pos hp.1) hL
      have qL := ml_qj_pos L2
      have hsame : ∀ k, k < n → (0 ≤ ml_qj v L * u k - ml_pj u v L * v k ∧ 0 ≤ 0 * u k - 1 * v k) ∨ (ml_qj v L * u k - ml_pj u v L * v k ≤ 0 ∧ 0 * u k - 1 * v k ≤ 0) := by
        intro k hk
        rw [show 0 * u k - 1 * v k = - v k by omega]
        by_cases hv : v k = 0
        · rw [hv]; omega
        · have qk := ml_qj_pos hv
          have c : ml_pj u v k * Wt < S * ml_qj v k := by
            have z1 : ml_pj u v k * Wt ≠ S * ml_qj v k := fun z => hon ⟨k, hk, hv, z⟩
            have z2 : ¬ S * ml_qj v k < ml_pj u v k * Wt := fun z => hR ⟨k, hk, hv, z⟩
            omega
          have a := L4 k hk ⟨hv, c⟩
          rw [Int.neg_mul, Int.neg_mul] at a
          rcases ml_dev (u := u) (v := v) k (ml_pj u v L) (ml_qj v L) with ⟨d', e'⟩ | ⟨d', e'⟩
          · right; omega
          · left; omega
      have k := ml_PF_add (l := l) (α := Wt) (β := S * ml_qj v L - Wt * ml_pj u v L) (by omega) (by rw [Int.mul_comm Wt]; omega) hsame
      have nn := Int.mul_nonneg (show 0 ≤ S * ml_qj v L - Wt * ml_pj u v L by rw [Int.mul_comm Wt]; omega) (ml_PF_nn (n := n) (u := u) (v := v) h1 h3 1 0)
      rw [show Wt * ml_pj u v L + (S * ml_qj v L - Wt * ml_pj u v L) * 1 = ml_qj v L * S by grind, show Wt * ml_qj v L + (S * ml_qj v L - Wt * ml_pj u v L) * 0 = ml_qj v L * Wt by grind, ml_PF_hom (Int.le_of_lt qL)] at k
      exact ⟨L, L1, L2, by omega⟩
end
section
/-- the cost, times q, of the line through point i with the slope p / q -/
def ml_TC (n : Nat) (x y : Nat → Int) (l : Int) (i : Nat) (p q : Int) : Int := ml_sm (fun k => ml_cf l (q * (y k - y i) - p * (x k - x i))) n
def ml_run (x : Nat → Int) (i j : Nat) : Int := if x i < x j then x j - x i else x i - x j
def ml_rise (x y : Nat → Int) (i j : Nat) : Int := if x i < x j then y j - y i else y i - y j
theorem ml_TC_PF {n : Nat} {x y : Nat → Int} {l : Int} {i : Nat} {p q : Int} : ml_TC n x y l i p q = ml_PF n (fun k => y k - y i) (fun k => x k - x i) l p q := rfl
theorem ml_TC_nn {n : Nat} {x y : Nat → Int} {l : Int} (h1 : 1 ≤ l) (h3 : l ≤ 3) (i : Nat) (p q : Int) : 0 ≤ ml_TC n x y l i p q := ml_sm_nonneg (fun _ _ => ml_cf_nn h1 h3 _)
theorem ml_TC_LC {n : Nat} {x y : Nat → Int} {l : Int} (i : Nat) (p q : Int) : ml_TC n x y l i p q = ml_LC n x y l p (q * y i - p * x i) q := by
  unfold ml_TC ml_LC
  exact ml_sm_congr (fun k _ => congrArg (ml_cf l) (by grind))
theorem ml_qj_run {x : Nat → Int} {i j : Nat} : ml_qj (fun k => x k - x i) j = ml_run x i j := by
  unfold ml_qj ml_run
  by_cases h : x i < x j
  · rw [if_pos h, if_pos (show 0 < x j - x i by omega)]
  · rw [if_neg h, if_neg (show ¬ 0 < x j - x i by omega)]; dsimp only; omega
theorem ml_pj_rise {x y : Nat → Int} {i j : Nat} : ml_pj (fun k => y k - y i) (fun k => x k - x i) j = ml_rise x y i j := by
  unfold ml_pj ml_rise
  by_cases h : x i < x j
  · rw [if_pos h, if_pos (show 0 < x j - x i by omega)]
  · rw [if_neg h, if_neg (show ¬ 0 < x j - x i by omega)]; dsimp only; omega
theorem ml_run_pos {x : Nat → Int} {i j : Nat} (h : x j ≠ x i) : 0 < ml_run x i j := by unfold ml_run; split <;> omega
/-- through some point it is no dearer -/
theorem ml_ht {n : Nat} {x y : Nat → Int} {l : Int} (h1 : 1 ≤ l) (h3 : l ≤ 3) (hn : 0 < n) (A B W : Int) : ∃ i, i < n ∧ ml_TC n x y l i A W ≤ ml_LC n x y l A B W := by
  obtain ⟨j, hj, hv, h⟩ := ml_PL (n := n) (u := fun k => W * y k - A * x k) (v := fun _ => 1) (l := l) (S := B) (Wt := 1) h1 h3 (by omega) ⟨0, hn, by omega⟩
  refine ⟨j, hj, ?_⟩
  have e1 : ml_TC n x y l j A W = ml_PF n (fun k => W * y k - A * x k) (fun _ => 1) l (ml_pj (fun k => W * y k - A * x k) (fun _ => 1) j) (ml_qj (fun _ => 1) j) := by
    unfold ml_TC ml_PF ml_pj ml_qj
    refine ml_sm_congr (fun k _ => congrArg (ml_cf l) ?_)
    rw [if_pos (show (0 : Int) < 1 by omega), if_pos (show (0 : Int) < 1 by omega)]; grind
  have e2 : ml_LC n x y l A B W = ml_PF n (fun k => W * y k - A * x k) (fun _ => 1) l B 1 := by
    unfold ml_LC ml_PF
    exact ml_sm_congr (fun k _ => congrArg (ml_cf l) (by grind))
  have e3 : ml_qj (fun _ => 1) j = 1 := rfl
  rw [e1, e2]
  rw [e3] at h ⊢
  omega
/-- through some other point it is no dearer -/
theorem ml_sl {n : Nat} {x y : Nat → Int} {l : Int} {i : Nat} (h1 : 1 ≤ l) (h3 : l ≤ 3) (hex : ∃ j, j < n ∧ x j ≠ x i) (A W : Int) (hW : 0 < W) :
    ∃ j, j < n ∧ x j ≠ x i ∧ W * ml_TC n x y l i (ml_rise x y i j) (ml_run x i j) ≤ ml_run x i j * ml_TC n x y l i A W := by
  obtain ⟨j0, hj0, hv0⟩ := hex
  obtain ⟨j, hj, hv, h⟩ := ml_PL (n := n) (u := fun k => y k - y i) (v := fun k => x k - x i) (l := l) (S := A) (Wt := W) h1 h3 hW ⟨j0, hj0, by omega⟩
  rw [ml_pj_rise, ml_qj_run] at h
  exact ⟨j, hj, by omega, h⟩
/-- no other x: the slope plays no part -/
theorem ml_alone {n : Nat} {x y : Nat → Int} {l : Int} {i : Nat} (hall : ∀ j, j < n → x j = x i) (A W : Int) (hW : 0 < W) : ml_TC n x y l i A W = W * ml_TC n x y l i 0 1 := by
  unfold ml_TC
  rw [← ml_sm_mul]
  refine ml_sm_congr (fun k hk => ?_)
  rw [← ml_cf_hom (Int.le_of_lt hW), hall k hk]
  exact congrArg (ml_cf l) (by grind)
/-- the lines that are looked at through point i -/
def ml_cand (n : Nat) (x y : Nat → Int) (l : Int) (i : Nat) (t b : Int) : Prop :=
  (∃ j, j < n ∧ x j ≠ x i ∧ t = ml_TC n x y l i (ml_rise x y i j) (ml_run x i j) ∧ b = ml_run x i j) ∨ ((∀ j, j < n → x j = x i) ∧ t = ml_TC n x y l i 0 1 ∧ b = 1)
theorem ml_cand_pos {n : Nat} {x y : Nat → Int} {l : Int} {i : Nat} {t b : Int} (h : ml_cand n x y l i t b) : 0 < b := by
  rcases h with ⟨j, _, hv, _, e⟩ | ⟨_, _, e⟩
  · rw [e]; exact ml_run_pos hv
  · omega
theorem ml_cand_line {n : Nat} {x y : Nat → Int} {l : Int} {i : Nat} {t b : Int} (h : ml_cand n x y l i t b) : ∃ p q, 0 < q ∧ b = q ∧ t = ml_TC n x y l i p q := by
  rcases h with ⟨j, _, hv, h1, h2⟩ | ⟨_, h1, h2⟩
  · exact ⟨_, _, ml_run_pos hv, h2, h1⟩
  · exact ⟨_, _, by omega, h2, h1⟩
/-- t / b is the least cost of a line through point i -/
def ml_tmin (n : Nat) (x y : Nat → Int) (l : Int) (i : Nat) (t b : Int) : Prop :=
  0 < b ∧ 0 ≤ t ∧ (∃ p q, 0 < q ∧ b * ml_TC n x y l i p q = q * t) ∧ ∀ p q, 0 < q → q * t ≤ b * ml_TC n x y l i p q
theorem ml_tmin_uniq {n : Nat} {x y : Nat → Int} {l : Int} {i : Nat} {t b t' b' : Int} (h : ml_tmin n x y l i t b) (h' : ml_tmin n x y l i t' b') : t * b' = t' * b := by
  have key : ∀ {t b t' b' : Int}, ml_tmin n x y l i t b → ml_tmin n x y l i t' b' → t' * b ≤ t * b' := by
    intro t b t' b' h h'
    obtain ⟨h1, h2, ⟨A, W, hW, he⟩, h3⟩ := h
    obtain ⟨g1, g2, _, g3⟩ := h'
    have k := g3 A W hW
    apply ml_cle hW
    have k2 := Int.mul_le_mul_of_nonneg_right k (Int.le_of_lt h1)
    have e1 : W * (t' * b) = W * t' * b := by grind
    have e2 : W * (t * b') = b' * ml_TC n x y l i A W * b := by grind
    omega
  have a := key h h'
  have b := key h' h
  omega
theorem ml_cand_lb {n : Nat} {x y : Nat → Int} {l : Int} {i : Nat} {t b : Int} (h1 : 1 ≤ l) (h3 : l ≤ 3) (hb : 0 < b)
    (hall : ∀ t' b', ml_cand n x y l i t' b' → t * b' ≤ t' * b) : ∀ p q, 0 < q → q * t ≤ b * ml_TC n x y l i p q := by
  intro p q hq
  by_cases hex : ∃ j, j < n ∧ x j ≠ x i
  · obtain ⟨j, hj, hv, k⟩ := ml_sl (y := y) h1 h3 hex p q hq
    have k2 := hall _ _ (Or.inl ⟨j, hj, hv, rfl, rfl⟩)
    have hr := ml_run_pos hv
    apply ml_cle hr
    have k3 := Int.mul_le_mul_of_nonneg_left k2 (Int.le_of_lt hq)
    have k4 := Int.mul_le_mul_of_nonneg_left k (Int.le_of_lt hb)
    have e1 : ml_run x i j * (q * t) = q * (t * ml_run x i j) := by grind
    have e2 : ml_run x i j * (b * ml_TC n x y l i p q) = b * (ml_run x i j * ml_TC n x y l i p q) := by grind
    have e3 : q * (ml_TC n x y l i (ml_rise x y i j) (ml_run x i j) * b) = b * (q * ml_TC n x y l i (ml_rise x y i j) (ml_run x i j)) := by grind
    omega
  · have hal : ∀ j, j < n → x j = x i := by
      intro j hj
      apply Classical.byContradiction
      intro z
      exact hex ⟨j, hj, z⟩
    have k2 := hall _ _ (Or.inr ⟨hal, rfl, rfl⟩)
    rw [ml_alone hal p q hq]
    rw [Int.mul_one] at k2
    have k3 := Int.mul_le_mul_of_nonneg_left k2 (Int.le_of_lt hq)
    have e3 : q * (ml_TC n x y l i 0 1 * b) = b * (q * ml_TC n x y l i 0 1) := by grind
    omega
theorem ml_cand_tmin {n : Nat} {x y : Nat → Int} {l : Int} {i : Nat} {t b : Int} (h1 : 1 ≤ l) (h3 : l ≤ 3) (h : ml_cand n x y l i t b)
    (hall : ∀ t' b', ml_cand n x y l i t' b' → t * b' ≤ t' * b) : ml_tmin n x y l i t b := by
  have hb := ml_cand_pos h
  obtain ⟨p, q, hq, e1, e2⟩ := ml_cand_line h
  refine ⟨hb, ?_, ⟨p, q, hq, ?_⟩, ml_cand_lb h1 h3 hb hall⟩
  · rw [e2]; exact ml_TC_nn h1 h3 _ _ _
  · rw [e1, e2]
theorem ml_cand_min {n : Nat} {x y : Nat → Int} {l : Int} {i : Nat} {t b : Int} (h1 : 1 ≤ l) (h3 : l ≤ 3) (hi : i < n) (h : ml_cand n x y l i t b)
    (hall : ∀ i, i < n → ∀ t' b', ml_cand n x y l i t' b' → t * b' ≤ t' * b) : ml_min n x y l t b := by
  have hb := ml_cand_pos h
  obtain ⟨p, q, hq, e1, e2⟩ := ml_cand_line h
  refine ⟨hb, ?_, ⟨p, q * y i - p * x i, q, hq, ?_⟩, fun A B W hW => ?_⟩
  · rw [e2]; exact ml_TC_nn h1 h3 _ _ _
  · rw [← ml_TC_LC, e1, e2]
  · obtain ⟨i', hi', k⟩ := ml_ht (x := x) (y := y) h1 h3 (show 0 < n by omega) A B W
    have k2 := ml_cand_lb h1 h3 hb (hall i' hi') A W hW
    have k3 := Int.mul_le_mul_of_nonneg_left k (Int.le_of_lt hb)
    omega
theorem ml_min_0 {x y : Nat → Int} {l : Int} : ml_min 0 x y l 0 1 :=
  ⟨by omega, by omega, ⟨0, 0, 1, by omega, rfl⟩, fun A B W hW => by show W * 0 ≤ 1 * 0; omega⟩
/-- the quantile -/
theorem ml_quant {m a : Nat} {d : Nat → Int} {l : Int} (h0 : 0 ≤ l) (h4 : l ≤ 4) (ha : a < m) (hlo : 4 * (a : Int) ≤ l * m) (hhi : l * m ≤ 4 * (a + 1)) (hs : ∀ i j, i ≤ j → j < m → d i ≤ d j) (h : Int) :
    ml_sm (fun k => ml_cf l (d k - d a)) m ≤ ml_sm (fun k => ml_cf l (d k - h)) m := by
  let s : Nat → Int := fun k => if k < a then l - 4 else if k = a then 4 * a - l * (m - 1) else l
  have hm : l * ((m : Int) - 1) = l * m - l := by rw [Int.mul_sub]; omega
  have hsb : ∀ k, l - 4 ≤ s k ∧ s k ≤ l := by
    intro k
    show l - 4 ≤ (if k < a then l - 4 else if k = a then 4 * (a : Int) - l * (m - 1) else l) ∧ (if k < a then l - 4 else if k = a then 4 * (a : Int) - l * (m - 1) else l) ≤ l
    split
    · omega
    · split <;> omega
  have h1 : ∀ j, j ≤ a → ml_sm s j = (l - 4) * j := by
    intro j
    induction j with
    | zero => intro _; exact (Int.mul_zero _).symm
    | succ j ih =>
      intro hj
      rw [ml_sm_s, ih (by omega), show s j = l - 4 from if_pos (by omega), Int.natCast_add, Int.mul_add]
      omega
  have h2 : ∀ j, a + 1 + j ≤ m → ml_sm s (a + 1 + j) = (l - 4) * a + (4 * a - l * (m - 1)) + l * j := by
    intro j
    induction j with
    | zero =>
      intro _
      rw [Nat.add_zero, ml_sm_s, h1 a (Nat.le_refl a), show s a = 4 * a - l * (m - 1) from (if_neg (by omega)).trans (if_pos rfl)]
      show _ = _ + l * 0
      omega
    | succ j ih =>
      intro hj
      rw [← Nat.add_assoc, ml_sm_s, ih (by omega), show s (a + 1 + j) = l from (if_neg (by omega)).trans (if_neg (by omega)), Int.natCast_add, Int.mul_add]
      omega
  have h3 : ml_sm s m = 0 := by
    have e := h2 (m - (a + 1)) (by omega)
    rw [show a + 1 + (m - (a + 1)) = m by omega] at e
    rw [e, hm, show ((m - (a + 1) : Nat) : Int) = m - (a + 1) by omega]
    grind
  have e1 : ml_sm (fun k => ml_cf l (d k - d a)) m = ml_sm (fun k => s k * (d k - d a)) m := by
    refine ml_sm_congr (fun k hk => ?_)
    by_cases c : k < a
    · rw [ml_cf_m (by have := hs k a (by omega) ha; omega), show s k = l - 4 from if_pos c]
    · by_cases c2 : k = a
      · subst c2
        rw [show d k - d k = 0 by omega, Int.mul_zero, ml_cf_p (Int.le_refl 0), Int.mul_zero]
      · rw [ml_cf_p (by have := hs a k (by omega) hk; omega), show s k = l from (if_neg c).trans (if_neg c2)]
  have e2 : ml_sm (fun k => s k * (d k - d a)) m = ml_sm (fun k => s k * (d k - h)) m := by
    have e3 : ml_sm (fun k => s k * (d k - h)) m = ml_sm (fun k => s k * (d k - d a) + (d a - h) * s k) m := ml_sm_congr (fun k _ => by grind)
    rw [e3, ml_sm_add, ml_sm_mul, h3]; omega
  rw [e1, e2]
  exact ml_sm_le (fun k _ => ml_cf_sub (hsb k).1 (hsb k).2 _)
/-- insertion at place a of an array of c entries -/
def ml_ins (f : Nat → Int) (c a : Nat) (v : Int) : Nat → Int := fun j => if j < a then f j else if j = a then v else if j ≤ c then f (j - 1) else f j
theorem ml_ins_sum {f g : Nat → Int} {c a : Nat} {v w : Int} (ha : a ≤ c) (φ : Int → Int → Int) :
    ml_sm (fun j => φ (ml_ins f c a v j) (ml_ins g c a w j)) (c + 1) = ml_sm (fun j => φ (f j) (g j)) c + φ v w := by
  have e1 := ml_sm_app (fun j => φ (ml_ins f c a v j) (ml_ins g c a w j)) (a + 1) (c - a)
  have e2 := ml_sm_app (fun j => φ (f j) (g j)) a (c - a)
  rw [show a + 1 + (c - a) = c + 1 by omega] at e1
  rw [show a + (c - a) = c by omega] at e2
  have i1 : ∀ (f : Nat → Int) (v : Int) (j : Nat), j < a → ml_ins f c a v j = f j := fun f v j hj => if_pos hj
  have i2 : ∀ (f : Nat → Int) (v : Int), ml_ins f c a v a = v := fun f v => (if_neg (by omega)).trans (if_pos rfl)
  have i3 : ∀ (f : Nat → Int) (v : Int) (j : Nat), j < c - a → ml_ins f c a v (a + 1 + j) = f (a + j) := fun f v j hj => by
    unfold ml_ins
    rw [if_neg (by omega), if_neg (by omega), if_pos (by omega), show a + 1 + j - 1 = a + j by omega]
  rw [e1, ml_sm_s _ a, e2, i2, i2, ml_sm_congr (n := a) (fun j hj => by rw [i1 f v j hj, i1 g w j hj]), ml_sm_congr (n := c - a) (fun j hj => by rw [i3 f v j hj, i3 g w j hj])]
  omega
/-- in order -/
def ml_ord (f g : Nat → Int) (c : Nat) : Prop := (∀ i, i < c → 0 < g i) ∧ ∀ i j, i ≤ j → j < c → f i * g j ≤ f j * g i
theorem ml_ins_ord {f g : Nat → Int} {c a : Nat} {v w : Int} (h : ml_ord f g c) (ha : a ≤ c) (hw : 0 < w) (hlo : 0 < a → f (a - 1) * w ≤ v * g (a - 1)) (hhi : ∀ j, a ≤ j → j < c → v * g j ≤ f j * w) :
    ml_ord (ml_ins f c a v) (ml_ins g c a w) (c + 1) := by
  have i1 : ∀ (f : Nat → Int) (v : Int) (j : Nat), j < a → ml_ins f c a v j = f j := fun f v j hj => if_pos hj
  have i2 : ∀ (f : Nat → Int) (v : Int), ml_ins f c a v a = v := fun f v => (if_neg (by omega)).trans (if_pos rfl)
  have i3 : ∀ (f : Nat → Int) (v : Int) (j : Nat), a < j → j ≤ c → ml_ins f c a v j = f (j - 1) := fun f v j h1 h2 => by
    unfold ml_ins
    rw [if_neg (by omega), if_neg (by omega), if_pos (by omega)]
  have hlo' : ∀ i, i < a → f i * w ≤ v * g i := by
    intro i hi
    exact ml_tr (h.1 i (by omega)) (h.1 (a - 1) (by omega)) hw (h.2 i (a - 1) (by omega) (by omega)) (hlo (by omega))
  refine ⟨fun i hi => ?_, fun i j hij hj => ?_⟩
  · by_cases c1 : i < a
    · rw [i1 g w i c1]; exact h.1 i (by omega)
    · by_cases c2 : i = a
      · rw [c2, i2]; exact hw
      · rw [i3 g w i (by omega) (by omega)]; exact h.1 _ (by omega)
  · by_cases c1 : i < a
    · rw [i1 f v i c1, i1 g w i c1]
      by_cases d1 : j < a
      · rw [i1 f v j d1, i1 g w j d1]; exact h.2 i j hij (by omega)
      · by_cases d2 : j = a
        · rw [d2, i2, i2]; exact hlo' i c1
        · rw [i3 f v j (by omega) (by omega), i3 g w j (by omega) (by omega)]; exact h.2 i (j - 1) (by omega) (by omega)
    · by_cases c2 : i = a
      · rw [c2, i2, i2]
        by_cases d2 : j = a
        · rw [d2, i2, i2]; exact Int.le_refl _
        · rw [i3 f v j (by omega) (by omega), i3 g w j (by omega) (by omega)]; exact hhi (j - 1) (by omega) (by omega)
      · rw [i3 f v i (by omega) (by omega), i3 g w i (by omega) (by omega), i3 f v j (by omega) (by omega), i3 g w j (by omega) (by omega)]
        exact h.2 (i - 1) (j - 1) (by omega) (by omega)
/-- lowest terms -/
theorem ml_low {t b t' b' : Nat} (hb : 0 < b) (hb' : 0 < b') (e : t * b' = t' * b) : t / Nat.gcd t b = t' / Nat.gcd t' b' ∧ b / Nat.gcd t b = b' / Nat.gcd t' b' := by
  have hg : 0 < Nat.gcd t b := Nat.gcd_pos_of_pos_right t hb
  have hg' : 0 < Nat.gcd t' b' := Nat.gcd_pos_of_pos_right t' hb'
  have c1 : Nat.gcd t b * b' = b * Nat.gcd t' b' := by
    rw [← Nat.gcd_mul_right, e, Nat.mul_comm t' b, Nat.gcd_mul_left]
  obtain ⟨T, hT⟩ := Nat.gcd_dvd_left t b
  obtain ⟨B, hB⟩ := Nat.gcd_dvd_right t b
  obtain ⟨T', hT'⟩ := Nat.gcd_dvd_left t' b'
  obtain ⟨B', hB'⟩ := Nat.gcd_dvd_right t' b'
  have d1 : t / Nat.gcd t b = T := Nat.div_eq_of_eq_mul_right hg hT
  have d2 : b / Nat.gcd t b = B := Nat.div_eq_of_eq_mul_right hg hB
  have d3 : t' / Nat.gcd t' b' = T' := Nat.div_eq_of_eq_mul_right hg' hT'
  have d4 : b' / Nat.gcd t' b' = B' := Nat.div_eq_of_eq_mul_right hg' hB'
  rw [d1, d2, d3, d4]
  generalize Nat.gcd t b = g at *
  generalize Nat.gcd t' b' = g' at *
  have hBB : B = B' := by
    have e1 : (g * g') * B' = (g * g') * B := by
      calc (g * g') * B' = g * (g' * B') := by rw [Nat.mul_assoc]
        _ = g * b' := by rw [← hB']
        _ = b * g' := c1
        _ = (g * B) * g' := by rw [← hB]
        _ = (g * g') * B := by rw [Nat.mul_assoc, Nat.mul_comm B g', ← Nat.mul_assoc]
    exact (Nat.eq_of_mul_eq_mul_left (Nat.mul_pos hg hg') e1).symm
  refine ⟨?_, hBB⟩
  have hB0 : 0 < B := by
    rcases Nat.eq_zero_or_pos B with z | z
    · rw [z, Nat.mul_zero] at hB; omega
    · exact z
  have e2 : (g * g' * B) * T = (g * g' * B) * T' := by
    have e3 : (g * T) * (g' * B') = (g' * T') * (g * B) := by rw [← hT, ← hB', ← hT', ← hB]; exact e
    rw [← hBB] at e3
    calc (g * g' * B) * T = (g * T) * (g' * B) := by grind
      _ = (g' * T') * (g * B) := e3
      _ = (g * g' * B) * T' := by grind
  exact Nat.eq_of_mul_eq_mul_left (Nat.mul_pos (Nat.mul_pos hg hg') hB0) e2
end
section
def ml_i (z : Int) : Int32 := Int32.ofInt z
def ml_l (z : Int) : Int64 := Int64.ofInt z
def ml_a (x : Nat → Int) : Nat → Int32 := fun j => ml_i (x j)
theorem ml_i_add (a b : Int) : ml_i a + ml_i b = ml_i (a + b) := (Int32.ofInt_add a b).symm
theorem ml_i_sub (a b : Int) : ml_i a - ml_i b = ml_i (a - b) := (Int32.ofInt_sub a b).symm
theorem ml_i_mul (a b : Int) : ml_i a * ml_i b = ml_i (a * b) := (Int32.ofInt_mul a b).symm
theorem ml_i_neg (a : Int) : - ml_i a = ml_i (-a) := (Int32.ofInt_neg a).symm
theorem ml_l_add (a b : Int) : ml_l a + ml_l b = ml_l (a + b) := (Int64.ofInt_add a b).symm
theorem ml_l_sub (a b : Int) : ml_l a - ml_l b = ml_l (a - b) := (Int64.ofInt_sub a b).symm
theorem ml_l_mul (a b : Int) : ml_l a * ml_l b = ml_l (a * b) := (Int64.ofInt_mul a b).symm
theorem ml_l_neg (a : Int) : - ml_l a = ml_l (-a) := (Int64.ofInt_neg a).symm
theorem ml_i_nI (n : Nat) : ml_i n = nI n := Int32.ofInt_eq_ofNat
theorem ml_l_lN (n : Nat) : ml_l n = lN n := Int64.ofInt_eq_ofNat
theorem ml_i_toInt {a : Int} (h1 : -2147483648 ≤ a) (h2 : a < 2147483648) : (ml_i a).toInt = a := Int32.toInt_ofInt_of_le h1 h2
theorem ml_l_toInt {a : Int} (h1 : -9223372036854775808 ≤ a) (h2 : a < 9223372036854775808) : (ml_l a).toInt = a := Int64.toInt_ofInt_of_le h1 h2
theorem ml_i_le {a b : Int} (a1 : -2147483648 ≤ a) (a2 : a < 2147483648) (b1 : -2147483648 ≤ b) (b2 : b < 2147483648) : ml_i a ≤ ml_i b ↔ a ≤ b := by
  rw [Int32.le_iff_toInt_le, ml_i_toInt a1 a2, ml_i_toInt b1 b2]
theorem ml_i_lt {a b : Int} (a1 : -2147483648 ≤ a) (a2 : a < 2147483648) (b1 : -2147483648 ≤ b) (b2 : b < 2147483648) : ml_i a < ml_i b ↔ a < b := by
  rw [Int32.lt_iff_toInt_lt, ml_i_toInt a1 a2, ml_i_toInt b1 b2]
theorem ml_i_eq {a b : Int} (a1 : -2147483648 ≤ a) (a2 : a < 2147483648) (b1 : -2147483648 ≤ b) (b2 : b < 2147483648) : ml_i a = ml_i b ↔ a = b := by
  rw [← Int32.toInt_inj, ml_i_toInt a1 a2, ml_i_toInt b1 b2]
theorem ml_l_le {a b : Int} (a1 : -9223372036854775808 ≤ a) (a2 : a < 9223372036854775808) (b1 : -9223372036854775808 ≤ b) (b2 : b < 9223372036854775808) : ml_l a ≤ ml_l b ↔ a ≤ b := by
  rw [Int64.le_iff_toInt_le, ml_l_toInt a1 a2, ml_l_toInt b1 b2]
theorem ml_l_lt {a b : Int} (a1 : -9223372036854775808 ≤ a) (a2 : a < 9223372036854775808) (b1 : -9223372036854775808 ≤ b) (b2 : b < 9223372036854775808) : ml_l a < ml_l b ↔ a < b := by
  rw [Int64.lt_iff_toInt_lt, ml_l_toInt a1 a2, ml_l_toInt b1 b2]
theorem ml_l_eq {a b : Int} (a1 : -9223372036854775808 ≤ a) (a2 : a < 9223372036854775808) (b1 : -9223372036854775808 ≤ b) (b2 : b < 9223372036854775808) : ml_l a = ml_l b ↔ a = b := by
  rw [← Int64.toInt_inj, ml_l_toInt a1 a2, ml_l_toInt b1 b2]
theorem ml_i_l {a : Int} (h1 : -2147483648 ≤ a) (h2 : a < 2147483648) : (ml_i a).toInt64 = ml_l a := by
  apply Int64.toInt_inj.mp
  rw [Int32.toInt_toInt64, ml_i_toInt h1 h2, ml_l_toInt (by omega) (by omega)]
theorem ml_l_i (a : Int) : (ml_l a).toInt32 = ml_i a := Int64.toInt32_ofInt
/-- an exact quotient -/
theorem ml_l_div {a d w : Int} (e : a = d * w) (hd : 0 < d) (hd2 : d < 9223372036854775808) (h1 : -9223372036854775807 ≤ a) (h2 : a < 9223372036854775808) (w1 : -9223372036854775808 ≤ w) (w2 : w < 9223372036854775808) : ml_l a / ml_l d = ml_l w := by
  apply Int64.toInt_inj.mp
  have hne : ml_l a ≠ Int64.minValue := by
    intro z
    have e1 := congrArg Int64.toInt z
    rw [ml_l_toInt (by omega) h2, Int64.toInt_minValue] at e1
    omega
  rw [Int64.toInt_div_of_ne_left _ _ hne, ml_l_toInt (by omega) h2, ml_l_toInt (by omega) hd2, ml_l_toInt w1 w2, e]
  exact Int.mul_tdiv_cancel_left w (by omega)
theorem ml_i0 : (0 : Int32) = ml_i 0 := by decide
theorem ml_i1 : (1 : Int32) = ml_i 1 := by decide
theorem ml_i4 : (4 : Int32) = ml_i 4 := by decide
theorem ml_l0 : (0 : Int64) = ml_l 0 := by decide
theorem ml_l1 : (1 : Int64) = ml_l 1 := by decide
theorem ml_im1 : (-1 : Int32) = ml_i (-1) := by decide
theorem ml_lm1 : (-1 : Int64) = ml_l (-1) := by decide
theorem ml_acl {x : Nat → Int} {j : Nat} (h : j < 2147483648) : ml_a x (nI j).toNatClampNeg = ml_i (x j) := by rw [nI_clamp h]; rfl
/-- branches by Ints -/
theorem ml_ble {u v : Int32} {A B : Prop} (a b : Int) (f : a ≤ b → A) (g : b < a → B) (hx : u = ml_i a) (hy : v = ml_i b) (a1 : -2147483648 ≤ a := by omega) (a2 : a < 2147483648 := by omega) (b1 : -2147483648 ≤ b := by omega) (b2 : b < 2147483648 := by omega) :
    (u ≤ v → A) ∧ (¬ u ≤ v → B) := by
  subst hx hy
  rw [ml_i_le a1 a2 b1 b2]
  exact ⟨f, fun z => g (by omega)⟩
theorem ml_blt {u v : Int32} {A B : Prop} (a b : Int) (f : a < b → A) (g : b ≤ a → B) (hx : u = ml_i a) (hy : v = ml_i b) (a1 : -2147483648 ≤ a := by omega) (a2 : a < 2147483648 := by omega) (b1 : -2147483648 ≤ b := by omega) (b2 : b < 2147483648 := by omega) :
    (u < v → A) ∧ (¬ u < v → B) := by
  subst hx hy
  rw [ml_i_lt a1 a2 b1 b2]
  exact ⟨f, fun z => g (by omega)⟩
theorem ml_beq {u v : Int32} {A B : Prop} (a b : Int) (f : a = b → A) (g : a ≠ b → B) (hx : u = ml_i a) (hy : v = ml_i b) (a1 : -2147483648 ≤ a := by omega) (a2 : a < 2147483648 := by omega) (b1 : -2147483648 ≤ b := by omega) (b2 : b < 2147483648 := by omega) :
    (u = v → A) ∧ (¬ u = v → B) := by
  subst hx hy
  rw [ml_i_eq a1 a2 b1 b2]
  exact ⟨f, g⟩
theorem ml_cle64 {u v : Int64} {A B : Prop} (a b : Int) (f : a ≤ b → A) (g : b < a → B) (hx : u = ml_l a) (hy : v = ml_l b) (a1 : -9223372036854775808 ≤ a := by omega) (a2 : a < 9223372036854775808 := by omega) (b1 : -9223372036854775808 ≤ b := by omega) (b2 : b < 9223372036854775808 := by omega) :
    (u ≤ v → A) ∧ (¬ u ≤ v → B) := by
  subst hx hy
  rw [ml_l_le a1 a2 b1 b2]
  exact ⟨f, fun z => g (by omega)⟩
theorem ml_clt64 {u v : Int64} {A B : Prop} (a b : Int) (f : a < b → A) (g : b ≤ a → B) (hx : u = ml_l a) (hy : v = ml_l b) (a1 : -9223372036854775808 ≤ a := by omega) (a2 : a < 9223372036854775808 := by omega) (b1 : -9223372036854775808 ≤ b := by omega) (b2 : b < 9223372036854775808 := by omega) :
    (u < v → A) ∧ (¬ u < v → B) := by
  subst hx hy
  rw [ml_l_lt a1 a2 b1 b2]
  exact ⟨f, fun z => g (by omega)⟩
theorem ml_ceq64 {u v : Int64} {A B : Prop} (a b : Int) (f : a = b → A) (g : a ≠ b → B) (hx : u = ml_l a) (hy : v = ml_l b) (a1 : -9223372036854775808 ≤ a := by omega) (a2 : a < 9223372036854775808 := by omega) (b1 : -9223372036854775808 ≤ b := by omega) (b2 : b < 9223372036854775808 := by omega) :
    (u = v → A) ∧ (¬ u = v → B) := by
  subst hx hy
  rw [ml_l_eq a1 a2 b1 b2]
  exact ⟨f, g⟩
/-- sizes -/
def ml_B20 (x : Nat → Int) : Prop := ∀ j, -20 ≤ x j ∧ x j ≤ 20
theorem ml_devb {x y : Nat → Int} (hx : ml_B20 x) (hy : ml_B20 y) {p q : Int} (hp : -1000 ≤ p ∧ p ≤ 1000) (hq : -1000 ≤ q ∧ q ≤ 1000) (i k : Nat) :
    -80000 ≤ q * (y k - y i) - p * (x k - x i) ∧ q * (y k - y i) - p * (x k - x i) ≤ 80000 := by
  have a1 := hx i
  have a2 := hx k
  have a3 := hy i
  have a4 := hy k
  have b1 := ml_mb (A := 1000) (B := 40) hq (show -40 ≤ y k - y i ∧ y k - y i ≤ 40 by omega)
  have b2 := ml_mb (A := 1000) (B := 40) hp (show -40 ≤ x k - x i ∧ x k - x i ≤ 40 by omega)
  omega
theorem ml_cfb {l z Z : Int} (h1 : 1 ≤ l) (h3 : l ≤ 3) (hz : -Z ≤ z ∧ z ≤ Z) : 0 ≤ ml_cf l z ∧ ml_cf l z ≤ 3 * Z := by
  refine ⟨ml_cf_nn h1 h3 z, ?_⟩
  by_cases h : 0 ≤ z
  · rw [ml_cf_p h]
    have := (ml_mb (a := l) (A := 3) (by omega) hz).2
    omega
  · rw [ml_cf_m (by omega)]
    have := (ml_mb (a := l - 4) (A := 3) (by omega) hz).2
    omega
theorem ml_TCb {n : Nat} {x y : Nat → Int} {l : Int} (hn : n ≤ 8) (h1 : 1 ≤ l) (h3 : l ≤ 3) (hx : ml_B20 x) (hy : ml_B20 y) {p q : Int} (hp : -1000 ≤ p ∧ p ≤ 1000) (hq : -1000 ≤ q ∧ q ≤ 1000) (i : Nat) :
    0 ≤ ml_TC n x y l i p q ∧ ml_TC n x y l i p q ≤ 1920000 := by
  refine ⟨ml_TC_nn h1 h3 i p q, ?_⟩
  have h := (ml_sm_ab (n := n) (B := 240000) (f := fun k => ml_cf l (q * (y k - y i) - p * (x k - x i))) (fun k _ => by
    have := ml_cfb h1 h3 (ml_devb hx hy hp hq i k)
    omega)).2
  unfold ml_TC
  omega
theorem ml_runb {x : Nat → Int} (hx : ml_B20 x) (i j : Nat) : 0 ≤ ml_run x i j ∧ ml_run x i j ≤ 40 := by
  have := hx i
  have := hx j
  unfold ml_run
  split <;> omega
theorem ml_riseb {x y : Nat → Int} (hy : ml_B20 y) (i j : Nat) : -40 ≤ ml_rise x y i j ∧ ml_rise x y i j ≤ 40 := by
  have := hy i
  have := hy j
  unfold ml_rise
  split <;> omega
end
section
section
variable {m i : Nat} {x y : Nat → Int} {l p q : Int} {fd ft fb : Int64} {sc : Int32} {tb : Nat → Int64} {ow st sb : Nat → Int32} {pc : Int32} {px py : Nat → Int32} {fo : Int32}
theorem wl_costOf {post : Int32 → Prop} {z : Int} (z1 : -2147483648 ≤ z) (z2 : z < 2147483648) (h : post (ml_i (ml_cf l z))) :
    wpX_costOf post (pc, ml_i l, fd, ft, fb, sc, px, py, tb, ow, st, sb) (ml_i z) := by
  refine ml_ble z 0 (fun hz => ?_) (fun hz => ?_) rfl ml_i0 z1 z2
  · rw [ml_i4, ml_i_sub, ml_i_mul, ← ml_cf_m hz]; exact h
  · rw [ml_i_mul, ← ml_cf_p (Int.le_of_lt hz)]; exact h
theorem wl_ct6 {post : Int32 → Prop} (hm : m ≤ 8) (hi : i < 8) (hx : ml_B20 x) (hy : ml_B20 y) (hp : -1000 ≤ p ∧ p ≤ 1000) (hq : -1000 ≤ q ∧ q ≤ 1000) (h : post (ml_i (ml_TC m x y l i p q))) :
    ∀ dd j, j + dd = m → wX_costThrough_6 post (nI i) (ml_i p) (ml_i q) (nI m) (ml_i l) fd ft fb sc (ml_a x) (ml_a y) tb ow st sb (dd + 1) (ml_i (ml_sm (fun k => ml_cf l (q * (y k - y i) - p * (x k - x i))) j)) (nI j) := by
  intro dd
  induction dd with
  | zero =>
    intro j hj
    have e : j = m := by omega
    subst e
    exact pk_le j j (fun _ => h) (fun z => by omega)
  | succ dd ih =>
    intro j hj
    refine pk_le m j (fun z => by omega) (fun z => ⟨vp_in_nI (by omega) (by omega), vp_in_nI (by omega) (by omega), vp_in_nI (by omega) (by omega), vp_in_nI (by omega) (by omega), ?_⟩)
    have hb := ml_devb hx hy hp hq i j
    refine nm_r (e' := ml_i (q * (y j - y i) - p * (x j - x i))) ?_ (wl_costOf (by omega) (by omega) ?_)
    · rw [ml_acl (by omega), ml_acl (by omega), ml_acl (by omega), ml_acl (by omega), ml_i_sub, ml_i_sub, ml_i_mul, ml_i_mul, ml_i_sub, Int.mul_comm q]
    · refine nm_r (ml_i_add _ _) (nm_r (nI_1 j) ?_)
      exact ih (j + 1) (by omega)
/-- X: the cost of a line through a point -/
theorem wl_ct {post : Int32 → Prop} (hm : m ≤ 8) (hi : i < 8) (hx : ml_B20 x) (hy : ml_B20 y) (hp : -1000 ≤ p ∧ p ≤ 1000) (hq : -1000 ≤ q ∧ q ≤ 1000) (h : post (ml_i (ml_TC m x y l i p q))) :
    wpX_costThrough post (nI m, ml_i l, fd, ft, fb, sc, ml_a x, ml_a y, tb, ow, st, sb) (nI i) (ml_i p) (ml_i q) := by
  have k := wl_ct6 (fd := fd) (ft := ft) (fb := fb) (sc := sc) (tb := tb) (ow := ow) (st := st) (sb := sb) hm hi hx hy hp hq h m 0 (by omega)
  have e : ml_i (ml_sm (fun k => ml_cf l (q * (y k - y i) - p * (x k - x i))) 0) = 0 := ml_i0.symm
  rw [e, nI_0] at k
  exact ⟨m + 1, k⟩
theorem wl_ycost {post : Int64 → Prop} {z : Int} (l1 : 1 ≤ l) (l3 : l ≤ 3) (z1 : -9223372036854775808 ≤ z) (z2 : z < 9223372036854775808) (h : post (ml_l (ml_cf l z))) :
    wpY_cost post (pc, ml_i l, ft, fb, fo, px, py) (ml_l z) := by
  refine ml_cle64 z 0 (fun hz => ?_) (fun hz => ?_) rfl ml_l0 z1 z2
  · rw [ml_i4, ml_i_sub, ml_i_l (by omega) (by omega), ml_l_mul, ← ml_cf_m hz]; exact h
  · rw [ml_i_l (by omega) (by omega), ml_l_mul, ← ml_cf_p (Int.le_of_lt hz)]; exact h
theorem wl_yc6 {post : Int64 → Prop} (hm : m ≤ 8) (hi : i < 8) (l1 : 1 ≤ l) (l3 : l ≤ 3) (hx : ml_B20 x) (hy : ml_B20 y) (hp : -1000 ≤ p ∧ p ≤ 1000) (hq : -1000 ≤ q ∧ q ≤ 1000) (h : post (ml_l (ml_TC m x y l i p q))) :
    ∀ dd j, j + dd = m → wY_costOf_6 post (nI i) (ml_i p) (ml_i q) (nI m) (ml_i l) ft fb fo (ml_a x) (ml_a y) (dd + 1) (ml_l (ml_sm (fun k => ml_cf l (q * (y k - y i) - p * (x k - x i))) j)) (nI j) := by
  intro dd
  induction dd with
  | zero =>
    intro j hj
    have e : j = m := by omega
    subst e
    exact pk_le j j (fun _ => h) (fun z => by omega)
  | succ dd ih =>
    intro j hj
    refine pk_le m j (fun z => by omega) (fun z => ⟨vp_in_nI (by omega) (by omega), vp_in_nI (by omega) (by omega), vp_in_nI (by omega) (by omega), vp_in_nI (by omega) (by omega), ?_⟩)
    have hb := ml_devb hx hy hp hq i j
    have a1 := hx i
    have a2 := hx j
    have a3 := hy i
    have a4 := hy j
    have e : (ml_i q).toInt64 * (ml_a y (nI j).toNatClampNeg - ml_a y (nI i).toNatClampNeg).toInt64 - (ml_i p).toInt64 * (ml_a x (nI j).toNatClampNeg - ml_a x (nI i).toNatClampNeg).toInt64 = ml_l (q * (y j - y i) - p * (x j - x i)) := by
      rw [ml_acl (by omega), ml_acl (by omega), ml_acl (by omega), ml_acl (by omega), ml_i_sub, ml_i_sub, ml_i_l (by omega) (by omega), ml_i_l (by omega) (by omega), ml_i_l (by omega) (by omega), ml_i_l (by omega) (by omega), ml_l_mul, ml_l_mul, ml_l_sub]
    rw [e]
    refine wl_ycost l1 l3 (by omega) (by omega) ?_
    refine nm_r (ml_l_add _ _) (nm_r (nI_1 j) ?_)
    exact ih (j + 1) (by omega)
/-- Y: the cost of a line through a point -/
theorem wl_yc {post : Int64 → Prop} (hm : m ≤ 8) (hi : i < 8) (l1 : 1 ≤ l) (l3 : l ≤ 3) (hx : ml_B20 x) (hy : ml_B20 y) (hp : -1000 ≤ p ∧ p ≤ 1000) (hq : -1000 ≤ q ∧ q ≤ 1000) (h : post (ml_l (ml_TC m x y l i p q))) :
    wpY_costOf post (nI m, ml_i l, ft, fb, fo, ml_a x, ml_a y) (nI i) (ml_i p) (ml_i q) := by
  have k := wl_yc6 (ft := ft) (fb := fb) (fo := fo) hm hi l1 l3 hx hy hp hq h m 0 (by omega)
  have e : ml_l (ml_sm (fun k => ml_cf l (q * (y k - y i) - p * (x k - x i))) 0) = 0 := ml_l0.symm
  rw [e, nI_0] at k
  exact ⟨m + 1, k⟩
/-- X: lowest terms -/
theorem wl_low10 {post : SX → Prop} {t b G : Nat} {ln : Int32} (ht : t < 2 ^ 63) (hb : b < 2 ^ 63) (hG : 0 < G) (hG2 : G < 2 ^ 63)
    (h : post (pc, ln, fd, lN (t / G), lN (b / G), sc, px, py, tb, ow, st, sb)) :
    ∀ n a c : Nat, a < n → a < 2 ^ 63 → c < 2 ^ 63 → Nat.gcd a c = G → wX_lowest_10 post pc ln fd (lN t) (lN b) sc px py tb ow st sb n (lN a) (lN c) := by
  intro n
  induction n with
  | zero => intro a c hn; omega
  | succ n ih =>
    intro a c hn ha hc hg
    by_cases z : a = 0
    · subst z
      rw [Nat.gcd_zero_left] at hg
      subst hg
      have hne : ¬ lN c = 0 := by
        intro w
        have := (pk_lEQ hc (b := 0) (by decide)).mp w
        omega
      exact br_t rfl ⟨hne, nm_r (pk_lDiv ht hG hc) ⟨hne, nm_r (pk_lDiv hb hG hc) h⟩⟩
    · have hne : ¬ lN a = 0 := by
        intro w
        have := (pk_lEQ ha (b := 0) (by decide)).mp w
        omega
      refine br_f hne ⟨hne, nm_r (pk_lRem hc (by omega) ha) ?_⟩
      have hm := Nat.mod_lt c (show 0 < a by omega)
      exact ih (c % a) a (by omega) (by omega) ha (by rw [← Nat.gcd_rec]; exact hg)
theorem wl_low {post : SX → Prop} {t b : Nat} {ln : Int32} (ht : t < 2 ^ 63) (hb : b < 2 ^ 63) (hb0 : 0 < b)
    (h : post (pc, ln, fd, lN (t / Nat.gcd t b), lN (b / Nat.gcd t b), sc, px, py, tb, ow, st, sb)) :
    wpX_lowest post (pc, ln, fd, lN t, lN b, sc, px, py, tb, ow, st, sb) := by
  have hG := Nat.gcd_pos_of_pos_right t hb0
  have hG2 : Nat.gcd t b < 2 ^ 63 := Nat.lt_of_le_of_lt (Nat.gcd_le_right t hb0) hb
  exact ⟨t + 1, wl_low10 ht hb hG hG2 h (t + 1) t b (by omega) ht hb rfl⟩
/-- Y: the common divisor; ninety rounds are enough -/
theorem wl_cm13 {post : Int64 → Prop} {G : Nat} {ln : Int32} (hG : 0 < G) (h : post (lN G)) :
    ∀ d k a c : Nat, k + d = 90 → ((k = 0 ∧ c ≤ 40) ∨ a = 0 ∨ a + k ≤ 41) → a < 2 ^ 63 → c < 2 ^ 63 → Nat.gcd a c = G → wY_common_13 post pc ln ft fb fo px py (d + 1) (lN a) (lN c) (nI k) := by
  intro d
  induction d with
  | zero =>
    intro k a c hk hm ha hc hg
    have z : a = 0 := by omega
    subst z
    rw [Nat.gcd_zero_left] at hg
    subst hg
    have h1 : (1 : Int64) ≤ lN c := (pk_lLE (a := 1) (by decide) hc).mpr (by omega)
    exact pk_le 90 k (fun _ => br_t h1 h) (fun z => by omega)
  | succ d ih =>
    intro k a c hk hm ha hc hg
    refine pk_le 90 k (fun z => by omega) (fun _ => ?_)
    by_cases z : a = 0
    · subst z
      exact br_t rfl (nm_r (nI_1 k) (ih (k + 1) 0 c (by omega) (Or.inr (Or.inl rfl)) ha hc hg))
    · have hne : ¬ lN a = 0 := by
        intro w
        have := (pk_lEQ ha (b := 0) (by decide)).mp w
        omega
      refine br_f hne (br_f hne ⟨hne, nm_r (pk_lRem hc (by omega) ha) (nm_r (nI_1 k) ?_)⟩)
      have hlt := Nat.mod_lt c (show 0 < a by omega)
      have hle := Nat.mod_le c a
      exact ih (k + 1) (c % a) a (by omega) (by omega) (by omega) ha (by rw [← Nat.gcd_rec]; exact hg)
theorem wl_cm {post : Int64 → Prop} {t b : Nat} {ln : Int32} (ht : t < 2 ^ 63) (hb : b ≤ 40) (hb0 : 0 < b) (h : post (lN (Nat.gcd t b))) :
    wpY_common post (pc, ln, lN t, lN b, fo, px, py) := by
  have hG := Nat.gcd_pos_of_pos_right t hb0
  exact ⟨91, wl_cm13 hG h 90 0 t b (by omega) (Or.inl ⟨rfl, hb⟩) ht (by omega) rfl⟩
theorem wl_upper {post : Int32 → Prop} {t b : Nat} {ln : Int32} (ht : t < 2 ^ 63) (hb : b ≤ 40) (hb0 : 0 < b) (h : post (nI (t / Nat.gcd t b))) :
    wpY_upper post (pc, ln, lN t, lN b, fo, px, py) := by
  have hG := Nat.gcd_pos_of_pos_right t hb0
  have hG2 := Nat.gcd_le_right t hb0
  refine wl_cm ht hb hb0 ⟨fun w => ?_, ?_⟩
  · have := (pk_lEQ (show Nat.gcd t b < 2 ^ 63 by omega) (b := 0) (by decide)).mp w
    omega
  · rw [pk_lDiv ht hG (by omega), lN_i]; exact h
theorem wl_lower {post : Int32 → Prop} {t b : Nat} {ln : Int32} (ht : t < 2 ^ 63) (hb : b ≤ 40) (hb0 : 0 < b) (h : post (nI (b / Nat.gcd t b))) :
    wpY_lower post (pc, ln, lN t, lN b, fo, px, py) := by
  have hG := Nat.gcd_pos_of_pos_right t hb0
  have hG2 := Nat.gcd_le_right t hb0
  refine wl_cm ht hb hb0 ⟨fun w => ?_, ?_⟩
  · have := (pk_lEQ (show Nat.gcd t b < 2 ^ 63 by omega) (b := 0) (by decide)).mp w
    omega
  · rw [pk_lDiv (by omega) hG (by omega), lN_i]; exact h
end
end
section
/-- the best of the candidates so far -/
def wl_bst (C : Int → Int → Prop) (ft fb : Int64) (fo : Int32) : Prop :=
  (fo = 0 ∧ ft = 0 ∧ fb = 1 ∧ ∀ t b, ¬ C t b) ∨ (fo = 1 ∧ ∃ t b, ft = ml_l t ∧ fb = ml_l b ∧ C t b ∧ ∀ t' b', C t' b' → t * b' ≤ t' * b)
def wl_bd (C : Int → Int → Prop) : Prop := ∀ t b, C t b → 0 ≤ t ∧ t ≤ 1920000 ∧ 0 < b ∧ b ≤ 40
theorem wl_bst_c {C C' : Int → Int → Prop} {ft fb : Int64} {fo : Int32} (h : wl_bst C ft fb fo) (e : ∀ t b, C t b ↔ C' t b) : wl_bst C' ft fb fo := by
  have : C = C' := funext (fun t => funext (fun b => propext (e t b)))
  rw [← this]; exact h
section
variable {m i : Nat} {x y : Nat → Int} {l p q : Int} {ft fb : Int64} {fo ln pc : Int32} {px py : Nat → Int32} {C : Int → Int → Prop}
theorem wl_look {post : SY → Prop} {t0 b0 : Int} (hC : wl_bd C) (h : wl_bst C ft fb fo) (ht : 0 ≤ t0 ∧ t0 ≤ 1920000 ∧ 0 < b0 ∧ b0 ≤ 40)
    (hp : ∀ ft' fb' fo', wl_bst (fun t b => C t b ∨ (t = t0 ∧ b = b0)) ft' fb' fo' → post (pc, ln, ft', fb', fo', px, py)) :
    wpY_look post (pc, ln, ft, fb, fo, px, py) (ml_l t0) (ml_l b0) := by
  rcases h with ⟨rfl, rfl, rfl, hn⟩ | ⟨rfl, t, b, rfl, rfl, hc, hmin⟩
  · refine br_t rfl (hp _ _ _ (Or.inr ⟨rfl, t0, b0, rfl, rfl, Or.inr ⟨rfl, rfl⟩, fun t' b' hc => ?_⟩))
    rcases hc with hc | ⟨rfl, rfl⟩
    · exact absurd hc (hn t' b')
    · exact Int.le_refl _
  · have k := hC t b hc
    have m1 := ml_mb (a := t) (b := b0) (A := 1920000) (B := 40) (by omega) (by omega)
    have m2 := ml_mb (a := t0) (b := b) (A := 1920000) (B := 40) (by omega) (by omega)
    refine br_f (by decide) (ml_cle64 (t * b0) (t0 * b) (fun hle => hp _ _ _ (Or.inr ⟨rfl, t, b, rfl, rfl, Or.inl hc, fun t' b' hc' => ?_⟩)) (fun hlt => hp _ _ _ (Or.inr ⟨rfl, t0, b0, rfl, rfl, Or.inr ⟨rfl, rfl⟩, fun t' b' hc' => ?_⟩)) (ml_l_mul _ _) (ml_l_mul _ _))
    · rcases hc' with hc' | ⟨rfl, rfl⟩
      · exact hmin t' b' hc'
      · exact hle
    · rcases hc' with hc' | ⟨rfl, rfl⟩
      · have k' := hC t' b' hc'
        exact ml_tr ht.2.2.1 k.2.2.1 k'.2.2.1 (Int.le_of_lt hlt) (hmin t' b' hc')
      · exact Int.le_refl _
theorem wl_rise {post : Int32 → Prop} {j : Nat} (hi : i < 8) (hj : j < 8) (hx : ml_B20 x) (h : post (ml_i (ml_rise x y i j))) : wpY_rise post (pc, ln, ft, fb, fo, ml_a x, ml_a y) (nI i) (nI j) := by
  have a1 := hx i
  have a2 := hx j
  have vi : vp_in (nI i) 8 := vp_in_nI hi (by omega)
  have vj : vp_in (nI j) 8 := vp_in_nI hj (by omega)
  refine ⟨vj, vi, ml_ble (x j) (x i) (fun hle => ⟨vi, vj, ?_⟩) (fun hlt => ⟨vj, vi, ?_⟩) (ml_acl (by omega)) (ml_acl (by omega))⟩
  · rw [ml_acl (by omega), ml_acl (by omega), ml_i_sub]
    unfold ml_rise at h
    rw [if_neg (by omega)] at h
    exact h
  · rw [ml_acl (by omega), ml_acl (by omega), ml_i_sub]
    unfold ml_rise at h
    rw [if_pos (by omega)] at h
    exact h
theorem wl_run {post : Int32 → Prop} {j : Nat} (hi : i < 8) (hj : j < 8) (hx : ml_B20 x) (h : post (ml_i (ml_run x i j))) : wpY_run post (pc, ln, ft, fb, fo, ml_a x, py) (nI i) (nI j) := by
  have a1 := hx i
  have a2 := hx j
  have vi : vp_in (nI i) 8 := vp_in_nI hi (by omega)
  have vj : vp_in (nI j) 8 := vp_in_nI hj (by omega)
  refine ⟨vj, vi, ml_ble (x j) (x i) (fun hle => ⟨vi, vj, ?_⟩) (fun hlt => ⟨vj, vi, ?_⟩) (ml_acl (by omega)) (ml_acl (by omega))⟩
  · rw [ml_acl (by omega), ml_acl (by omega), ml_i_sub]
    unfold ml_run at h
    rw [if_neg (by omega)] at h
    exact h
  · rw [ml_acl (by omega), ml_acl (by omega), ml_i_sub]
    unfold ml_run at h
    rw [if_pos (by omega)] at h
    exact h
def wl_Cj (m : Nat) (x y : Nat → Int) (l : Int) (i : Nat) (C : Int → Int → Prop) (j : Nat) : Int → Int → Prop :=
  fun t b => C t b ∨ ∃ j', j' < j ∧ x j' ≠ x i ∧ t = ml_TC m x y l i (ml_rise x y i j') (ml_run x i j') ∧ b = ml_run x i j'
theorem wl_pairb (hm : m ≤ 8) (l1 : 1 ≤ l) (l3 : l ≤ 3) (hx : ml_B20 x) (hy : ml_B20 y) {j : Nat} (hne : x j ≠ x i) :
    0 ≤ ml_TC m x y l i (ml_rise x y i j) (ml_run x i j) ∧ ml_TC m x y l i (ml_rise x y i j) (ml_run x i j) ≤ 1920000 ∧ 0 < ml_run x i j ∧ ml_run x i j ≤ 40 := by
  have a := ml_riseb (x := x) hy i j
  have b := ml_runb hx i j
  have c := ml_TCb (l := l) hm l1 l3 hx hy (p := ml_rise x y i j) (q := ml_run x i j) (by omega) (by omega) i
  exact ⟨c.1, c.2, ml_run_pos hne, b.2⟩
theorem wl_Cj_bd (hm : m ≤ 8) (l1 : 1 ≤ l) (l3 : l ≤ 3) (hx : ml_B20 x) (hy : ml_B20 y) (hC : wl_bd C) (j : Nat) : wl_bd (wl_Cj m x y l i C j) := by
  intro t b h
  rcases h with h | ⟨j', _, hne, rfl, rfl⟩
  · exact hC t b h
  · exact wl_pairb hm l1 l3 hx hy hne
theorem wl_lt4 {post : SY → Prop} (hm : m ≤ 8) (hi : i < 8) (l1 : 1 ≤ l) (l3 : l ≤ 3) (hx : ml_B20 x) (hy : ml_B20 y) (hC : wl_bd C)
    (hp : ∀ ft' fb' fo', wl_bst (fun t b => C t b ∨ ml_cand m x y l i t b) ft' fb' fo' → post (nI m, ml_i l, ft', fb', fo', ml_a x, ml_a y)) :
    ∀ dd j, j + dd = m → ∀ (ft fb : Int64) (fo al : Int32), wl_bst (wl_Cj m x y l i C j) ft fb fo → ((al = 1 ∧ ∀ j', j' < j → x j' = x i) ∨ (al = 0 ∧ ∃ j', j' < j ∧ x j' ≠ x i)) →
      wY_lookThrough_4 post (nI i) (dd + 1) al (nI j) (nI m) (ml_i l) ft fb fo (ml_a x) (ml_a y) := by
  intro dd
  induction dd with
  | zero =>
    intro j hj ft fb fo al hb ha
    have e : j = m := by omega
    subst e
    have hcb := wl_Cj_bd hm l1 l3 hx hy hC (i := i) j
    refine pk_le j j (fun _ => wl_yc (p := 0) (q := 1) hm hi l1 l3 hx hy (by omega) (by omega) ?_) (fun z => by omega)
    have tb := ml_TCb (n := j) (l := l) hm l1 l3 hx hy (p := 0) (q := 1) (by omega) (by omega) i
    rcases ha with ⟨rfl, hall⟩ | ⟨rfl, hex⟩
    · refine br_f (by decide) (wl_look hcb hb (t0 := ml_TC j x y l i 0 1) (b0 := 1) ⟨tb.1, tb.2, by omega, by omega⟩ (fun ft' fb' fo' h => hp ft' fb' fo' (wl_bst_c h (fun t b => ?_))))
      constructor
      · rintro ((h | ⟨j', h1, h2, _⟩) | ⟨rfl, rfl⟩)
        · exact Or.inl h
        · exact absurd (hall j' h1) h2
        · exact Or.inr (Or.inr ⟨hall, rfl, rfl⟩)
      · rintro (h | ⟨j', h1, h2, _⟩ | ⟨_, h1, h2⟩)
        · exact Or.inl (Or.inl h)
        · exact absurd (hall j' h1) h2
        · exact Or.inr ⟨h1, h2⟩
    · refine br_t rfl (hp ft fb fo (wl_bst_c hb (fun t b => ?_)))
      constructor
      · rintro (h | h)
        · exact Or.inl h
        · exact Or.inr (Or.inl h)
      · rintro (h | h | ⟨h1, _⟩)
        · exact Or.inl h
        · exact Or.inr h
        · obtain ⟨j', h2, h3⟩ := hex
          exact absurd (h1 j' h2) h3
  | succ dd ih =>
    intro j hj ft fb fo al hb ha
    have a1 := hx i
    have a2 := hx j
    have vi : vp_in (nI i) 8 := vp_in_nI hi (by omega)
    have vj : vp_in (nI j) 8 := vp_in_nI (by omega) (by omega)
    refine pk_le m j (fun z => by omega) (fun _ => ⟨vj, vi, ml_beq (x j) (x i) (fun he => nm_r (nI_1 j) ?_) (fun hne => ?_) (ml_acl (by omega)) (ml_acl (by omega))⟩)
    · refine ih (j + 1) (by omega) ft fb fo al (wl_bst_c hb (fun t b => ?_)) ?_
      · constructor
        · rintro (h | ⟨j', h1, h2⟩)
          · exact Or.inl h
          · exact Or.inr ⟨j', by omega, h2⟩
        · rintro (h | ⟨j', h1, h2, h3⟩)
          · exact Or.inl h
          · refine Or.inr ⟨j', ?_, h2, h3⟩
            have : j' ≠ j := fun z => h2 (z ▸ he)
            omega
      · rcases ha with ⟨e1, e2⟩ | ⟨e1, j', e2, e3⟩
        · refine Or.inl ⟨e1, fun j' h => ?_⟩
          by_cases z : j' = j
          · rw [z]; exact he
          · exact e2 j' (by omega)
        · exact Or.inr ⟨e1, j', by omega, e3⟩
    · have rb := ml_riseb (x := x) hy i j
      have ub := ml_runb hx i j
      have hcb := wl_Cj_bd hm l1 l3 hx hy hC (i := i) j
      refine wl_rise hi (by omega) hx (wl_run hi (by omega) hx (wl_yc hm hi l1 l3 hx hy (by omega) (by omega) ?_))
      rw [ml_i_l (by omega) (by omega)]
      refine wl_look hcb hb (wl_pairb hm l1 l3 hx hy hne) (fun ft' fb' fo' h => nm_r (nI_1 j) (ih (j + 1) (by omega) ft' fb' fo' 0 (wl_bst_c h (fun t b => ?_)) (Or.inr ⟨rfl, j, by omega, hne⟩)))
      constructor
      · rintro ((h | ⟨j', h1, h2⟩) | ⟨h1, h2⟩)
        · exact Or.inl h
        · exact Or.inr ⟨j', by omega, h2⟩
        · exact Or.inr ⟨j, by omega, hne, h1, h2⟩
      · rintro (h | ⟨j', h1, h2, h3⟩)
        · exact Or.inl (Or.inl h)
        · by_cases z : j' = j
          · subst z; exact Or.inr h3
          · exact Or.inl (Or.inr ⟨j', by omega, h2, h3⟩)
theorem wl_lt {post : SY → Prop} (hm : m ≤ 8) (hi : i < 8) (l1 : 1 ≤ l) (l3 : l ≤ 3) (hx : ml_B20 x) (hy : ml_B20 y) (hC : wl_bd C) (h : wl_bst C ft fb fo)
    (hp : ∀ ft' fb' fo', wl_bst (fun t b => C t b ∨ ml_cand m x y l i t b) ft' fb' fo' → post (nI m, ml_i l, ft', fb', fo', ml_a x, ml_a y)) :
    wpY_lookThrough post (nI m, ml_i l, ft, fb, fo, ml_a x, ml_a y) (nI i) := by
  have k := wl_lt4 hm hi l1 l3 hx hy hC hp m 0 (by omega) ft fb fo 1 (wl_bst_c h (fun t b => ⟨Or.inl, fun z => by
    rcases z with z | ⟨j', h1, _⟩
    · exact z
    · omega⟩)) (Or.inl ⟨rfl, fun j' hj' => by omega⟩)
  exact ⟨m + 1, k⟩
theorem wl_cand_bd (hm : m ≤ 8) (l1 : 1 ≤ l) (l3 : l ≤ 3) (hx : ml_B20 x) (hy : ml_B20 y) : wl_bd (ml_cand m x y l i) := by
  intro t b h
  rcases h with ⟨j, _, hne, rfl, rfl⟩ | ⟨_, rfl, rfl⟩
  · exact wl_pairb hm l1 l3 hx hy hne
  · have tb := ml_TCb (n := m) (l := l) hm l1 l3 hx hy (p := 0) (q := 1) (by omega) (by omega) i
    exact ⟨tb.1, tb.2, by omega, by omega⟩
theorem wl_cand_ex (m : Nat) (x y : Nat → Int) (l : Int) (i : Nat) : ∃ t b, ml_cand m x y l i t b := by
  by_cases h : ∃ j, j < m ∧ x j ≠ x i
  · obtain ⟨j, hj, hne⟩ := h
    exact ⟨_, _, Or.inl ⟨j, hj, hne, rfl, rfl⟩⟩
  · refine ⟨_, _, Or.inr ⟨fun j hj => ?_, rfl, rfl⟩⟩
    apply Classical.byContradiction
    intro z
    exact h ⟨j, hj, z⟩
theorem wl_ls6 {post : SY → Prop} (hm : m ≤ 8) (l1 : 1 ≤ l) (l3 : l ≤ 3) (hx : ml_B20 x) (hy : ml_B20 y)
    (hp : ∀ ft' fb' fo', wl_bst (fun t b => ∃ i, i < m ∧ ml_cand m x y l i t b) ft' fb' fo' → post (nI m, ml_i l, ft', fb', fo', ml_a x, ml_a y)) :
    ∀ dd i, i + dd = m → ∀ (ft fb : Int64) (fo : Int32), wl_bst (fun t b => ∃ i', i' < i ∧ ml_cand m x y l i' t b) ft fb fo → wY_least_6 post (dd + 1) (nI i) (nI m) (ml_i l) ft fb fo (ml_a x) (ml_a y) := by
  intro dd
  induction dd with
  | zero =>
    intro i hi ft fb fo h
    have e : i = m := by omega
    subst e
    exact pk_le i i (fun _ => hp ft fb fo h) (fun z => by omega)
  | succ dd ih =>
    intro i hi ft fb fo h
    refine pk_le m i (fun z => by omega) (fun _ => ?_)
    have hcb : wl_bd (fun t b => ∃ i', i' < i ∧ ml_cand m x y l i' t b) := by
      rintro t b ⟨i', _, hc⟩
      exact wl_cand_bd hm l1 l3 hx hy t b hc
    refine wl_lt hm (by omega) l1 l3 hx hy hcb h (fun ft' fb' fo' h' => nm_r (nI_1 i) (ih (i + 1) (by omega) ft' fb' fo' (wl_bst_c h' (fun t b => ?_))))
    constructor
    · rintro (⟨i', h1, h2⟩ | h2)
      · exact ⟨i', by omega, h2⟩
      · exact ⟨i, by omega, h2⟩
    · rintro ⟨i', h1, h2⟩
      by_cases z : i' = i
      · subst z; exact Or.inr h2
      · exact Or.inl ⟨i', by omega, h2⟩
/-- Y: the least cost of all lines -/
theorem wl_least {post : SY → Prop} (hm : m ≤ 8) (l1 : 1 ≤ l) (l3 : l ≤ 3) (hx : ml_B20 x) (hy : ml_B20 y)
    (hp : ∀ (t b : Nat) (fo' : Int32), ml_min m x y l t b → t ≤ 1920000 → 0 < b → b ≤ 40 → post (nI m, ml_i l, lN t, lN b, fo', ml_a x, ml_a y)) :
    wpY_least post (nI m, ml_i l, ft, fb, fo, ml_a x, ml_a y) := by
  have k := wl_ls6 (post := post) hm l1 l3 hx hy (fun ft' fb' fo' h => by
    rcases h with ⟨rfl, rfl, rfl, hn⟩ | ⟨rfl, t, b, rfl, rfl, ⟨i, hi, hc⟩, hmin⟩
    · have z : m = 0 := by
        apply Classical.byContradiction
        intro z
        obtain ⟨t, b, h⟩ := wl_cand_ex m x y l 0
        exact hn t b ⟨0, by omega, h⟩
      subst z
      exact hp 0 1 0 ml_min_0 (by omega) (by omega) (by omega)
    · have hb := wl_cand_bd hm l1 l3 hx hy t b hc
      have hm' := ml_cand_min l1 l3 hi hc (fun i' hi' t' b' hc' => hmin t' b' ⟨i', hi', hc'⟩)
      obtain ⟨T, rfl⟩ := Int.eq_ofNat_of_zero_le hb.1
      obtain ⟨B, rfl⟩ := Int.eq_ofNat_of_zero_le (Int.le_of_lt hb.2.2.1)
      have k := hp T B 1 hm' (by omega) (by omega) (by omega)
      rw [← ml_l_lN, ← ml_l_lN] at k
      exact k) m 0 (by omega) 0 1 0 (Or.inl ⟨rfl, rfl, rfl, fun t b ⟨i', h, _⟩ => by omega⟩)
  exact ⟨m + 1, k⟩
/-- Y: the least cost through one point -/
theorem wl_ythr {post : SY → Prop} (hm : m ≤ 8) (hi : i < m) (l1 : 1 ≤ l) (l3 : l ≤ 3) (hx : ml_B20 x) (hy : ml_B20 y)
    (hp : ∀ (t b : Nat) (fo' : Int32), ml_tmin m x y l i t b → t ≤ 1920000 → 0 < b → b ≤ 40 → post (nI m, ml_i l, lN t, lN b, fo', ml_a x, ml_a y)) :
    wpY_lookThrough post (nI m, ml_i l, 0, 1, 0, ml_a x, ml_a y) (nI i) := by
  refine wl_lt (C := fun _ _ => False) hm (by omega) l1 l3 hx hy (fun t b h => h.elim) (Or.inl ⟨rfl, rfl, rfl, fun _ _ h => h⟩) (fun ft' fb' fo' h => ?_)
  rcases h with ⟨rfl, rfl, rfl, hn⟩ | ⟨rfl, t, b, rfl, rfl, hc, hmin⟩
  · obtain ⟨t, b, h⟩ := wl_cand_ex m x y l i
    exact absurd (Or.inr h) (hn t b)
  · have hc := hc.resolve_left (fun z => z)
    have hb := wl_cand_bd hm l1 l3 hx hy t b hc
    have hm' := ml_cand_tmin l1 l3 hc (fun t' b' hc' => hmin t' b' (Or.inr hc'))
    obtain ⟨T, rfl⟩ := Int.eq_ofNat_of_zero_le hb.1
    obtain ⟨B, rfl⟩ := Int.eq_ofNat_of_zero_le (Int.le_of_lt hb.2.2.1)
    have k := hp T B 1 hm' (by omega) (by omega) (by omega)
    rw [← ml_l_lN, ← ml_l_lN] at k
    exact k
/-- the least cost with a slope -/
def wl_wV (m : Nat) (x y : Nat → Int) (l p q V : Int) : Prop := (m = 0 ∧ V = 0) ∨ ((∃ i, i < m ∧ V = ml_TC m x y l i p q) ∧ ∀ i, i < m → V ≤ ml_TC m x y l i p q)
theorem wl_wV_u {V V' : Int} (h : wl_wV m x y l p q V) (h' : wl_wV m x y l p q V') : V = V' := by
  rcases h with ⟨h1, h2⟩ | ⟨⟨i, h1, h2⟩, h3⟩
  · rcases h' with ⟨g1, g2⟩ | ⟨⟨i, g1, g2⟩, g3⟩
    · omega
    · omega
  · rcases h' with ⟨g1, g2⟩ | ⟨⟨i', g1, g2⟩, g3⟩
    · omega
    · have a := h3 i' g1
      have b := g3 i h1
      omega
theorem wl_wV_b (hm : m ≤ 8) (l1 : 1 ≤ l) (l3 : l ≤ 3) (hx : ml_B20 x) (hy : ml_B20 y) (hp : -1000 ≤ p ∧ p ≤ 1000) (hq : -1000 ≤ q ∧ q ≤ 1000) {V : Int} (h : wl_wV m x y l p q V) : 0 ≤ V ∧ V ≤ 1920000 := by
  rcases h with ⟨h1, h2⟩ | ⟨⟨i, h1, h2⟩, h3⟩
  · omega
  · rw [h2]; exact ml_TCb hm l1 l3 hx hy hp hq i
theorem wl_w7 {post : Int64 → Prop} (hm : m ≤ 8) (l1 : 1 ≤ l) (l3 : l ≤ 3) (hx : ml_B20 x) (hy : ml_B20 y) (hp : -1000 ≤ p ∧ p ≤ 1000) (hq : -1000 ≤ q ∧ q ≤ 1000)
    (h : ∀ V, wl_wV m x y l p q V → post (ml_l V)) :
    ∀ dd i, i + dd = m → ∀ V : Int, ((i = 0 ∧ V = -1) ∨ (0 ≤ V ∧ (∃ i', i' < i ∧ V = ml_TC m x y l i' p q) ∧ ∀ i', i' < i → V ≤ ml_TC m x y l i' p q)) →
      wY_with_7 post (ml_i p) (ml_i q) (nI m) (ml_i l) ft fb fo (ml_a x) (ml_a y) (dd + 1) (ml_l V) (nI i) := by
  intro dd
  induction dd with
  | zero =>
    intro i hi V hV
    have e : i = m := by omega
    subst e
    refine pk_le i i (fun _ => ?_) (fun z => by omega)
    rcases hV with ⟨rfl, rfl⟩ | ⟨h0, ⟨i', h1, h2⟩, h3⟩
    · refine br_f (by decide) (h 0 (Or.inl ⟨rfl, rfl⟩))
    · have tb := ml_TCb hm l1 l3 hx hy hp hq i'
      exact ml_cle64 0 V (fun _ => h V (Or.inr ⟨⟨i', h1, h2⟩, h3⟩)) (fun z => by omega) ml_l0 rfl
  | succ dd ih =>
    intro i hi V hV
    refine pk_le m i (fun z => by omega) (fun _ => wl_yc hm (by omega) l1 l3 hx hy hp hq ?_)
    have ti := ml_TCb hm l1 l3 hx hy hp hq i
    rcases hV with ⟨rfl, rfl⟩ | ⟨h0, ⟨i', h1, h2⟩, h3⟩
    · refine br_t (by decide) (nm_r (nI_1 0) (ih 1 (by omega) _ (Or.inr ⟨ti.1, ⟨0, by omega, rfl⟩, fun i' hi' => ?_⟩)))
      rw [show i' = 0 by omega]
      exact Int.le_refl _
    · have tb := ml_TCb hm l1 l3 hx hy hp hq i'
      refine ml_clt64 V 0 (fun z => by omega) (fun _ => ml_cle64 V (ml_TC m x y l i p q) (fun hle => nm_r (nI_1 i) (ih (i + 1) (by omega) V (Or.inr ⟨h0, ⟨i', by omega, h2⟩, fun k hk => ?_⟩))) (fun hlt => nm_r (nI_1 i) (ih (i + 1) (by omega) _ (Or.inr ⟨ti.1, ⟨i, by omega, rfl⟩, fun k hk => ?_⟩))) rfl rfl) rfl ml_l0
      · by_cases z : k = i
        · rw [z]; exact hle
        · exact h3 k (by omega)
      · by_cases z : k = i
        · rw [z]; exact Int.le_refl _
        · have := h3 k (by omega)
          omega
/-- Y: the least cost with a slope -/
theorem wl_with {post : Int64 → Prop} (hm : m ≤ 8) (l1 : 1 ≤ l) (l3 : l ≤ 3) (hx : ml_B20 x) (hy : ml_B20 y) (hp : -1000 ≤ p ∧ p ≤ 1000) (hq : -1000 ≤ q ∧ q ≤ 1000)
    (h : ∀ V, wl_wV m x y l p q V → post (ml_l V)) : wpY_with post (nI m, ml_i l, ft, fb, fo, ml_a x, ml_a y) (ml_i p) (ml_i q) := by
  have k := wl_w7 (ft := ft) (fb := fb) (fo := fo) hm l1 l3 hx hy hp hq h m 0 (by omega) (-1) (Or.inl ⟨rfl, rfl⟩)
  exact ⟨m + 1, k⟩
end
end
section
theorem ml_a_upd {F : Nat → Int} {a : Nat} {v : Int} (ha : a < 2147483648) : upd (ml_a F) (nI a).toNatClampNeg (ml_i v) = ml_a (fun j => if j = a then v else F j) := by
  rw [nI_clamp ha]
  funext j
  unfold upd ml_a
  dsimp only
  by_cases h : j = a
  · rw [if_pos h, if_pos h]
  · rw [if_neg h, if_neg h]
theorem ml_a_ex (s : Nat → Int32) : ∃ f, s = ml_a f := ⟨fun j => (s j).toInt, funext (fun j => (Int32.ofInt_toInt (s j)).symm)⟩
/-- sorted pairs: in order, as a bag M, each with Q -/
def wl_S (Q : Int → Int → Prop) (f g : Nat → Int) (c : Nat) (M : (Int → Int → Int) → Int) : Prop :=
  ml_ord f g c ∧ (∀ φ, ml_sm (fun j => φ (f j) (g j)) c = M φ) ∧ (∀ j, j < c → Q (f j) (g j)) ∧ ∀ j, j < c → -100000 ≤ f j ∧ f j ≤ 100000 ∧ g j ≤ 1000
theorem wl_S_0 (Q : Int → Int → Prop) (f g : Nat → Int) : wl_S Q f g 0 (fun _ => 0) :=
  ⟨⟨fun i hi => by omega, fun i j _ hj => by omega⟩, fun φ => rfl, fun j hj => by omega, fun j hj => by omega⟩
theorem wl_S_c {Q : Int → Int → Prop} {f g : Nat → Int} {c : Nat} {M M' : (Int → Int → Int) → Int} (h : wl_S Q f g c M) (e : ∀ φ, M φ = M' φ) : wl_S Q f g c M' :=
  ⟨h.1, fun φ => (h.2.1 φ).trans (e φ), h.2.2⟩
theorem wl_S_ins {Q : Int → Int → Prop} {f g : Nat → Int} {c a : Nat} {M : (Int → Int → Int) → Int} {v w : Int} (h : wl_S Q f g c M) (ha : a ≤ c) (hw : 0 < w) (hw2 : w ≤ 1000) (hv : -100000 ≤ v ∧ v ≤ 100000) (hq : Q v w)
    (hlo : 0 < a → f (a - 1) * w ≤ v * g (a - 1)) (hhi : ∀ j, a ≤ j → j < c → v * g j ≤ f j * w) : wl_S Q (ml_ins f c a v) (ml_ins g c a w) (c + 1) (fun φ => M φ + φ v w) := by
  obtain ⟨h1, h2, h3, h4⟩ := h
  have each : ∀ (R : Int → Int → Prop), R v w → (∀ j, j < c → R (f j) (g j)) → ∀ j, j < c + 1 → R (ml_ins f c a v j) (ml_ins g c a w j) := by
    intro R r0 r1 j hj
    unfold ml_ins
    by_cases c1 : j < a
    · rw [if_pos c1, if_pos c1]; exact r1 j (by omega)
    · rw [if_neg c1, if_neg c1]
      by_cases c2 : j = a
      · rw [if_pos c2, if_pos c2]; exact r0
      · rw [if_neg c2, if_neg c2, if_pos (by omega), if_pos (by omega)]; exact r1 _ (by omega)
  refine ⟨ml_ins_ord h1 ha hw hlo hhi, fun φ => ?_, each Q hq h3, each (fun a b => -100000 ≤ a ∧ a ≤ 100000 ∧ b ≤ 1000) ⟨hv.1, hv.2, hw2⟩ h4⟩
  rw [ml_ins_sum ha φ, h2 φ]
section
variable {m i : Nat} {x y : Nat → Int} {l p q : Int} {fd ft fb : Int64} {sc : Int32} {tb : Nat → Int64} {ow st sb : Nat → Int32} {pc ln : Int32} {px py : Nat → Int32} {Q : Int → Int → Prop} {f g : Nat → Int} {c : Nat} {M : (Int → Int → Int) → Int}
theorem wl_in66 {post : SX → Prop} {a : Nat} {v w : Int} {F G : Nat → Int} (ha : a ≤ c) (hc : c ≤ 7) (hF : ∀ j, j ≠ a → F j = ml_ins f c a v j) (hG : ∀ j, j ≠ a → G j = ml_ins g c a w j)
    (h : post (pc, ln, fd, ft, fb, nI (c + 1), px, py, tb, ow, ml_a (ml_ins f c a v), ml_a (ml_ins g c a w))) :
    wX_insert_66 post (ml_i v) (ml_i w) (nI a) pc ln fd ft fb (nI c) px py tb ow (ml_a F) (ml_a G) := by
  have va : vp_in (nI a) 8 := vp_in_nI (by omega) (by omega)
  have e : ∀ (f F : Nat → Int) (v : Int), (∀ j, j ≠ a → F j = ml_ins f c a v j) → (fun j => if j = a then v else F j) = ml_ins f c a v := by
    intro f F v hF
    funext j
    by_cases z : j = a
    · rw [if_pos z, z]
      exact ((if_neg (by omega)).trans (if_pos rfl)).symm
    · rw [if_neg z]; exact hF j z
  refine ⟨va, nm_r (ml_a_upd (by omega)) ⟨va, nm_r (ml_a_upd (by omega)) (nm_r (nI_1 c) ?_)⟩⟩
  rw [e f F v hF, e g G w hG]
  exact h
theorem wl_in5 {post : SX → Prop} {v w : Int} (hS : wl_S Q f g c M) (hc : c ≤ 7) (hw : 0 < w) (hw2 : w ≤ 1000) (hv : -100000 ≤ v ∧ v ≤ 100000)
    (h : ∀ a, a ≤ c → (0 < a → f (a - 1) * w ≤ v * g (a - 1)) → (∀ j, a ≤ j → j < c → v * g j ≤ f j * w) →
      post (pc, ln, fd, ft, fb, nI (c + 1), px, py, tb, ow, ml_a (ml_ins f c a v), ml_a (ml_ins g c a w))) :
    ∀ a F G, a ≤ c → (∀ j, j ≠ a → F j = ml_ins f c a v j) → (∀ j, j ≠ a → G j = ml_ins g c a w j) → (∀ j, a ≤ j → j < c → v * g j ≤ f j * w) →
      wX_insert_5 post (ml_i v) (ml_i w) pc ln fd ft fb (nI c) (a + 1) (nI a) px py tb ow (ml_a F) (ml_a G) := by
  intro a
  induction a with
  | zero =>
    intro F G ha hF hG hhi
    exact br_t (by decide) (wl_in66 ha hc hF hG (h 0 ha (fun z => by omega) hhi))
  | succ a ih =>
    intro F G ha hF hG hhi
    have e1 : nI (a + 1) - 1 = nI a := nI_pred a
    have va : vp_in (nI a) 8 := vp_in_nI (by omega) (by omega)
    have va1 : vp_in (nI (a + 1)) 8 := vp_in_nI (by omega) (by omega)
    have eF : F a = f a := (hF a (by omega)).trans (if_pos (by omega))
    have eG : G a = g a := (hG a (by omega)).trans (if_pos (by omega))
    obtain ⟨b1, b2, b3⟩ := hS.2.2.2 a (by omega)
    have b4 := hS.1.1 a (by omega)
    have m1 := ml_mb (a := f a) (b := w) (A := 100000) (B := 1000) ⟨b1, b2⟩ ⟨by omega, by omega⟩
    have m2 := ml_mb (a := v) (b := g a) (A := 100000) (B := 1000) hv ⟨by omega, by omega⟩
    refine br_f (nI_nle (by omega) (by omega)) ?_
    rw [e1]
    refine ⟨va, va, ml_ble (f a * w) (v * g a) (fun hle => ?_) (fun hlt => ?_) (by rw [ml_acl (by omega), eF, ml_i_mul]) (by rw [ml_acl (by omega), eG, ml_i_mul])⟩
    · exact wl_in66 ha hc hF hG (h (a + 1) ha (fun _ => hle) hhi)
    · refine ⟨va, va1, nm_r (e' := ml_a (fun j => if j = a + 1 then F a else F j)) (by rw [ml_acl (by omega)]; exact ml_a_upd (by omega)) ⟨va, va1, nm_r (e' := ml_a (fun j => if j = a + 1 then G a else G j)) (by rw [ml_acl (by omega)]; exact ml_a_upd (by omega)) (nm_r (pk_m1 a) ?_)⟩⟩
      have hole : ∀ (f F : Nat → Int) (v : Int), (∀ j, j ≠ a + 1 → F j = ml_ins f c (a + 1) v j) → F a = f a → ∀ j, j ≠ a → (fun j => if j = a + 1 then F a else F j) j = ml_ins f c a v j := by
        intro f F v hF eF j hj
        dsimp only
        unfold ml_ins
        by_cases z : j = a + 1
        · rw [if_pos z, if_neg (by omega), if_neg (by omega), if_pos (by omega), eF, z, Nat.add_sub_cancel]
        · rw [if_neg z, hF j z]
          unfold ml_ins
          by_cases z2 : j < a
          · rw [if_pos (by omega), if_pos z2]
          · rw [if_neg (by omega), if_neg z, if_neg z2, if_neg hj]
      refine ih _ _ (by omega) (hole f F v hF eF) (hole g G w hG eG) (fun j h1 h2 => ?_)
      by_cases z : j = a
      · rw [z]; exact Int.le_of_lt hlt
      · exact hhi j (by omega) h2
/-- X: one more in order -/
theorem wl_insert {post : SX → Prop} {v w : Int} (hS : wl_S Q f g c M) (hc : c ≤ 7) (hw : 0 < w) (hw2 : w ≤ 1000) (hv : -100000 ≤ v ∧ v ≤ 100000) (hq : Q v w)
    (h : ∀ f' g', wl_S Q f' g' (c + 1) (fun φ => M φ + φ v w) → post (pc, ln, fd, ft, fb, nI (c + 1), px, py, tb, ow, ml_a f', ml_a g')) :
    wpX_insert post (pc, ln, fd, ft, fb, nI c, px, py, tb, ow, ml_a f, ml_a g) (ml_i v) (ml_i w) := by
  have e : ∀ (f : Nat → Int) (v : Int) (j : Nat), j ≠ c → f j = ml_ins f c c v j := by
    intro f v j hj
    unfold ml_ins
    by_cases z : j < c
    · rw [if_pos z]
    · rw [if_neg z, if_neg hj, if_neg (by omega)]
  exact ⟨c + 1, wl_in5 hS hc hw hw2 hv (fun a ha h1 h2 => h _ _ (wl_S_ins hS ha hw hw2 hv hq h1 h2)) c f g (Nat.le_refl c) (e f v) (e g w) (fun j h1 h2 => by omega)⟩
theorem wl_s95 {post : Int32 → SX → Prop} {h0 : Int} (hc : c ≤ 8) (hb : ∀ j, j < c → -100000 ≤ f j ∧ f j ≤ 100000) (hh : -100000 ≤ h0 ∧ h0 ≤ 100000)
    (h : post (ml_i (ml_sm (fun k => ml_cf l (f k - h0)) c)) (pc, ml_i l, fd, ft, fb, nI c, px, py, tb, ow, ml_a f, sb)) :
    ∀ dd j, j + dd = c → wX_slopeCost_95 post (ml_i h0) pc (ml_i l) fd ft fb (nI c) px py tb ow (ml_a f) sb (dd + 1) (ml_i (ml_sm (fun k => ml_cf l (f k - h0)) j)) (nI j) := by
  intro dd
  induction dd with
  | zero =>
    intro j hj
    have e : j = c := by omega
    subst e
    exact pk_le j j (fun _ => h) (fun z => by omega)
  | succ dd ih =>
    intro j hj
    have b := hb j (by omega)
    refine pk_le c j (fun z => by omega) (fun _ => ⟨vp_in_nI (by omega) (by omega), ?_⟩)
    rw [ml_acl (by omega), ml_i_sub]
    exact wl_costOf (by omega) (by omega) (nm_r (ml_i_add _ _) (nm_r (nI_1 j) (ih (j + 1) (by omega))))
theorem wl_s58 {post : Int32 → SX → Prop} (l1 : 1 ≤ l) (l3 : l ≤ 3) (hc : c ≤ 8) (hc0 : 0 < c) (hb : ∀ j, j < c → -100000 ≤ f j ∧ f j ≤ 100000)
    (h : ∀ a, a < c → 4 * (a : Int) ≤ l * c → l * c ≤ 4 * (a + 1) → post (ml_i (ml_sm (fun k => ml_cf l (f k - f a)) c)) (pc, ml_i l, fd, ft, fb, nI c, px, py, tb, ow, ml_a f, sb)) :
    ∀ dd a, a + 1 + dd = c → 4 * (a : Int) ≤ l * c → wX_slopeCost_58 post pc (ml_i l) fd ft fb (nI c) px py tb ow (ml_a f) sb (dd + 1) (nI a) := by
  have hl := ml_mb (a := l) (b := c) (A := 3) (B := 8) (by omega) (by omega)
  have el : ml_i l * nI c = ml_i (l * c) := by rw [← ml_i_nI, ml_i_mul]
  have ea : ∀ a : Nat, (4 : Int32) * (nI a + 1) = ml_i (4 * ((a : Int) + 1)) := by
    intro a
    rw [ml_i4, ml_i1, ← ml_i_nI, ml_i_add, ml_i_mul]
  have fin : ∀ a, a < c → 4 * (a : Int) ≤ l * c → l * c ≤ 4 * (a + 1) → (vp_in (nI a) 8 ∧ (∀ x4_5 : Int32, x4_5 = ml_a f (nI a).toNatClampNeg → (∃ n95 : Nat, wX_slopeCost_95 post x4_5 pc (ml_i l) fd ft fb (nI c) px py tb ow (ml_a f) sb n95 0 0))) := by
    intro a ha h1 h2
    refine ⟨vp_in_nI (by omega) (by omega), nm_r (ml_acl (by omega)) ⟨c + 1, ?_⟩⟩
    have k := wl_s95 (post := post) (h0 := f a) hc hb (hb a ha) (h a ha h1 h2) c 0 (by omega)
    have e : ml_i (ml_sm (fun k => ml_cf l (f k - f a)) 0) = 0 := ml_i0.symm
    rw [e, nI_0] at k
    exact k
  intro dd
  induction dd with
  | zero =>
    intro a ha h1
    have h2 : l * (c : Int) ≤ 4 * (a + 1) := by
      have := Int.mul_le_mul_of_nonneg_right l3 (show (0 : Int) ≤ c by omega)
      omega
    exact ml_ble (l * c) (4 * (a + 1)) (fun hle => fin a (by omega) h1 h2) (fun z => by omega) el (ea a)
  | succ dd ih =>
    intro a ha h1
    exact ml_ble (l * c) (4 * (a + 1)) (fun hle => fin a (by omega) h1 hle) (fun hlt => nm_r (nI_1 a) (ih (a + 1) (by omega) (by omega))) el (ea a)
/-- what the order says of the cost -/
theorem wl_sV (l1 : 1 ≤ l) (l3 : l ≤ 3) (hm : 0 < m) {d : Nat → Int} (hd : ∀ k, d k = y k * q - p * x k) (hS : wl_S (fun _ b => b = 1) f g m (fun φ => ml_sm (fun k => φ (d k) 1) m)) {a : Nat} (ha : a < m) (h1 : 4 * (a : Int) ≤ l * m) (h2 : l * m ≤ 4 * (a + 1)) :
    wl_wV m x y l p q (ml_sm (fun k => ml_cf l (f k - f a)) m) := by
  obtain ⟨s1, s2, s3, s4⟩ := hS
  have eT : ∀ i, ml_TC m x y l i p q = ml_sm (fun k => ml_cf l (d k - d i)) m := by
    intro i
    unfold ml_TC
    exact ml_sm_congr (fun k _ => congrArg (ml_cf l) (by rw [hd k, hd i]; grind))
  have eS : ∀ h0, ml_sm (fun k => ml_cf l (f k - h0)) m = ml_sm (fun k => ml_cf l (d k - h0)) m := fun h0 => s2 (fun a _ => ml_cf l (a - h0))
  have hex : ∃ i, i < m ∧ d i = f a := by
    have k := s2 (fun u _ => if u = f a then 1 else 0)
    have pos : 0 < ml_sm (fun j => if f j = f a then (1 : Int) else 0) m := by
      have h3 := ml_sm_le (n := m) (f := fun j => if j = a then (1 : Int) else 0) (g := fun j => if f j = f a then (1 : Int) else 0) (fun j hj => by
        by_cases z : j = a
        · rw [if_pos z, z, if_pos rfl]; omega
        · rw [if_neg z]; split <;> omega)
      rw [ml_sm_one (k := a) ha (fun j hj hne => if_neg hne), if_pos rfl] at h3
      omega
    rw [k] at pos
    obtain ⟨i, hi, hp⟩ := ml_sm_pos pos
    refine ⟨i, hi, ?_⟩
    apply Classical.byContradiction
    intro z
    dsimp only at hp
    rw [if_neg z] at hp
    omega
  obtain ⟨i, hi, he⟩ := hex
  refine Or.inr ⟨⟨i, hi, ?_⟩, fun i' hi' => ?_⟩
  · rw [eT, eS, he]
  · rw [eT, ← eS]
    refine ml_quant (by omega) (by omega) ha h1 h2 (fun u v huv hv => ?_) (d i')
    have o := s1.2 u v huv hv
    rw [s3 u (by omega), s3 v hv] at o
    omega
theorem wl_s7 {post : Int32 → SX → Prop} (hm : m ≤ 8) (l1 : 1 ≤ l) (l3 : l ≤ 3) (hx : ml_B20 x) (hy : ml_B20 y) (hp : -1000 ≤ p ∧ p ≤ 1000) (hq : -1000 ≤ q ∧ q ≤ 1000)
    (h : ∀ V sc st sb, wl_wV m x y l p q V → post (ml_i V) (nI m, ml_i l, fd, ft, fb, sc, ml_a x, ml_a y, tb, ow, st, sb)) :
    ∀ dd j f g, j + dd = m → wl_S (fun _ b => b = 1) f g j (fun φ => ml_sm (fun k => φ (y k * q - p * x k) 1) j) →
      wX_slopeCost_7 post (ml_i p) (ml_i q) (dd + 1) (nI j) (nI m) (ml_i l) fd ft fb (nI j) (ml_a x) (ml_a y) tb ow (ml_a f) (ml_a g) := by
  intro dd
  induction dd with
  | zero =>
    intro j f g hj hS
    have e : j = m := by omega
    subst e
    refine pk_le j j (fun _ => ?_) (fun z => by omega)
    by_cases z : j = 0
    · subst z
      exact br_t rfl (h 0 _ _ _ (Or.inl ⟨rfl, rfl⟩))
    · refine br_f (nI_ne0 (by omega) (by omega)) ⟨(j - 1) + 1, ?_⟩
      exact wl_s58 l1 l3 hm (by omega) (fun k hk => ⟨(hS.2.2.2 k hk).1, (hS.2.2.2 k hk).2.1⟩) (fun a ha h1 h2 => h _ _ _ _ (wl_sV l1 l3 (by omega) (fun k => rfl) hS ha h1 h2)) (j - 1) 0 (by omega) (by
        have := Int.mul_nonneg (show 0 ≤ l by omega) (show (0 : Int) ≤ j by omega)
        omega)
  | succ dd ih =>
    intro j f g hj hS
    have vj : vp_in (nI j) 8 := vp_in_nI (by omega) (by omega)
    have a1 := hx j
    have a2 := hy j
    have b1 := ml_mb (a := y j) (b := q) (A := 20) (B := 1000) a2 hq
    have b2 := ml_mb (a := p) (b := x j) (A := 1000) (B := 20) hp a1
    refine pk_le m j (fun z => by omega) (fun _ => ⟨vj, vj, nm_r (e' := ml_i (y j * q - p * x j)) (by rw [ml_acl (by omega), ml_acl (by omega), ml_i_mul, ml_i_mul, ml_i_sub]) ?_⟩)
    refine wl_insert (w := 1) hS (by omega) (by omega) (by omega) (by omega) rfl (fun f' g' hS' => ?_)
    exact nm_r (nI_1 j) (ih (j + 1) f' g' (by omega) hS')
/-- X: the least cost with a slope -/
theorem wl_slope {post : Int32 → SX → Prop} (hm : m ≤ 8) (l1 : 1 ≤ l) (l3 : l ≤ 3) (hx : ml_B20 x) (hy : ml_B20 y) (hp : -1000 ≤ p ∧ p ≤ 1000) (hq : -1000 ≤ q ∧ q ≤ 1000)
    (h : ∀ V sc st sb, wl_wV m x y l p q V → post (ml_i V) (nI m, ml_i l, fd, ft, fb, sc, ml_a x, ml_a y, tb, ow, st, sb)) :
    wpX_slopeCost post (nI m, ml_i l, fd, ft, fb, sc, ml_a x, ml_a y, tb, ow, st, sb) (ml_i p) (ml_i q) := by
  obtain ⟨f, rfl⟩ := ml_a_ex st
  obtain ⟨g, rfl⟩ := ml_a_ex sb
  have k := wl_s7 (fd := fd) (ft := ft) (fb := fb) (tb := tb) (ow := ow) hm l1 l3 hx hy hp hq h m 0 f g (by omega) (wl_S_0 _ f g)
  rw [nI_0] at k
  exact ⟨m + 1, k⟩
end
end
section
section
variable {m i : Nat} {x y : Nat → Int} {l : Int} {fd ft fb : Int64} {sc : Int32} {tb : Nat → Int64} {ow st sb : Nat → Int32} {f g : Nat → Int} {c : Nat}
/-- the slots are the slopes to the other points -/
def wl_slots (m : Nat) (x y : Nat → Int) (i : Nat) (f g : Nat → Int) (c : Nat) : Prop :=
  ml_ord f g c ∧ (∀ k, k < c → ∃ j, j < m ∧ x j ≠ x i ∧ f k = ml_rise x y i j ∧ g k = ml_run x i j) ∧ ∀ j, j < m → x j ≠ x i → ∃ k, k < c ∧ f k = ml_rise x y i j ∧ g k = ml_run x i j
theorem wl_slot_min (l1 : 1 ≤ l) (l3 : l ≤ 3) (hs : wl_slots m x y i f g c) {k : Nat} (hk : k < c) (h : ∀ k', k' < c → ml_TC m x y l i (f k) (g k) * g k' ≤ ml_TC m x y l i (f k') (g k') * g k) :
    ml_tmin m x y l i (ml_TC m x y l i (f k) (g k)) (g k) := by
  obtain ⟨h1, h2, h3⟩ := hs
  obtain ⟨j, hj, hne, e1, e2⟩ := h2 k hk
  refine ml_cand_tmin l1 l3 (Or.inl ⟨j, hj, hne, by rw [e1, e2], e2⟩) (fun t' b' hc => ?_)
  rcases hc with ⟨j', hj', hne', rfl, rfl⟩ | ⟨hall, _⟩
  · obtain ⟨k', hk', d1, d2⟩ := h3 j' hj' hne'
    have := h k' hk'
    rw [d1, d2] at this
    exact this
  · exact absurd (hall j hj) hne
theorem wl_slot_0 (l1 : 1 ≤ l) (l3 : l ≤ 3) (hs : wl_slots m x y i f g 0) : ml_tmin m x y l i (ml_TC m x y l i 0 1) 1 := by
  obtain ⟨h1, h2, h3⟩ := hs
  have hall : ∀ j, j < m → x j = x i := by
    intro j hj
    apply Classical.byContradiction
    intro z
    obtain ⟨k, hk, _⟩ := h3 j hj z
    omega
  refine ml_cand_tmin l1 l3 (Or.inr ⟨hall, rfl, rfl⟩) (fun t' b' hc => ?_)
  rcases hc with ⟨j', hj', hne', _, _⟩ | ⟨_, rfl, rfl⟩
  · exact absurd (hall j' hj') hne'
  · exact Int.le_refl _
theorem wl_106_0 {post : SX → Prop} (hc : c ≤ 8) (H : wX_solveThrough_201 post (nI m) (ml_i l) fd ft fb (nI c) (ml_a x) (ml_a y) tb ow (ml_a f) (ml_a g)) (n k : Nat) (hk : k ≤ 8) :
    wX_solveThrough_106 post (nI i) (nI m) (ml_i l) fd (nI c) (ml_a x) (ml_a y) tb ow (ml_a f) (ml_a g) (n + 1) 0 (nI k) ft fb :=
  pk_le c k (fun _ => H) (fun _ => br_t rfl H)
theorem wl_106 {post : SX → Prop} (hm : m ≤ 8) (hi : i < 8) (hc : c ≤ 8) (hc0 : 0 < c) (l1 : 1 ≤ l) (l3 : l ≤ 3) (hx : ml_B20 x) (hy : ml_B20 y) (hs : wl_slots m x y i f g c)
    (H : ∀ t b, ml_tmin m x y l i t b → 0 ≤ t → t ≤ 1920000 → 0 < b → b ≤ 40 → wX_solveThrough_201 post (nI m) (ml_i l) fd (ml_l t) (ml_l b) (nI c) (ml_a x) (ml_a y) tb ow (ml_a f) (ml_a g)) :
    ∀ dd k, k + dd = c → ∀ t b : Int, (k = 0 ∨ (0 < k ∧ t = ml_TC m x y l i (f (k - 1)) (g (k - 1)) ∧ b = g (k - 1) ∧ ∀ k', k' < k → t * g k' ≤ ml_TC m x y l i (f k') (g k') * b)) →
      wX_solveThrough_106 post (nI i) (nI m) (ml_i l) fd (nI c) (ml_a x) (ml_a y) tb ow (ml_a f) (ml_a g) (dd + 1) 1 (nI k) (ml_l t) (ml_l b) := by
  have hb : ∀ k, k < c → (-40 ≤ f k ∧ f k ≤ 40) ∧ (0 < g k ∧ g k ≤ 40) ∧ 0 ≤ ml_TC m x y l i (f k) (g k) ∧ ml_TC m x y l i (f k) (g k) ≤ 1920000 := by
    intro k hk
    obtain ⟨j, hj, hne, e1, e2⟩ := hs.2.1 k hk
    have a := ml_riseb (x := x) hy i j
    have b := ml_runb hx i j
    have d := ml_run_pos hne
    have t := ml_TCb (l := l) hm l1 l3 hx hy (p := f k) (q := g k) (by omega) (by omega) i
    exact ⟨by omega, by omega, t⟩
  intro dd
  induction dd with
  | zero =>
    intro k hk t b hI
    have e : k = c := by omega
    subst e
    rcases hI with hI | ⟨h0, rfl, rfl, h3⟩
    · omega
    · have hbk := hb (k - 1) (by omega)
      exact pk_le k k (fun _ => H _ _ (wl_slot_min l1 l3 hs (by omega) h3) hbk.2.2.1 hbk.2.2.2 hbk.2.1.1 hbk.2.1.2) (fun z => by omega)
  | succ dd ih =>
    intro k hk t b hI
    have vk : vp_in (nI k) 8 := vp_in_nI (by omega) (by omega)
    have hbk := hb k (by omega)
    have ef : ml_a f (nI k).toNatClampNeg = ml_i (f k) := ml_acl (by omega)
    have eg : ml_a g (nI k).toNatClampNeg = ml_i (g k) := ml_acl (by omega)
    refine pk_le c k (fun z => by omega) (fun _ => br_f (by decide) ⟨vk, vk, ?_⟩)
    rw [ef, eg]
    refine wl_ct hm hi hx hy (by omega) (by omega) ?_
    rw [ml_i_l (by omega) (by omega), ml_i_l (by omega) (by omega)]
    -- taking slot k
    have take : (∀ k', k' < k + 1 → ml_TC m x y l i (f k) (g k) * g k' ≤ ml_TC m x y l i (f k') (g k') * g k) →
        wX_solveThrough_165 post (wX_solveThrough_106 post (nI i) (nI m) (ml_i l) fd (nI c) (ml_a x) (ml_a y) tb ow (ml_a f) (ml_a g) (dd + 1)) (nI i) (nI k) (ml_l (ml_TC m x y l i (f k) (g k))) (nI m) (ml_i l) fd (ml_l t) (ml_l b) (nI c) (ml_a x) (ml_a y) tb ow (ml_a f) (ml_a g) := by
      intro hall
      refine br_f (by decide) ⟨vk, nm_r (e' := ml_l (g k)) (by rw [eg, ml_i_l (by omega) (by omega)]) (nm_r (nI_1 k) (ih (k + 1) (by omega) _ _ (Or.inr ⟨by omega, ?_, ?_, hall⟩)))⟩
      · rw [Nat.add_sub_cancel]
      · rw [Nat.add_sub_cancel]
    refine pk_eq k 0 (fun z => take ?_) (fun z => ⟨vk, ?_⟩)
    · intro k' hk'
      rw [show k' = k by omega]
      exact Int.le_refl _
    · rcases hI with hI | ⟨h0, e1, e2, h3⟩
      · omega
      · have hbp := hb (k - 1) (by omega)
        have m1 := ml_mb (a := t) (b := g k) (A := 1920000) (B := 40) (by omega) (by omega)
        have m2 := ml_mb (a := ml_TC m x y l i (f k) (g k)) (b := b) (A := 1920000) (B := 40) (by omega) (by omega)
        refine ml_clt64 (t * g k) (ml_TC m x y l i (f k) (g k) * b) (fun hlt => ?_) (fun hle => take (fun k' hk' => ?_)) (ml_l_mul _ _) (ml_l_mul _ _)
        · refine br_t rfl (nm_r (nI_1 k) (wl_106_0 hc ?_ dd (k + 1) (by omega)))
          have hmin : ml_tmin m x y l i t b := by
            rw [e1, e2]
            rw [e1, e2] at h3 hlt
            refine wl_slot_min l1 l3 hs (by omega) (fun k' hk' => ?_)
            by_cases w : k' < k
            · exact h3 k' w
            · exact ml_PF_conv (by omega) (by omega) hbp.2.1.1 hbk.2.1.1 (hb k' hk').2.1.1 (hs.1.2 (k - 1) k (by omega) (by omega)) (hs.1.2 k k' (by omega) hk') hlt
          exact H t b hmin (by omega) (by omega) (by omega) (by omega)
        · by_cases w : k' = k
          · rw [w]; exact Int.le_refl _
          · have a := h3 k' (by omega)
            exact ml_tr hbk.2.1.1 (show 0 < b by omega) (hb k' (by omega)).2.1.1 hle a
def wl_MT (x y : Nat → Int) (i j : Nat) : (Int → Int → Int) → Int := fun φ => ml_sm (fun k => if x k = x i then 0 else φ (ml_rise x y i k) (ml_run x i k)) j
theorem wl_MT_slots (hS : wl_S (fun a b => ∃ j, j < m ∧ x j ≠ x i ∧ a = ml_rise x y i j ∧ b = ml_run x i j) f g c (wl_MT x y i m)) : wl_slots m x y i f g c := by
  obtain ⟨h1, h2, h3, h4⟩ := hS
  refine ⟨h1, h3, fun j hj hne => ?_⟩
  have k := h2 (fun a b => if a = ml_rise x y i j ∧ b = ml_run x i j then 1 else 0)
  have pos : 0 < wl_MT x y i m (fun a b => if a = ml_rise x y i j ∧ b = ml_run x i j then 1 else 0) := by
    have h5 := ml_sm_le (n := m) (f := fun k => if k = j then (1 : Int) else 0) (g := fun k => if x k = x i then 0 else (if ml_rise x y i k = ml_rise x y i j ∧ ml_run x i k = ml_run x i j then (1 : Int) else 0)) (fun k hk => by
      by_cases z : k = j
      · rw [if_pos z, z, if_neg hne, if_pos ⟨rfl, rfl⟩]; omega
      · rw [if_neg z]
        split
        · omega
        · split <;> omega)
    rw [ml_sm_one (k := j) hj (fun k hk hne => if_neg hne), if_pos rfl] at h5
    show 0 < ml_sm (fun k => if x k = x i then 0 else (if ml_rise x y i k = ml_rise x y i j ∧ ml_run x i k = ml_run x i j then (1 : Int) else 0)) m
    omega
  rw [← k] at pos
  obtain ⟨k', hk', hp⟩ := ml_sm_pos pos
  refine ⟨k', hk', ?_⟩
  apply Classical.byContradiction
  intro z
  rw [if_neg z] at hp
  omega
theorem wl_st7 {post : SX → Prop} (hm : m ≤ 8) (hi : i < 8) (l1 : 1 ≤ l) (l3 : l ≤ 3) (hx : ml_B20 x) (hy : ml_B20 y)
    (H : ∀ (t b : Nat) sc st sb, ml_tmin m x y l i t b → t ≤ 1920000 → 0 < b → b ≤ 40 → post (nI m, ml_i l, fd, lN (t / Nat.gcd t b), lN (b / Nat.gcd t b), sc, ml_a x, ml_a y, tb, ow, st, sb)) :
    ∀ dd j c f g, j + dd = m → c ≤ j → wl_S (fun a b => ∃ j, j < m ∧ x j ≠ x i ∧ a = ml_rise x y i j ∧ b = ml_run x i j) f g c (wl_MT x y i j) →
      wX_solveThrough_7 post (nI i) (dd + 1) (nI j) (nI m) (ml_i l) fd ft fb (nI c) (ml_a x) (ml_a y) tb ow (ml_a f) (ml_a g) := by
  intro dd
  induction dd with
  | zero =>
    intro j c f g hj hcj hS
    have e : j = m := by omega
    subst e
    have hs := wl_MT_slots hS
    have H201 : ∀ t b, ml_tmin j x y l i t b → 0 ≤ t → t ≤ 1920000 → 0 < b → b ≤ 40 → wX_solveThrough_201 post (nI j) (ml_i l) fd (ml_l t) (ml_l b) (nI c) (ml_a x) (ml_a y) tb ow (ml_a f) (ml_a g) := by
      intro t b ht h0 h1 h2 h3
      obtain ⟨T, rfl⟩ := Int.eq_ofNat_of_zero_le h0
      obtain ⟨B, rfl⟩ := Int.eq_ofNat_of_zero_le (Int.le_of_lt h2)
      rw [show ml_l ((T : Nat) : Int) = lN T from ml_l_lN T, show ml_l ((B : Nat) : Int) = lN B from ml_l_lN B]
      exact wl_low (by omega) (by omega) (by omega) (H T B _ _ _ ht (by omega) (by omega) (by omega))
    refine pk_le j j (fun _ => wl_ct (p := 0) (q := 1) hm hi hx hy (by omega) (by omega) ?_) (fun z => by omega)
    have tb0 := ml_TCb (n := j) (l := l) hm l1 l3 hx hy (p := 0) (q := 1) (by omega) (by omega) i
    rw [ml_i_l (by omega) (by omega)]
    by_cases z : c = 0
    · subst z
      exact br_t (by decide) ⟨1, wl_106_0 (c := 0) (by omega) (H201 _ 1 (wl_slot_0 l1 l3 hs) tb0.1 tb0.2 (by omega) (by omega)) 0 0 (by omega)⟩
    · exact br_f (nI_nle (by omega) (by omega)) ⟨c + 1, wl_106 hm hi (by omega) (by omega) l1 l3 hx hy hs H201 c 0 (by omega) _ 1 (Or.inl rfl)⟩
  | succ dd ih =>
    intro j c f g hj hcj hS
    have vj : vp_in (nI j) 8 := vp_in_nI (by omega) (by omega)
    have vi : vp_in (nI i) 8 := vp_in_nI hi (by omega)
    have a1 := hx i
    have a2 := hx j
    have a3 := hy i
    have a4 := hy j
    have e0 : ∀ x : Nat → Int, ml_a x (nI j).toNatClampNeg - ml_a x (nI i).toNatClampNeg = ml_i (x j - x i) := by
      intro x
      rw [ml_acl (by omega), ml_acl (by omega), ml_i_sub]
    refine pk_le m j (fun z => by omega) (fun _ => ⟨vj, vi, nm_r (e0 x) ⟨vj, vi, nm_r (e0 y) ?_⟩⟩)
    have hM : ∀ φ, x j ≠ x i → wl_MT x y i j φ + φ (ml_rise x y i j) (ml_run x i j) = wl_MT x y i (j + 1) φ := by
      intro φ hne
      unfold wl_MT
      rw [ml_sm_s, if_neg hne]
    refine ml_ble (x j - x i) 0 (fun hle => ?_) (fun hlt => ?_) rfl ml_i0
    · refine ml_ble 0 (x j - x i) (fun hge => nm_r (nI_1 j) (ih (j + 1) c f g (by omega) (by omega) (wl_S_c hS (fun φ => ?_)))) (fun hlt => ?_) ml_i0 rfl
      · unfold wl_MT
        rw [ml_sm_s, if_pos (by omega)]; omega
      · rw [ml_i_neg, ml_i_neg]
        have er : ml_rise x y i j = -(y j - y i) := by unfold ml_rise; rw [if_neg (by omega)]; omega
        have eu : ml_run x i j = -(x j - x i) := by unfold ml_run; rw [if_neg (by omega)]; omega
        rw [← er, ← eu]
        refine wl_insert hS (by omega) (by omega) (by omega) (by omega) ⟨j, by omega, by omega, rfl, rfl⟩ (fun f' g' hS' => nm_r (nI_1 j) (ih (j + 1) (c + 1) f' g' (by omega) (by omega) (wl_S_c hS' (fun φ => hM φ (by omega)))))
    · have er : ml_rise x y i j = y j - y i := by unfold ml_rise; rw [if_pos (by omega)]
      have eu : ml_run x i j = x j - x i := by unfold ml_run; rw [if_pos (by omega)]
      rw [← er, ← eu]
      refine wl_insert hS (by omega) (by omega) (by omega) (by omega) ⟨j, by omega, by omega, rfl, rfl⟩ (fun f' g' hS' => ?_)
      exact ml_ble 0 (ml_run x i j) (fun _ => nm_r (nI_1 j) (ih (j + 1) (c + 1) f' g' (by omega) (by omega) (wl_S_c hS' (fun φ => hM φ (by omega))))) (fun z => by omega) ml_i0 rfl
/-- X: the least cost through one point -/
theorem wl_xthr {post : SX → Prop} (hm : m ≤ 8) (hi : i < 8) (l1 : 1 ≤ l) (l3 : l ≤ 3) (hx : ml_B20 x) (hy : ml_B20 y)
    (H : ∀ (t b : Nat) sc st sb, ml_tmin m x y l i t b → t ≤ 1920000 → 0 < b → b ≤ 40 → post (nI m, ml_i l, fd, lN (t / Nat.gcd t b), lN (b / Nat.gcd t b), sc, ml_a x, ml_a y, tb, ow, st, sb)) :
    wpX_solveThrough post (nI m, ml_i l, fd, ft, fb, sc, ml_a x, ml_a y, tb, ow, st, sb) (nI i) := by
  obtain ⟨f, rfl⟩ := ml_a_ex st
  obtain ⟨g, rfl⟩ := ml_a_ex sb
  have k := wl_st7 (ft := ft) (fb := fb) hm hi l1 l3 hx hy H m 0 0 f g (by omega) (by omega) (wl_S_0 _ f g)
  rw [nI_0] at k
  exact ⟨m + 1, k⟩
end
end
section
def ml_sg (y : Nat → Int) (r : Nat) : Int := if y r < 0 then -1 else 1
def ml_ow (y : Nat → Int) (r : Nat) : Nat := if y r < 0 then 12 + r else 4 + r
def ml_E (x y : Nat → Int) (r c : Nat) : Int :=
  if c = 0 then ml_sg y r * x r else if c = 1 then -ml_sg y r * x r else if c = 2 then ml_sg y r else if c = 3 then -ml_sg y r else if c = 20 then ml_sg y r * y r else if c = 4 + r then ml_sg y r else if c = 12 + r then -ml_sg y r else 0
theorem ml_ch0 {n : Nat} {y : Nat → Int} {c : Nat} : ml_ch n y 0 c = if c = 0 then 1 else if c = 1 then -1 else 0 := by
  unfold ml_ch
  rw [show ml_par 0 = 1 from rfl, show ml_h n y 0 = 0 from rfl]
  repeat' split
  all_goals omega
theorem ml_ch2 {n : Nat} {y : Nat → Int} {c : Nat} : ml_ch n y 2 c = if c = 2 then 1 else if c = 3 then -1 else 0 := by
  unfold ml_ch
  rw [show ml_par 2 = 3 from rfl, show ml_h n y 2 = 0 from rfl]
  repeat' split
  all_goals omega
theorem ml_bk02 {n : Nat} {x : Nat → Int} : ml_bk n x 0 2 = 1 := rfl
theorem ml_bk2 {n : Nat} {x : Nat → Int} {O : Nat} : ml_bk n x 2 O = - ml_g1 n x O := by
  unfold ml_bk
  rw [show ml_g1 n x 2 = 0 from rfl, show ml_g2 n 2 = 1 from rfl]; omega
theorem ml_bk0 {n : Nat} {x : Nat → Int} {O : Nat} : ml_bk n x O 0 = - ml_g2 n O := by
  unfold ml_bk
  rw [show ml_g1 n x 0 = 1 from rfl, show ml_g2 n 0 = 0 from rfl]; omega
theorem ml_E_row {n : Nat} {x y : Nat → Int} {r c : Nat} (hn : n ≤ 8) (hr : r < n) (hc : c ≤ 20) : ml_E x y r c = ml_row n x y 1 0 2 (ml_ow y r) c := by
  have h8 : r < 8 := by omega
  unfold ml_row
  rw [ml_bk02, ml_bk2, ml_bk0, ml_ch0, ml_ch2]
  unfold ml_E ml_sg ml_ow
  by_cases s : y r < 0
  · rw [if_pos s, if_pos s, ml_g1_12, if_pos hr, ml_g2_12, if_pos hr]
    unfold ml_ch
    rw [ml_h_12, if_pos hr, ml_par_12]
    repeat' split
    all_goals omega
  · rw [if_neg s, if_neg s, ml_g1_4 h8, if_pos hr, ml_g2_4 h8, if_pos hr]
    unfold ml_ch
    rw [ml_h_4 h8, if_pos hr, ml_par_4 h8]
    repeat' split
    all_goals omega
theorem ml_ow_lt {y : Nat → Int} {r : Nat} (h : r < 8) : ml_ow y r < 20 := by unfold ml_ow; split <;> omega
theorem ml_ow_kl {y : Nat → Int} {r : Nat} (h : r < 8) : ml_kl (ml_ow y r) = r + 2 := by
  unfold ml_ow ml_kl
  split
  · rw [if_neg (by omega), if_neg (by omega), if_neg (by omega)]; omega
  · rw [if_neg (by omega), if_neg (by omega), if_pos (by omega)]; omega
/-- the first table has the closed form -/
theorem ml_IV_0 {n : Nat} {x y : Nat → Int} {l : Int} {T : Nat → Nat → Int} {ow : Nat → Nat} (hn : n ≤ 8) (hT : ∀ r, r < n → ∀ c, c ≤ 20 → T r c = ml_E x y r c)
    (h8 : ∀ c, c ≤ 20 → T 8 c = ml_cost n l c - ml_sm (fun r => ml_cost n l (ml_ow y r) * ml_E x y r c) n) (ho : ∀ r, r < n → ow r = ml_ow y r) : ml_IV n x y l (T, 1, ow) 1 0 2 := by
  refine ⟨Or.inl rfl, by omega, by omega, by decide, fun r hr => ?_, fun r hr r' hr' hne => ?_, fun c hc hl => ?_, rfl, Int.zero_lt_one, fun r hr c hc => ?_, fun c hc => ?_, fun r hr => ?_⟩
  · show ow r < 20 ∧ ml_kl (ow r) ≠ ml_kl 0 ∧ ml_kl (ow r) ≠ ml_kl 2
    rw [ho r hr, ml_ow_kl (by omega), show ml_kl 0 = 0 from rfl, show ml_kl 2 = 1 from rfl]
    exact ⟨ml_ow_lt (by omega), by omega, by omega⟩
  · show ml_kl (ow r) ≠ ml_kl (ow r')
    rw [ho r hr, ho r' hr', ml_ow_kl (by omega), ml_ow_kl (by omega)]; omega
  · show ml_kl c = ml_kl 0 ∨ ml_kl c = ml_kl 2 ∨ ∃ r, r < n ∧ ml_kl c = ml_kl (ow r)
    rcases hl with hl | hl | hl
    · rcases (by omega : c = 0 ∨ c = 1 ∨ c = 2 ∨ c = 3) with rfl | rfl | rfl | rfl
      · exact Or.inl rfl
      · exact Or.inl rfl
      · exact Or.inr (Or.inl rfl)
      · exact Or.inr (Or.inl rfl)
    · refine Or.inr (Or.inr ⟨c - 4, by omega, ?_⟩)
      rw [ho _ (by omega), ml_ow_kl (by omega)]
      unfold ml_kl
      rw [if_neg (by omega), if_neg (by omega), if_pos (by omega)]; omega
    · refine Or.inr (Or.inr ⟨c - 12, by omega, ?_⟩)
      rw [ho _ (by omega), ml_ow_kl (by omega)]
      unfold ml_kl
      rw [if_neg (by omega), if_neg (by omega), if_neg (by omega)]; omega
  · show T r c = ml_row n x y 1 0 2 (ow r) c
    rw [hT r hr c hc, ho r hr, ml_E_row hn hr hc]
  · show T 8 c = 1 * ml_cost n l c - ml_sm (fun r => ml_cost n l (ow r) * T r c) n
    rw [h8 c hc, Int.one_mul, ml_sm_congr (fun r hr => by rw [← ho r hr, ← hT r hr c hc])]
  · show 0 ≤ T r 20
    rw [hT r hr 20 (by omega)]
    show 0 ≤ ml_sg y r * y r
    unfold ml_sg
    split <;> omega
/-- sizes of the entries -/
theorem ml_g1b {n : Nat} {x : Nat → Int} (hx : ml_B20 x) : ∀ c, c < 20 → -20 ≤ ml_g1 n x c ∧ ml_g1 n x c ≤ 20 := by
  apply ml_cols
  · show -20 ≤ ((1) : Int) ∧ ((1) : Int) ≤ 20; omega
  · show -20 ≤ ((-1) : Int) ∧ ((-1) : Int) ≤ 20; omega
  · show -20 ≤ ((0) : Int) ∧ ((0) : Int) ≤ 20; omega
  · show -20 ≤ ((0) : Int) ∧ ((0) : Int) ≤ 20; omega
  · intro k hk
    have := hx k
    rw [ml_g1_4 hk]; split <;> omega
  · intro k hk
    have := hx k
    rw [ml_g1_12]; split <;> omega
theorem ml_g2b {n : Nat} : ∀ c, c < 20 → -1 ≤ ml_g2 n c ∧ ml_g2 n c ≤ 1 := by
  apply ml_cols
  · show -1 ≤ ((0) : Int) ∧ ((0) : Int) ≤ 1; omega
  · show -1 ≤ ((0) : Int) ∧ ((0) : Int) ≤ 1; omega
  · show -1 ≤ ((1) : Int) ∧ ((1) : Int) ≤ 1; omega
  · show -1 ≤ ((-1) : Int) ∧ ((-1) : Int) ≤ 1; omega
  · intro k hk
    rw [ml_g2_4 hk]; split <;> omega
  · intro k hk
    rw [ml_g2_12]; split <;> omega
theorem ml_hb {n : Nat} {y : Nat → Int} (hy : ml_B20 y) : ∀ c, c < 20 → -20 ≤ ml_h n y c ∧ ml_h n y c ≤ 20 := by
  apply ml_cols
  · show -20 ≤ ((0) : Int) ∧ ((0) : Int) ≤ 20; omega
  · show -20 ≤ ((0) : Int) ∧ ((0) : Int) ≤ 20; omega
  · show -20 ≤ ((0) : Int) ∧ ((0) : Int) ≤ 20; omega
  · show -20 ≤ ((0) : Int) ∧ ((0) : Int) ≤ 20; omega
  · intro k hk
    have := hy k
    rw [ml_h_4 hk]; split <;> omega
  · intro k hk
    have := hy k
    rw [ml_h_12]; split <;> omega
theorem ml_bkb {n : Nat} {x : Nat → Int} (hx : ml_B20 x) {A B : Nat} (hA : A < 20) (hB : B < 20) : -40 ≤ ml_bk n x A B ∧ ml_bk n x A B ≤ 40 := by
  have h1 := ml_mb (A := 20) (B := 1) (ml_g1b (n := n) hx A hA) (ml_g2b (n := n) B hB)
  have h2 := ml_mb (A := 1) (B := 20) (ml_g2b (n := n) A hA) (ml_g1b (n := n) hx B hB)
  unfold ml_bk
  omega
theorem ml_chb {n : Nat} {y : Nat → Int} (hy : ml_B20 y) {A : Nat} (hA : A < 20) (c : Nat) : -20 ≤ ml_ch n y A c ∧ ml_ch n y A c ≤ 20 := by
  have h := ml_hb (n := n) hy A hA
  unfold ml_ch
  split
  · omega
  · split <;> split <;> omega
theorem ml_rowb {n : Nat} {x y : Nat → Int} (hx : ml_B20 x) (hy : ml_B20 y) {e : Int} (he : e = 1 ∨ e = -1) {P Q O : Nat} (hP : P < 20) (hQ : Q < 20) (hO : O < 20) (c : Nat) : -2400 ≤ ml_row n x y e P Q O c ∧ ml_row n x y e P Q O c ≤ 2400 := by
  have h1 := ml_mb (A := 40) (B := 20) (ml_bkb (n := n) hx hP hQ) (ml_chb (n := n) hy hO c)
  have h2 := ml_mb (A := 40) (B := 20) (ml_bkb (n := n) hx hQ hO) (ml_chb (n := n) hy hP c)
  have h3 := ml_mb (A := 40) (B := 20) (ml_bkb (n := n) hx hO hP) (ml_chb (n := n) hy hQ c)
  unfold ml_row
  rcases he with rfl | rfl <;> omega
theorem ml_costb {n : Nat} {l : Int} (l1 : 1 ≤ l) (l3 : l ≤ 3) (c : Nat) : 0 ≤ ml_cost n l c ∧ ml_cost n l c ≤ 3 := by
  unfold ml_cost
  repeat' split
  all_goals omega
theorem ml_IV_b {n : Nat} {x y : Nat → Int} {l : Int} {s : ml_St} {e : Int} {P Q : Nat} (hn : n ≤ 8) (l1 : 1 ≤ l) (l3 : l ≤ 3) (hx : ml_B20 x) (hy : ml_B20 y) (h : ml_IV n x y l s e P Q) :
    (0 < s.2.1 ∧ s.2.1 ≤ 40) ∧ ∀ r, (r < n ∨ r = 8) → ∀ c, c ≤ 20 → -100000 ≤ s.1 r c ∧ s.1 r c ≤ 100000 := by
  obtain ⟨h1, h2, h3, h4, h5, h6, h7, h8, h9, h10, h11, h12⟩ := h
  have hD : s.2.1 ≤ 40 := by
    have := ml_bkb (n := n) hx h2 h3
    rw [h8]
    rcases h1 with rfl | rfl <;> omega
  have hrow : ∀ r, r < n → ∀ c, c ≤ 20 → -2400 ≤ s.1 r c ∧ s.1 r c ≤ 2400 := by
    intro r hr c hc
    rw [h10 r hr c hc]
    exact ml_rowb hx hy h1 h2 h3 (h5 r hr).1 c
  refine ⟨⟨h9, hD⟩, fun r hr c hc => ?_⟩
  rcases hr with hr | rfl
  · have := hrow r hr c hc
    omega
  · rw [h11 c hc]
    have k1 := ml_mb (a := s.2.1) (A := 40) (b := ml_cost n l c) (B := 3) (by omega) (by have := ml_costb (n := n) l1 l3 c; omega)
    have k2 := ml_sm_ab (n := n) (B := 7200) (f := fun r => ml_cost n l (s.2.2 r) * s.1 r c) (fun r hr => by
      have := ml_mb (A := 3) (B := 2400) (a := ml_cost n l (s.2.2 r)) (b := s.1 r c) (by have := ml_costb (n := n) l1 l3 (s.2.2 r); omega) (hrow r hr c hc)
      omega)
    omega
/-- some row limits -/
theorem ml_lim_ex {n : Nat} {x y : Nat → Int} {l : Int} {s : ml_St} {e : Int} {P Q q : Nat} (l1 : 1 ≤ l) (l3 : l ≤ 3) (h : ml_IV n x y l s e P Q) (hq : q < 20) (hc : s.1 8 q < 0) : ∃ r, r < n ∧ 0 < s.1 r q := by
  obtain ⟨h1, h2, h3, h4, h5, h6, h7, h8, h9, h10, h11, h12⟩ := h
  apply Classical.byContradiction
  intro z
  rw [h11 q (by omega)] at hc
  have k1 := Int.mul_nonneg (Int.le_of_lt h9) (ml_costb (n := n) l1 l3 q).1
  have k2 := ml_sm_nonneg (n := n) (f := fun r => -1 * (ml_cost n l (s.2.2 r) * s.1 r q)) (fun r hr => by
    have k3 : ¬ 0 < s.1 r q := fun w => z ⟨r, hr, w⟩
    have := Int.mul_nonneg (ml_costb (n := n) l1 l3 (s.2.2 r)).1 (show 0 ≤ - s.1 r q by omega)
    rw [Int.mul_neg] at this
    omega)
  rw [ml_sm_mul] at k2
  omega
/-- row a limits at least as much as row b -/
def ml_Rk (s : ml_St) (q a b : Nat) : Prop := s.1 a 20 * s.1 b q ≤ s.1 b 20 * s.1 a q ∧ (s.1 a 20 * s.1 b q = s.1 b 20 * s.1 a q → s.2.2 a ≤ s.2.2 b)
theorem ml_Rk_rf (s : ml_St) (q a : Nat) : ml_Rk s q a a := ⟨Int.le_refl _, fun _ => Nat.le_refl _⟩
theorem ml_Rk_tr {s : ml_St} {q a b c : Nat} (ha : 0 < s.1 a q) (hb : 0 < s.1 b q) (hc : 0 < s.1 c q) (h1 : ml_Rk s q a b) (h2 : ml_Rk s q b c) : ml_Rk s q a c := by
  refine ⟨ml_tr ha hb hc h1.1 h2.1, fun z => ?_⟩
  by_cases e1 : s.1 a 20 * s.1 b q = s.1 b 20 * s.1 a q
  · by_cases e2 : s.1 b 20 * s.1 c q = s.1 c 20 * s.1 b q
    · exact Nat.le_trans (h1.2 e1) (h2.2 e2)
    · have h3 : s.1 b 20 * s.1 c q < s.1 c 20 * s.1 b q := by have := h2.1; omega
      have := ml_tr_lt ha hb hc h1.1 h3
      omega
  · have h3 : s.1 a 20 * s.1 b q < s.1 b 20 * s.1 a q := by have := h1.1; omega
    have := ml_tr_lt' ha hb hc h3 h2.1
    omega
theorem ml_Rk_to (s : ml_St) (q a b : Nat) : ml_Rk s q a b ∨ ml_Rk s q b a := by
  rcases Int.lt_trichotomy (s.1 a 20 * s.1 b q) (s.1 b 20 * s.1 a q) with h | h | h
  · exact Or.inl ⟨Int.le_of_lt h, fun z => by omega⟩
  · by_cases w : s.2.2 a ≤ s.2.2 b
    · exact Or.inl ⟨Int.le_of_eq h, fun _ => w⟩
    · exact Or.inr ⟨Int.le_of_eq h.symm, fun _ => by omega⟩
  · exact Or.inr ⟨Int.le_of_lt h, fun z => by omega⟩
def ml_Lim (s : ml_St) (q N a : Nat) : Prop := a < N ∧ 0 < s.1 a q ∧ ∀ b, b < N → 0 < s.1 b q → ml_Rk s q a b
theorem ml_Lim_ex {s : ml_St} {q N : Nat} (h : ∃ r, r < N ∧ 0 < s.1 r q) : ∃ a, ml_Lim s q N a := by
  induction N with
  | zero => obtain ⟨r, hr, _⟩ := h; omega
  | succ N ih =>
    by_cases e : ∃ r, r < N ∧ 0 < s.1 r q
    · obtain ⟨a, a1, a2, a3⟩ := ih e
      by_cases pn : 0 < s.1 N q
      · rcases ml_Rk_to s q a N with k | k
        · refine ⟨a, by omega, a2, fun b hb pb => ?_⟩
          by_cases z : b = N
          · rw [z]; exact k
          · exact a3 b (by omega) pb
        · refine ⟨N, by omega, pn, fun b hb pb => ?_⟩
          by_cases z : b = N
          · rw [z]; exact ml_Rk_rf s q N
          · exact ml_Rk_tr pn a2 pb k (a3 b (by omega) pb)
      · refine ⟨a, by omega, a2, fun b hb pb => a3 b ?_ pb⟩
        have : b ≠ N := fun z => pn (z ▸ pb)
        omega
    · obtain ⟨r, hr, hp⟩ := h
      have hrN : r = N := by
        apply Classical.byContradiction
        intro z
        exact e ⟨r, by omega, hp⟩
      subst hrN
      refine ⟨r, by omega, hp, fun b hb pb => ?_⟩
      by_cases z : b = r
      · rw [z]; exact ml_Rk_rf s q r
      · exact absurd ⟨b, by omega, pb⟩ e
theorem ml_Lim_u {n : Nat} {s : ml_St} {q a b : Nat} (ho : ml_Ok n s) (ha : ml_Lim s q n a) (hb : ml_Lim s q n b) : a = b := by
  have k1 := ha.2.2 b hb.1 hb.2.1
  have k2 := hb.2.2 a ha.1 ha.2.1
  have e1 : s.1 a 20 * s.1 b q = s.1 b 20 * s.1 a q := by
    have := k1.1
    have := k2.1
    omega
  have o1 := k1.2 e1
  have o2 := k2.2 e1.symm
  have e2 : s.2.2 a = s.2.2 b := by omega
  have d := ho.2.2.1 a ha.1 b hb.1
  have d2 := ho.2.2.1 a ha.1 a ha.1
  by_cases z : a = b
  · exact z
  · rw [if_neg z, ← e2, d2, if_pos rfl] at d
    have := ho.1
    omega
/-- the next table, as the program reckons it -/
theorem ml_step {n : Nat} {x y : Nat → Int} {l : Int} {s : ml_St} {e : Int} {P Q q row : Nat} (hn : n ≤ 8) (h : ml_IV n x y l s e P Q) (hq : q < 20) (hc : s.1 8 q < 0) (hmin : ∀ c, c < q → 0 ≤ s.1 8 c) (hL : ml_Lim s q n row) :
    ∃ s' e' P' Q', ml_IV n x y l s' e' P' Q' ∧ ml_Piv n s s' row q := by
  obtain ⟨a1, a2, a3⟩ := hL
  obtain ⟨e1, Q1, h1⟩ := ml_IV_q h a1 hq hc a2
  obtain ⟨s', g1, g2, g3, g4, g5⟩ := ml_IV_piv hn h1 a1 a2 (fun r hr hp => (a3 r hr hp).1)
  exact ⟨s', e1, Q1, s.2.2 row, g1, a1, hq, hc, hmin, a2, fun r hr hp => a3 r hr hp, g2, g3, g4, fun r hr => g5 r⟩
end
section
def wl_tab (tb : Nat → Int64) (F : Nat → Nat → Int) : Prop := ∀ r, r ≤ 8 → ∀ c, c ≤ 20 → tb (21 * r + c) = ml_l (F r c)
theorem wl_tab_c {tb : Nat → Int64} {F F' : Nat → Nat → Int} (h : wl_tab tb F) (e : ∀ r, r ≤ 8 → ∀ c, c ≤ 20 → F r c = F' r c) : wl_tab tb F' := fun r hr c hc => by rw [h r hr c hc, e r hr c hc]
theorem wl_tab_u {tb : Nat → Int64} {F : Nat → Nat → Int} {r0 c0 : Nat} {v : Int} {ix : Int32} {w : Int64} (h : wl_tab tb F) (hr0 : r0 ≤ 8) (hc0 : c0 ≤ 20) (hix : ix = nI (21 * r0 + c0)) (hw : w = ml_l v) :
    wl_tab (vp_updL tb ix.toNatClampNeg w) (fun r c => if r = r0 ∧ c = c0 then v else F r c) := by
  subst hix hw
  rw [nI_clamp (by omega)]
  intro r hr c hc
  dsimp only
  by_cases e : r = r0 ∧ c = c0
  · rw [if_pos e, e.1, e.2]; exact pk_uLs
  · rw [if_neg e, pk_uLn (by omega)]; exact h r hr c hc
theorem wl_tab_e {tb t1 : Nat → Int64} {F : Nat → Nat → Int} {r0 c0 : Nat} {v : Int} {ix : Int32} {w : Int64} (he : t1 = vp_updL tb ix.toNatClampNeg w) (h : wl_tab tb F) (hr0 : r0 ≤ 8) (hc0 : c0 ≤ 20) (hix : ix = nI (21 * r0 + c0)) (hw : w = ml_l v) :
    wl_tab t1 (fun r c => if r = r0 ∧ c = c0 then v else F r c) := by
  rw [he]; exact wl_tab_u h hr0 hc0 hix hw
theorem wl_tab_g {tb : Nat → Int64} {F : Nat → Nat → Int} {r0 c0 : Nat} {ix : Int32} (h : wl_tab tb F) (hr0 : r0 ≤ 8) (hc0 : c0 ≤ 20) (hix : ix = nI (21 * r0 + c0)) : tb ix.toNatClampNeg = ml_l (F r0 c0) := by
  subst hix
  rw [nI_clamp (by omega)]
  exact h r0 hr0 c0 hc0
theorem wl_byte : ∀ k, k < 20 → (nI k).toInt8.toInt32 = nI k := by decide
theorem wl_ifs {c i : Nat} (hi : i < 8) (a0 a1 a2 a3 a20 a4 a12 : Int) :
    (if c = 20 then a20 else if c = 12 + i then a12 else if c = 4 + i then a4 else if c = 3 then a3 else if c = 2 then a2 else if c = 1 then a1 else if c = 0 then a0 else 0) = (if c = 0 then a0 else if c = 1 then a1 else if c = 2 then a2 else if c = 3 then a3 else if c = 20 then a20 else if c = 4 + i then a4 else if c = 12 + i then a12 else 0) := by
  rcases (by omega : c = 0 ∨ c = 1 ∨ c = 2 ∨ c = 3 ∨ c = 20 ∨ c = 4 + i ∨ c = 12 + i ∨ (c ≠ 0 ∧ c ≠ 1 ∧ c ≠ 2 ∧ c ≠ 3 ∧ c ≠ 20 ∧ c ≠ 4 + i ∧ c ≠ 12 + i)) with h | h | h | h | h | h | h | h
  · rw [if_neg (by omega), if_neg (by omega), if_neg (by omega), if_neg (by omega), if_neg (by omega), if_neg (by omega), if_pos h, if_pos h]
  · rw [if_neg (by omega), if_neg (by omega), if_neg (by omega), if_neg (by omega), if_neg (by omega), if_pos h, if_neg (by omega), if_pos h]
  · rw [if_neg (by omega), if_neg (by omega), if_neg (by omega), if_neg (by omega), if_pos h, if_neg (by omega), if_neg (by omega), if_pos h]
  · rw [if_neg (by omega), if_neg (by omega), if_neg (by omega), if_pos h, if_neg (by omega), if_neg (by omega), if_neg (by omega), if_pos h]
  · rw [if_pos h, if_neg (by omega), if_neg (by omega), if_neg (by omega), if_neg (by omega), if_pos h]
  · rw [if_neg (by omega), if_neg (by omega), if_pos h, if_neg (by omega), if_neg (by omega), if_neg (by omega), if_neg (by omega), if_neg (by omega), if_pos h]
  · rw [if_neg (by omega), if_pos h, if_neg (by omega), if_neg (by omega), if_neg (by omega), if_neg (by omega), if_neg (by omega), if_neg (by omega), if_pos h]
  · rw [if_neg (by omega), if_neg (by omega), if_neg (by omega), if_neg (by omega), if_neg (by omega), if_neg (by omega), if_neg (by omega), if_neg (by omega), if_neg (by omega), if_neg (by omega), if_neg (by omega), if_neg (by omega), if_neg (by omega), if_neg (by omega)]
theorem wl_fC {c i : Nat} {l : Int} (hi : i < 8) : ml_cost (i + 1) l c = if c = 12 + i then 4 - l else if c = 4 + i then l else ml_cost i l c := by
  by_cases h1 : c = 12 + i
  · rw [if_pos h1, h1, ml_cost_12 hi, if_pos (by omega)]
  · rw [if_neg h1]
    by_cases h2 : c = 4 + i
    · rw [if_pos h2, h2, ml_cost_4 hi, if_pos (by omega)]
    · rw [if_neg h2]
      unfold ml_cost
      repeat' split
      all_goals omega
def wl_F33 (x y : Nat → Int) (l : Int) (i r c : Nat) : Int := if r = 8 then ml_cost i l c else if r < i then ml_E x y r c else 0
def wl_F267 (m : Nat) (x y : Nat → Int) (l : Int) (i c0 r c : Nat) : Int :=
  if r = 8 then ml_cost m l c - ml_sm (fun r => ml_cost m l (ml_ow y r) * ml_E x y r c) (if c < c0 then i + 1 else i) else if r < m then ml_E x y r c else 0
section
variable {m i : Nat} {x y : Nat → Int} {l : Int} {fd ft fb : Int64} {sc : Int32} {tb : Nat → Int64} {ow st sb : Nat → Int32} {pc ln : Int32} {px py : Nat → Int32}
theorem wl_ft2 {post : SX → Prop} (H : ∀ tb', (∀ k, k < 189 → tb' k = 0) → ∃ n33, wX_fillTable_33 post 168 pc ln 1 ft fb sc n33 0 px py tb' ow st sb) :
    ∀ dd j, j + dd = 189 → ∀ tb, (∀ k, k < j → tb k = 0) → wX_fillTable_2 post pc ln fd ft fb sc (dd + 1) (nI j) px py tb ow st sb := by
  intro dd
  induction dd with
  | zero =>
    intro j hj tb h
    exact pk_le 189 j (fun _ => H tb (fun k hk => h k (by omega))) (fun z => by omega)
  | succ dd ih =>
    intro j hj tb h
    refine pk_le 189 j (fun z => by omega) (fun _ => ⟨vp_in_nI (by omega) (by omega), nm_e (nm_r (nI_1 j) (ih (j + 1) (by omega) _ (fun k hk => ?_)))⟩)
    rw [nI_clamp (by omega)]
    by_cases z : k = j
    · rw [z]; exact pk_uLs
    · rw [pk_uLn z]; exact h k (by omega)
theorem wl_ft186 {post : SX → Prop} {J : Int32 → (Nat → Int32) → (Nat → Int32) → (Nat → Int64) → (Nat → Int32) → (Nat → Int32) → (Nat → Int32) → Prop} {F : Nat → Nat → Int} {k : Nat} {z : Int32} (hi : i < 8) (l1 : 1 ≤ l) (l3 : l ≤ 3) (hk : k < 20) (hz : z = nI k) (htab : wl_tab tb F)
    (H : ∀ tb', wl_tab tb' (fun r c => if r = 8 ∧ c = 12 + i then 4 - l else if r = 8 ∧ c = 4 + i then l else F r c) → J (nI (i + 1)) px py tb' (upd ow i (nI k)) st sb) :
    wX_fillTable_186 post J 168 (nI i) z (nI i) pc (ml_i l) fd ft fb sc px py tb ow st sb := by
  have vi : vp_in (nI i) 8 := vp_in_nI hi (by omega)
  have e4 : (168 : Int32) + 4 + nI i = nI (21 * 8 + (4 + i)) := by
    rw [show (168 : Int32) + 4 = nI 172 from by decide, nI_add]
    exact congrArg nI (by omega)
  have e12 : (168 : Int32) + 12 + nI i = nI (21 * 8 + (12 + i)) := by
    rw [show (168 : Int32) + 12 = nI 180 from by decide, nI_add]
    exact congrArg nI (by omega)
  subst hz
  refine ⟨vi, nm_r (e' := upd ow i (nI k)) (by rw [pk_vb, wl_byte k hk, nI_clamp (by omega)]) ⟨pk_in (21 * 8 + (4 + i)) 189 (by omega) e4, fun t1 h1 => ⟨pk_in (21 * 8 + (12 + i)) 189 (by omega) e12, fun t2 h2 => nm_r (nI_1 i) (H t2 ?_)⟩⟩⟩
  have w1 := wl_tab_e h1 (v := l) htab (by omega) (by omega) e4 (ml_i_l (by omega) (by omega))
  exact wl_tab_e h2 (v := 4 - l) w1 (by omega) (by omega) e12 (by rw [ml_i4, ml_i_sub, ml_i_l (by omega) (by omega)])
theorem wl_ft55 {post : SX → Prop} {J : Int32 → (Nat → Int32) → (Nat → Int32) → (Nat → Int64) → (Nat → Int32) → (Nat → Int32) → (Nat → Int32) → Prop} {s : Int} (hi : i < 8) (l1 : 1 ≤ l) (l3 : l ≤ 3) (hx : ml_B20 x) (hy : ml_B20 y) (hs : s = ml_sg y i) (htab : wl_tab tb (wl_F33 x y l i)) (how : ∀ r, r < i → ow r = nI (ml_ow y r))
    (H : ∀ tb' ow', wl_tab tb' (wl_F33 x y l (i + 1)) → (∀ r, r < i + 1 → ow' r = nI (ml_ow y r)) → J (nI (i + 1)) (ml_a x) (ml_a y) tb' ow' st sb) :
    wX_fillTable_55 post J 168 (nI i) (ml_i s) pc (ml_i l) fd ft fb sc (ml_a x) (ml_a y) tb ow st sb := by
  have vi : vp_in (nI i) 8 := vp_in_nI hi (by omega)
  have bx := hx i
  have by' := hy i
  have hs1 : -1 ≤ s ∧ s ≤ 1 := by rw [hs]; unfold ml_sg; split <;> omega
  have b1 := ml_mb (a := s) (b := x i) (A := 1) (B := 20) hs1 bx
  have b2 := ml_mb (a := -s) (b := x i) (A := 1) (B := 20) (by omega) bx
  have b3 := ml_mb (a := s) (b := y i) (A := 1) (B := 20) hs1 by'
  have e0 : nI (21 * i) = nI (21 * i + 0) := rfl
  have e1 : nI (21 * i) + 1 = nI (21 * i + 1) := nI_1 _
  have e2 : nI (21 * i) + 2 = nI (21 * i + 2) := nI_add _ 2
  have e3 : nI (21 * i) + 3 = nI (21 * i + 3) := nI_add _ 3
  have e4 : nI (21 * i) + 4 + nI i = nI (21 * i + (4 + i)) := by
    rw [show nI (21 * i) + 4 = nI (21 * i + 4) from nI_add _ 4, nI_add, Nat.add_assoc]
  have e12 : nI (21 * i) + 12 + nI i = nI (21 * i + (12 + i)) := by
    rw [show nI (21 * i) + 12 = nI (21 * i + 12) from nI_add _ 12, nI_add, Nat.add_assoc]
  have e20 : nI (21 * i) + 20 = nI (21 * i + 20) := nI_add _ 20
  refine nm_r (e' := nI (21 * i)) (pk_mul 21 i) ⟨vi, pk_in _ 189 (by omega) e0, fun t1 h1 => ⟨vi, pk_in _ 189 (by omega) e1, fun t2 h2 => ⟨pk_in _ 189 (by omega) e2, fun t3 h3 => ⟨pk_in _ 189 (by omega) e3, fun t4 h4 => ⟨pk_in _ 189 (by omega) e4, fun t5 h5 => ⟨pk_in _ 189 (by omega) e12, fun t6 h6 => ⟨vi, pk_in _ 189 (by omega) e20, fun t7 h7 => ?_⟩⟩⟩⟩⟩⟩⟩
  have w1 := wl_tab_e h1 (v := s * x i) htab (by omega) (by omega) e0 (by rw [ml_acl (by omega), ml_i_mul, ml_i_l (by omega) (by omega)])
  have w2 := wl_tab_e h2 (v := -s * x i) w1 (by omega) (by omega) e1 (by rw [ml_acl (by omega), ml_i_neg, ml_i_mul, ml_i_l (by omega) (by omega)])
  have w3 := wl_tab_e h3 (v := s) w2 (by omega) (by omega) e2 (by rw [ml_i_l (by omega) (by omega)])
  have w4 := wl_tab_e h4 (v := -s) w3 (by omega) (by omega) e3 (by rw [ml_i_neg, ml_i_l (by omega) (by omega)])
  have w5 := wl_tab_e h5 (v := s) w4 (by omega) (by omega) e4 (by rw [ml_i_l (by omega) (by omega)])
  have w6 := wl_tab_e h6 (v := -s) w5 (by omega) (by omega) e12 (by rw [ml_i_neg, ml_i_l (by omega) (by omega)])
  have w7 := wl_tab_e h7 (v := s * y i) w6 (by omega) (by omega) e20 (by rw [ml_acl (by omega), ml_i_mul, ml_i_l (by omega) (by omega)])
  have fin : ∀ tb', wl_tab tb' (fun r c => if r = 8 ∧ c = 12 + i then 4 - l else if r = 8 ∧ c = 4 + i then l else _) → wl_tab tb' (wl_F33 x y l (i + 1)) := fun tb' w => wl_tab_c (F := fun r c => if r = 8 ∧ c = 12 + i then 4 - l else if r = 8 ∧ c = 4 + i then l else (if r = i ∧ c = 20 then s * y i else if r = i ∧ c = 12 + i then -s else if r = i ∧ c = 4 + i then s else if r = i ∧ c = 3 then -s else if r = i ∧ c = 2 then s else if r = i ∧ c = 1 then -s * x i else if r = i ∧ c = 0 then s * x i else wl_F33 x y l i r c)) w (fun r hr c hc => by
    unfold wl_F33
    by_cases c8 : r = 8
    · subst c8
      rw [if_pos rfl, if_pos rfl, wl_fC hi]
      by_cases d1 : c = 12 + i
      · rw [if_pos ⟨rfl, d1⟩, if_pos d1]
      · by_cases d2 : c = 4 + i
        · rw [if_neg (by omega), if_pos ⟨rfl, d2⟩, if_neg d1, if_pos d2]
        · rw [if_neg (by omega), if_neg (by omega), if_neg (by omega), if_neg (by omega), if_neg (by omega), if_neg (by omega), if_neg (by omega), if_neg (by omega), if_neg (by omega), if_neg d1, if_neg d2]
    · rw [if_neg c8, if_neg c8, if_neg (by omega), if_neg (by omega)]
      by_cases ci : r = i
      · subst ci
        rw [if_pos (show r < r + 1 by omega), if_neg (show ¬ r < r by omega)]
        unfold ml_E
        rw [← hs]
        have key := wl_ifs (c := c) hi (s * x r) (-s * x r) s (-s) (s * y r) s (-s)
        simp only [true_and]
        exact key
      · rw [if_neg (by omega), if_neg (by omega), if_neg (by omega), if_neg (by omega), if_neg (by omega), if_neg (by omega), if_neg (by omega)]
        by_cases cl : r < i
        · rw [if_pos cl, if_pos (by omega)]
        · rw [if_neg cl, if_neg (by omega)])
  have hown : ∀ k : Nat, k = ml_ow y i → ∀ r, r < i + 1 → upd ow i (nI k) r = nI (ml_ow y r) := by
    intro k hk r hr
    by_cases z : r = i
    · rw [z, pk_us, hk]
    · rw [pk_un z]; exact how r (by omega)
  refine ml_ble s 0 (fun hle => ?_) (fun hlt => ?_) rfl ml_i0
  · have ho : 12 + i = ml_ow y i := by
      unfold ml_ow
      unfold ml_sg at hs
      split at hs <;> split <;> omega
    exact wl_ft186 (k := 12 + i) hi l1 l3 (by omega) (nI_add 12 i) w7 (fun tb' w => H tb' _ (fin tb' w) (hown _ ho))
  · have ho : 4 + i = ml_ow y i := by
      unfold ml_ow
      unfold ml_sg at hs
      split at hs <;> split <;> omega
    exact wl_ft186 (k := 4 + i) hi l1 l3 (by omega) (nI_add 4 i) w7 (fun tb' w => H tb' _ (fin tb' w) (hown _ ho))
theorem wl_ft33 {post : SX → Prop} (hm : m ≤ 8) (l1 : 1 ≤ l) (l3 : l ≤ 3) (hx : ml_B20 x) (hy : ml_B20 y)
    (H : ∀ tb ow, wl_tab tb (wl_F33 x y l m) → (∀ r, r < m → ow r = nI (ml_ow y r)) → ∃ n229, wX_fillTable_229 post 168 (nI m) (ml_i l) fd ft fb sc n229 0 (ml_a x) (ml_a y) tb ow st sb) :
    ∀ dd i, i + dd = m → ∀ tb ow, wl_tab tb (wl_F33 x y l i) → (∀ r, r < i → ow r = nI (ml_ow y r)) → wX_fillTable_33 post 168 (nI m) (ml_i l) fd ft fb sc (dd + 1) (nI i) (ml_a x) (ml_a y) tb ow st sb := by
  intro dd
  induction dd with
  | zero =>
    intro i hi tb ow h1 h2
    have e : i = m := by omega
    subst e
    exact pk_le i i (fun _ => H tb ow h1 h2) (fun z => by omega)
  | succ dd ih =>
    intro i hi tb ow h1 h2
    have by' := hy i
    refine pk_le m i (fun z => by omega) (fun _ => ⟨vp_in_nI (by omega) (by omega), ml_ble 0 (y i) (fun hle => ?_) (fun hlt => ?_) ml_i0 (ml_acl (by omega))⟩)
    · exact wl_ft55 (s := 1) (by omega) l1 l3 hx hy (by unfold ml_sg; rw [if_neg (by omega)]) h1 h2 (fun tb' ow' g1 g2 => ih (i + 1) (by omega) tb' ow' g1 g2)
    · rw [ml_im1]
      exact wl_ft55 (s := -1) (by omega) l1 l3 hx hy (by unfold ml_sg; rw [if_pos (by omega)]) h1 h2 (fun tb' ow' g1 g2 => ih (i + 1) (by omega) tb' ow' g1 g2)
theorem wl_ft267 {post : SX → Prop} {J : Int32 → (Nat → Int32) → (Nat → Int32) → (Nat → Int64) → (Nat → Int32) → (Nat → Int32) → (Nat → Int32) → Prop} {pr : Int} (hm : m ≤ 8) (hi : i < m) (hpr : pr = ml_cost m l (ml_ow y i))
    (H : ∀ tb', wl_tab tb' (wl_F267 m x y l i 21) → J (nI (i + 1)) px py tb' ow st sb) :
    ∀ dd c, c + dd = 21 → ∀ tb, wl_tab tb (wl_F267 m x y l i c) → wX_fillTable_267 post J 168 (nI i) (ml_l pr) pc ln fd ft fb sc (dd + 1) (nI c) px py tb ow st sb := by
  intro dd
  induction dd with
  | zero =>
    intro c hc tb h
    have e : c = 21 := by omega
    subst e
    exact pk_le 21 21 (fun _ => nm_r (nI_1 i) (H tb h)) (fun z => by omega)
  | succ dd ih =>
    intro c hc tb h
    have e8 : (168 : Int32) + nI c = nI (21 * 8 + c) := nI_add 168 c
    have ei : (21 : Int32) * nI i + nI c = nI (21 * i + c) := by rw [show (21 : Int32) * nI i = nI (21 * i) from pk_mul 21 i, nI_add]
    refine pk_le 21 c (fun z => by omega) (fun _ => ⟨pk_in _ 189 (by omega) e8, pk_in _ 189 (by omega) ei, pk_in _ 189 (by omega) e8, fun t1 h1 => nm_r (nI_1 c) (ih (c + 1) (by omega) t1 ?_)⟩)
    have w1 := wl_tab_e h1 (v := wl_F267 m x y l i c 8 c - pr * wl_F267 m x y l i c i c) h (by omega) (by omega) e8 (by rw [wl_tab_g h (by omega) (by omega) e8, wl_tab_g h (by omega) (by omega) ei, ml_l_mul, ml_l_sub])
    refine wl_tab_c w1 (fun r hr k hk => ?_)
    unfold wl_F267
    by_cases c8 : r = 8
    · subst c8
      rw [if_pos rfl, if_pos rfl, if_pos rfl, if_neg (show ¬ i = 8 by omega), if_pos hi]
      by_cases ck : k = c
      · subst ck
        rw [if_pos ⟨rfl, rfl⟩, if_neg (by omega), if_pos (by omega), ml_sm_s, hpr]; omega
      · rw [if_neg (by omega)]
        by_cases cl : k < c
        · rw [if_pos cl, if_pos (by omega)]
        · rw [if_neg cl, if_neg (by omega)]
    · rw [if_neg c8, if_neg c8, if_neg (by omega)]
theorem wl_ft229 {post : SX → Prop} (hm : m ≤ 8) (l1 : 1 ≤ l) (l3 : l ≤ 3) (how : ∀ r, r < m → ow r = nI (ml_ow y r))
    (H : ∀ tb, wl_tab tb (wl_F267 m x y l m 0) → post (nI m, ml_i l, fd, ft, fb, sc, px, py, tb, ow, st, sb)) :
    ∀ dd i, i + dd = m → ∀ tb, wl_tab tb (wl_F267 m x y l i 0) → wX_fillTable_229 post 168 (nI m) (ml_i l) fd ft fb sc (dd + 1) (nI i) px py tb ow st sb := by
  intro dd
  induction dd with
  | zero =>
    intro i hi tb h
    have e : i = m := by omega
    subst e
    exact pk_le i i (fun _ => H tb h) (fun z => by omega)
  | succ dd ih =>
    intro i hi tb h
    have ei : ow (nI i).toNatClampNeg = nI (ml_ow y i) := by rw [nI_clamp (by omega)]; exact how i (by omega)
    have ol := ml_ow_lt (y := y) (show i < 8 by omega)
    have cont : ∀ tb', wl_tab tb' (wl_F267 m x y l i 21) → wX_fillTable_229 post 168 (nI m) (ml_i l) fd ft fb sc (dd + 1) (nI (i + 1)) px py tb' ow st sb := by
      intro tb' h'
      refine ih (i + 1) (by omega) tb' (wl_tab_c h' (fun r hr c hc => ?_))
      unfold wl_F267
      rw [if_pos (show c < 21 by omega), if_neg (show ¬ c < 0 by omega)]
    refine pk_le m i (fun z => by omega) (fun _ => ⟨vp_in_nI (by omega) (by omega), pk_le 12 (ml_ow y i) (fun hle => nm_r (e' := ml_l (4 - l)) (by rw [ml_i4, ml_i_sub, ml_i_l (by omega) (by omega)]) ⟨22, ?_⟩) (fun hlt => ⟨22, ?_⟩) rfl ei⟩)
    · refine wl_ft267 hm (by omega) ?_ cont 21 0 (by omega) tb h
      unfold ml_ow at hle ⊢
      split
      · rw [ml_cost_12 (by omega), if_pos (by omega)]
      · split at hle <;> omega
    · rw [ml_i_l (by omega) (by omega)]
      refine wl_ft267 hm (by omega) ?_ cont 21 0 (by omega) tb h
      unfold ml_ow at hlt ⊢
      split
      · split at hlt <;> omega
      · rw [ml_cost_4 (by omega), if_pos (by omega)]
/-- X: the first table -/
theorem wl_fill {post : SX → Prop} (hm : m ≤ 8) (l1 : 1 ≤ l) (l3 : l ≤ 3) (hx : ml_B20 x) (hy : ml_B20 y)
    (H : ∀ tb ow, wl_tab tb (wl_F267 m x y l m 0) → (∀ r, r < m → ow r = nI (ml_ow y r)) → post (nI m, ml_i l, 1, ft, fb, sc, ml_a x, ml_a y, tb, ow, st, sb)) :
    wpX_fillTable post (nI m, ml_i l, fd, ft, fb, sc, ml_a x, ml_a y, tb, ow, st, sb) := by
  refine ⟨190, wl_ft2 (fun tb' h0 => ⟨m + 1, wl_ft33 hm l1 l3 hx hy (fun tb2 ow2 w2 o2 => ⟨m + 1, ?_⟩) m 0 (by omega) tb' ow ?_ (fun r hr => by omega)⟩) 189 0 (by omega) tb (fun k hk => by omega)⟩
  · refine wl_ft229 hm l1 l3 o2 (fun tb3 w3 => H tb3 ow2 w3 o2) m 0 (by omega) tb2 (wl_tab_c w2 (fun r hr c hc => ?_))
    unfold wl_F267 wl_F33
    by_cases c8 : r = 8
    · rw [if_pos c8, if_pos c8, if_neg (by omega)]
      show _ = ml_cost m l c - 0
      omega
    · rw [if_neg c8, if_neg c8]
  · intro r hr c hc
    rw [h0 _ (by omega), ml_l0]
    refine congrArg ml_l ?_
    unfold wl_F33 ml_cost
    repeat' split
    all_goals omega
end
end
section
theorem ml_least {P : Nat → Prop} {N : Nat} (h : ∃ c, c < N ∧ P c) : ∃ c, c < N ∧ P c ∧ ∀ d, d < c → ¬ P d := by
  induction N with
  | zero => obtain ⟨c, hc, _⟩ := h; omega
  | succ N ih =>
    by_cases e : ∃ c, c < N ∧ P c
    · obtain ⟨c, c1, c2, c3⟩ := ih e
      exact ⟨c, by omega, c2, c3⟩
    · obtain ⟨c, hc, hp⟩ := h
      have hcN : c = N := by
        apply Classical.byContradiction
        intro z
        exact e ⟨c, by omega, hp⟩
      exact ⟨c, hc, hp, fun d hd pd => e ⟨d, by omega, pd⟩⟩
def wl_tl (m : Nat) (tb : Nat → Int64) (F : Nat → Nat → Int) : Prop := ∀ r, (r < m ∨ r = 8) → ∀ c, c ≤ 20 → tb (21 * r + c) = ml_l (F r c)
theorem wl_tl_c {m : Nat} {tb : Nat → Int64} {F F' : Nat → Nat → Int} (h : wl_tl m tb F) (e : ∀ r, (r < m ∨ r = 8) → ∀ c, c ≤ 20 → F r c = F' r c) : wl_tl m tb F' := fun r hr c hc => by rw [h r hr c hc, e r hr c hc]
theorem wl_tl_e {m : Nat} {tb t1 : Nat → Int64} {F : Nat → Nat → Int} {r0 c0 : Nat} {v : Int} {ix : Int32} {w : Int64} (he : t1 = vp_updL tb ix.toNatClampNeg w) (h : wl_tl m tb F) (hr0 : r0 ≤ 8) (hc0 : c0 ≤ 20) (hix : ix = nI (21 * r0 + c0)) (hw : w = ml_l v) :
    wl_tl m t1 (fun r c => if r = r0 ∧ c = c0 then v else F r c) := by
  subst he hix hw
  rw [nI_clamp (by omega)]
  intro r hr c hc
  dsimp only
  by_cases e : r = r0 ∧ c = c0
  · rw [if_pos e, e.1, e.2]; exact pk_uLs
  · rw [if_neg e, pk_uLn (by omega)]; exact h r hr c hc
theorem wl_tl_g {m : Nat} {tb : Nat → Int64} {F : Nat → Nat → Int} {r0 c0 : Nat} {ix : Int32} (h : wl_tl m tb F) (hm : m ≤ 8) (hr0 : r0 < m ∨ r0 = 8) (hc0 : c0 ≤ 20) (hix : ix = nI (21 * r0 + c0)) : tb ix.toNatClampNeg = ml_l (F r0 c0) := by
  subst hix
  rw [nI_clamp (by omega)]
  exact h r0 hr0 c0 hc0
def wl_R (m : Nat) (tb : Nat → Int64) (ow : Nat → Int32) (fd : Int64) (s : ml_St) : Prop := wl_tl m tb s.1 ∧ fd = ml_l s.2.1 ∧ ∀ r, r < m → ow r = nI (s.2.2 r)
def wl_B (m : Nat) (s : ml_St) : Prop := (0 < s.2.1 ∧ s.2.1 ≤ 40) ∧ ∀ r, (r < m ∨ r = 8) → ∀ c, c ≤ 20 → -100000 ≤ s.1 r c ∧ s.1 r c ≤ 100000
def wl_col (s : ml_St) (x1 : Int32) : Prop := (x1 = -1 ∧ ∀ c, c < 20 → 0 ≤ s.1 8 c) ∨ ∃ q, q < 20 ∧ x1 = nI q ∧ s.1 8 q < 0 ∧ ∀ c, c < q → 0 ≤ s.1 8 c
theorem wl_ix (r c : Nat) : (21 : Int32) * nI r + nI c = nI (21 * r + c) := by rw [show (21 : Int32) * nI r = nI (21 * r) from pk_mul 21 r, nI_add]
section
variable {m : Nat} {s s' : ml_St} {fd ft fb : Int64} {sc : Int32} {tb : Nat → Int64} {ow st sb : Nat → Int32} {ln : Int32} {px py : Nat → Int32}
theorem wl_ch2 {post : Int32 → Prop} (hm : m ≤ 8) (hR : wl_R m tb ow fd s) (hB : wl_B m s) (H : ∀ x1, wl_col s x1 → post x1) :
    ∀ dd c, c + dd = 20 → (∀ c', c' < c → 0 ≤ s.1 8 c') → wX_cheaper_2 post (nI m) ln fd ft fb sc px py tb ow st sb (dd + 1) (nI c) := by
  intro dd
  induction dd with
  | zero =>
    intro c hc h
    have e : c = 20 := by omega
    subst e
    exact pk_le 20 20 (fun _ => H (-1) (Or.inl ⟨rfl, h⟩)) (fun z => by omega)
  | succ dd ih =>
    intro c hc h
    have e8 : (168 : Int32) + nI c = nI (21 * 8 + c) := nI_add 168 c
    have b := hB.2 8 (Or.inr rfl) c (by omega)
    refine pk_le 20 c (fun z => by omega) (fun _ => ⟨pk_in _ 189 (by omega) e8, ml_cle64 0 (s.1 8 c) (fun hle => nm_r (nI_1 c) (ih (c + 1) (by omega) (fun c' hc' => ?_))) (fun hlt => H (nI c) (Or.inr ⟨c, by omega, rfl, hlt, h⟩)) ml_l0 (wl_tl_g hR.1 hm (Or.inr rfl) (by omega) e8)⟩)
    by_cases z : c' = c
    · rw [z]; exact hle
    · exact h c' (by omega)
theorem wl_cheap {post : Int32 → Prop} (hm : m ≤ 8) (hR : wl_R m tb ow fd s) (hB : wl_B m s) (H : ∀ x1, wl_col s x1 → post x1) :
    wpX_cheaper post (nI m, ln, fd, ft, fb, sc, px, py, tb, ow, st, sb) :=
  ⟨21, wl_ch2 hm hR hB H 20 0 (by omega) (fun c' hc' => by omega)⟩
theorem wl_li4 {post : Int32 → Prop} {q : Nat} (hm : m ≤ 8) (hq : q < 20) (hR : wl_R m tb ow fd s) (hB : wl_B m s) (ho : ∀ r, r < m → s.2.2 r < 20) (hex : ∃ r, r < m ∧ 0 < s.1 r q) (H : ∀ row, ml_Lim s q m row → post (nI row)) :
    ∀ dd r, r + dd = m → ∀ x2 : Int32, ((x2 = -1 ∧ ∀ r', r' < r → s.1 r' q ≤ 0) ∨ ∃ b, x2 = nI b ∧ ml_Lim s q r b) →
      wX_limiting_4 post (nI q) (nI m) ln fd ft fb sc px py tb ow st sb (dd + 1) x2 (nI r) := by
  intro dd
  induction dd with
  | zero =>
    intro r hr x2 h
    have e : r = m := by omega
    subst e
    refine pk_le r r (fun _ => ?_) (fun z => by omega)
    rcases h with ⟨_, h⟩ | ⟨b, rfl, h⟩
    · obtain ⟨r', h1, h2⟩ := hex
      have := h r' h1
      omega
    · exact H b h
  | succ dd ih =>
    intro r hr x2 h
    have bq := hB.2 r (Or.inl (by omega)) q (by omega)
    have bv := hB.2 r (Or.inl (by omega)) 20 (by omega)
    have eq := wl_tl_g hR.1 hm (r0 := r) (c0 := q) (Or.inl (by omega)) (by omega) (wl_ix r q)
    refine pk_le m r (fun z => by omega) (fun _ => ⟨pk_in _ 189 (by omega) (wl_ix r q), nm_r eq (ml_clt64 0 (s.1 r q) (fun hpos => ?_) (fun hnp => nm_r (nI_1 r) (ih (r + 1) (by omega) x2 ?_)) ml_l0 rfl)⟩)
    · rcases h with ⟨rfl, h⟩ | ⟨b, rfl, h⟩
      · refine br_f (by decide) (nm_r (nI_1 r) (ih (r + 1) (by omega) (nI r) (Or.inr ⟨r, rfl, by omega, hpos, fun b hb pb => ?_⟩)))
        by_cases z : b = r
        · rw [z]; exact ml_Rk_rf s q r
        · have := h b (by omega)
          omega
      · have hb := h.1
        have cq := hB.2 b (Or.inl (by omega)) q (by omega)
        have cv := hB.2 b (Or.inl (by omega)) 20 (by omega)
        have e20 : ∀ k : Nat, (21 : Int32) * nI k + 20 = nI (21 * k + 20) := fun k => wl_ix k 20
        have ev := wl_tl_g hR.1 hm (r0 := r) (c0 := 20) (Or.inl (by omega)) (by omega) (e20 r)
        have fq := wl_tl_g hR.1 hm (r0 := b) (c0 := q) (Or.inl (by omega)) (by omega) (wl_ix b q)
        have fv := wl_tl_g hR.1 hm (r0 := b) (c0 := 20) (Or.inl (by omega)) (by omega) (e20 b)
        have m1 := ml_mb (A := 100000) (B := 100000) bv cq
        have m2 := ml_mb (A := 100000) (B := 100000) cv bq
        have or' : ow (nI r).toNatClampNeg = nI (s.2.2 r) := by rw [nI_clamp (by omega)]; exact hR.2.2 r (by omega)
        have ob' : ow (nI b).toNatClampNeg = nI (s.2.2 b) := by rw [nI_clamp (by omega)]; exact hR.2.2 b (by omega)
        have o1 := ho r (by omega)
        have o2 := ho b (by omega)
        -- keep b
        have keep : ml_Rk s q b r → ml_Lim s q (r + 1) b := fun k => ⟨by omega, h.2.1, fun b' hb' pb' => by
          by_cases z : b' = r
          · rw [z]; exact k
          · exact h.2.2 b' (by omega) pb'⟩
        have take : ml_Rk s q r b → ml_Lim s q (r + 1) r := fun k => ⟨by omega, hpos, fun b' hb' pb' => by
          by_cases z : b' = r
          · rw [z]; exact ml_Rk_rf s q r
          · exact ml_Rk_tr hpos h.2.1 pb' k (h.2.2 b' (by omega) pb')⟩
        refine br_t (nI_pos' (by omega)) ⟨pk_in _ 189 (by omega) (e20 r), pk_in _ 189 (by omega) (wl_ix b q), nm_r (e' := ml_l (s.1 r 20 * s.1 b q)) (by rw [ev, fq, ml_l_mul]) ⟨pk_in _ 189 (by omega) (e20 b), nm_r (e' := ml_l (s.1 b 20 * s.1 r q)) (by rw [fv, ml_l_mul])
          (ml_clt64 (s.1 r 20 * s.1 b q) (s.1 b 20 * s.1 r q) (fun hlt => nm_r (nI_1 r) (ih (r + 1) (by omega) (nI r) (Or.inr ⟨r, rfl, take ⟨Int.le_of_lt hlt, fun z => by omega⟩⟩)))
            (fun hge => ml_ceq64 (s.1 r 20 * s.1 b q) (s.1 b 20 * s.1 r q) (fun he => ⟨vp_in_nI (by omega) (by omega), vp_in_nI (by omega) (by omega), pk_le (s.2.2 b) (s.2.2 r) (fun hle => nm_r (nI_1 r) (ih (r + 1) (by omega) (nI b) (Or.inr ⟨b, rfl, keep ⟨Int.le_of_eq he.symm, fun _ => hle⟩⟩))) (fun hlt => nm_r (nI_1 r) (ih (r + 1) (by omega) (nI r) (Or.inr ⟨r, rfl, take ⟨Int.le_of_eq he, fun _ => by omega⟩⟩))) ob' or'⟩)
              (fun hne => nm_r (nI_1 r) (ih (r + 1) (by omega) (nI b) (Or.inr ⟨b, rfl, keep ⟨hge, fun z => by omega⟩⟩))) rfl rfl) rfl rfl)⟩⟩
    · rcases h with ⟨rfl, h⟩ | ⟨b, rfl, h⟩
      · refine Or.inl ⟨rfl, fun r' hr' => ?_⟩
        by_cases z : r' = r
        · rw [z]; exact hnp
        · exact h r' (by omega)
      · refine Or.inr ⟨b, rfl, by have := h.1; omega, h.2.1, fun b' hb' pb' => ?_⟩
        by_cases z : b' = r
        · rw [z] at pb'; omega
        · exact h.2.2 b' (by omega) pb'
theorem wl_lim {post : Int32 → Prop} {q : Nat} (hm : m ≤ 8) (hq : q < 20) (hR : wl_R m tb ow fd s) (hB : wl_B m s) (ho : ∀ r, r < m → s.2.2 r < 20) (hex : ∃ r, r < m ∧ 0 < s.1 r q) (H : ∀ row, ml_Lim s q m row → post (nI row)) :
    wpX_limiting post (nI m, ln, fd, ft, fb, sc, px, py, tb, ow, st, sb) (nI q) :=
  ⟨m + 1, wl_li4 hm hq hR hB ho hex H m 0 (by omega) (-1) (Or.inl ⟨rfl, fun r' hr' => by omega⟩)⟩
def wl_H (s s' : ml_St) (k c0 r c : Nat) : Int := if r < k ∨ (r = k ∧ c < c0) then s'.1 r c else s.1 r c
theorem wl_ex64 {post : SX → Prop} {J : Int32 → (Nat → Int32) → (Nat → Int32) → (Nat → Int64) → (Nat → Int32) → (Nat → Int32) → (Nat → Int32) → Prop} {row q k : Nat} {x2 : Int32} (hm : m ≤ 8) (hrow : row < m) (hq : q < 20) (hk : k < m ∨ k = 8) (hne : k ≠ row) (hB : wl_B m s) (hB' : wl_B m s')
    (hT : ∀ c, c ≤ 20 → s.2.1 * s'.1 k c = s.1 k c * s.1 row q - s.1 k q * s.1 row c) (hr : ∀ c, c ≤ 20 → s'.1 row c = s.1 row c)
    (H : ∀ tb', wl_tl m tb' (wl_H s s' (k + 1) 0) → J (nI (k + 1)) px py tb' ow st sb) :
    ∀ dd c, c + dd = 21 → ∀ tb, wl_tl m tb (wl_H s s' k c) → wX_exchange_64 post J (nI row) x2 (ml_l (s.1 row q)) (nI k) (ml_l (s.1 k q)) (nI m) ln (ml_l s.2.1) ft fb sc (dd + 1) (nI c) px py tb ow st sb := by
  intro dd
  induction dd with
  | zero =>
    intro c hc tb h
    have e : c = 21 := by omega
    subst e
    refine pk_le 21 21 (fun _ => nm_r (nI_1 k) (H tb (wl_tl_c h (fun r hr' c hc' => ?_)))) (fun z => by omega)
    unfold wl_H
    by_cases z : r < k + 1
    · rw [if_pos (by omega), if_pos (by omega)]
    · rw [if_neg (by omega), if_neg (by omega)]
  | succ dd ih =>
    intro c hc tb h
    have vk : vp_in ((21 : Int32) * nI k + nI c) 189 := pk_in _ 189 (by omega) (wl_ix k c)
    have hD := hB.1
    have b1 := hB.2 k hk c (by omega)
    have b2 := hB.2 row (Or.inl hrow) q (by omega)
    have b3 := hB.2 k hk q (by omega)
    have b4 := hB.2 row (Or.inl hrow) c (by omega)
    have b5 := hB'.2 k hk c (by omega)
    have m1 := ml_mb (A := 100000) (B := 100000) b1 b2
    have m2 := ml_mb (A := 100000) (B := 100000) b3 b4
    have hne0 : ¬ ml_l s.2.1 = 0 := by
      intro z
      rw [ml_l0, ml_l_eq (by omega) (by omega) (by omega) (by omega)] at z
      omega
    have g1 : tb ((21 : Int32) * nI k + nI c).toNatClampNeg = ml_l (s.1 k c) := by
      rw [wl_tl_g h hm hk (by omega) (wl_ix k c)]
      unfold wl_H
      rw [if_neg (by omega)]
    have g2 : tb ((21 : Int32) * nI row + nI c).toNatClampNeg = ml_l (s.1 row c) := by
      rw [wl_tl_g h hm (Or.inl hrow) (by omega) (wl_ix row c)]
      unfold wl_H
      split
      · rw [hr c (by omega)]
      · rfl
    refine pk_le 21 c (fun z => by omega) (fun _ => ⟨vk, pk_in _ 189 (by omega) (wl_ix row c), hne0, vk, fun t1 h1 => nm_r (nI_1 c) (ih (c + 1) (by omega) t1 ?_)⟩)
    have w1 := wl_tl_e h1 (v := s'.1 k c) h (by omega) (by omega) (wl_ix k c) (by
      rw [g1, g2, ml_l_mul, ml_l_mul, ml_l_sub]
      exact ml_l_div (hT c (by omega)).symm hD.1 (by omega) (by omega) (by omega) (by omega) (by omega))
    refine wl_tl_c w1 (fun r hr' j hj => ?_)
    unfold wl_H
    by_cases z : r = k ∧ j = c
    · rw [if_pos z, if_pos (by omega), z.1, z.2]
    · rw [if_neg z]
      by_cases w : r < k ∨ (r = k ∧ j < c)
      · rw [if_pos w, if_pos (by omega)]
      · rw [if_neg w, if_neg (by omega)]
theorem wl_ex15 {post : SX → Prop} {row q : Nat} (hm : m ≤ 8) (hB : wl_B m s) (hB' : wl_B m s') (hP : ml_Piv m s s' row q) (how : ∀ r, r < m → ow r = nI (s.2.2 r))
    (H : ∀ tb' ow', wl_R m tb' ow' (ml_l s'.2.1) s' → post (nI m, ln, ml_l s'.2.1, ft, fb, sc, px, py, tb', ow', st, sb)) :
    ∀ dd k, k + dd = 9 → ∀ tb, wl_tl m tb (wl_H s s' k 0) → wX_exchange_15 post (nI row) (nI q) (ml_l (s.1 row q)) (nI m) ln (ml_l s.2.1) ft fb sc (dd + 1) (nI k) px py tb ow st sb := by
  obtain ⟨p1, p2, p3, p4, p5, p6, p7, p8, p9, p10⟩ := hP
  intro dd
  induction dd with
  | zero =>
    intro k hk tb h
    have e : k = 9 := by omega
    subst e
    refine pk_lt 8 9 (fun _ => ⟨vp_in_nI (by omega) (by omega), nm_r (e' := upd ow row (nI q)) (by rw [pk_vb, wl_byte q p2, nI_clamp (by omega)]) ?_⟩) (fun z => by omega)
    have k1 := H tb (upd ow row (nI q)) ⟨wl_tl_c h (fun r hr c hc => by unfold wl_H; rw [if_pos (by omega)]), rfl, fun r hr => by
      rw [p10 r hr]
      by_cases z : r = row
      · rw [z, pk_us, if_pos rfl]
      · rw [pk_un z, if_neg z]; exact how r hr⟩
    rw [p7] at k1
    exact k1
  | succ dd ih =>
    intro k hk tb h
    have skip : (k = row ∨ (m ≤ k ∧ k < 8)) → wX_exchange_15 post (nI row) (nI q) (ml_l (s.1 row q)) (nI m) ln (ml_l s.2.1) ft fb sc (dd + 1) (nI (k + 1)) px py tb ow st sb := by
      intro hs
      refine ih (k + 1) (by omega) tb (wl_tl_c h (fun r hr c hc => ?_))
      unfold wl_H
      by_cases z : r = k
      · rw [if_neg (by omega), if_pos (by omega)]
        rcases hs with hs | hs
        · rw [z, hs, p9 c hc]
        · omega
      · by_cases w : r < k
        · rw [if_pos (by omega), if_pos (by omega)]
        · rw [if_neg (by omega), if_neg (by omega)]
    have go : k ≠ row → (k < m ∨ k = 8) → wX_exchange_47 post (wX_exchange_15 post (nI row) (nI q) (ml_l (s.1 row q)) (nI m) ln (ml_l s.2.1) ft fb sc (dd + 1)) (nI row) (nI q) (ml_l (s.1 row q)) (nI k) (nI m) ln (ml_l s.2.1) ft fb sc px py tb ow st sb := by
      intro hne hl
      have g : tb ((21 : Int32) * nI k + nI q).toNatClampNeg = ml_l (s.1 k q) := by
        rw [wl_tl_g h hm hl (by omega) (wl_ix k q)]
        unfold wl_H
        rw [if_neg (by omega)]
      exact ⟨pk_in _ 189 (by omega) (wl_ix k q), nm_r g ⟨22, wl_ex64 hm p1 p2 hl hne hB hB' (p8 k hl hne) p9 (fun tb' h' => ih (k + 1) (by omega) tb' h') 21 0 (by omega) tb h⟩⟩
    refine pk_lt 8 k (fun z => by omega) (fun _ => pk_eq k row (fun e => nm_r (nI_1 k) (skip (Or.inl e))) (fun hne => pk_lt k m (fun hl => go hne (Or.inl hl)) (fun hge => pk_le 8 k (fun h8 => go hne (Or.inr (by omega))) (fun hlt => nm_r (nI_1 k) (skip (Or.inr ⟨hge, hlt⟩))))))
/-- X: one exchange -/
theorem wl_exch {post : SX → Prop} {row q : Nat} (hm : m ≤ 8) (hR : wl_R m tb ow fd s) (hB : wl_B m s) (hB' : wl_B m s') (hP : ml_Piv m s s' row q)
    (H : ∀ tb' ow', wl_R m tb' ow' (ml_l s'.2.1) s' → post (nI m, ln, ml_l s'.2.1, ft, fb, sc, px, py, tb', ow', st, sb)) :
    wpX_exchange post (nI m, ln, fd, ft, fb, sc, px, py, tb, ow, st, sb) (nI row) (nI q) := by
  obtain ⟨r1, rfl, r3⟩ := hR
  have p1 := hP.1
  have p2 := hP.2.1
  have k := wl_ex15 (ln := ln) (ft := ft) (fb := fb) (sc := sc) (px := px) (py := py) (st := st) (sb := sb) hm hB hB' hP r3 H 9 0 (by omega) tb (wl_tl_c r1 (fun r hr c hc => by unfold wl_H; rw [if_neg (by omega)]))
  exact ⟨pk_in _ 189 (by omega) (wl_ix row q), nm_r (wl_tl_g r1 hm (Or.inl p1) (by omega) (wl_ix row q)) ⟨10, k⟩⟩
end
section
variable {m : Nat} {x y : Nat → Int} {l : Int} {ft fb fd : Int64} {sc : Int32} {tb : Nat → Int64} {ow st sb : Nat → Int32}
theorem wl_s9 {post : SX → Prop} (hm : m ≤ 8) (l1 : 1 ≤ l) (l3 : l ≤ 3) (hx : ml_B20 x) (hy : ml_B20 y)
    (H : ∀ (t b : Nat) fd tb ow, ml_min m x y l t b → t ≤ 100000 → 0 < b → b ≤ 40 → post (nI m, ml_i l, fd, lN (t / Nat.gcd t b), lN (b / Nat.gcd t b), sc, ml_a x, ml_a y, tb, ow, st, sb)) :
    ∀ s, Acc (fun s' s => ml_Ok m s ∧ ml_Ok m s' ∧ ∃ row q, ml_Piv m s s' row q) s → ∀ e P Q, ml_IV m x y l s e P Q →
      ∃ n, ∀ tb ow fd ft fb x1, wl_R m tb ow fd s → wl_col s x1 → wX_solve_9 post n x1 (nI m) (ml_i l) fd ft fb sc (ml_a x) (ml_a y) tb ow st sb := by
  intro s hacc
  induction hacc with
  | intro s _ ih =>
    intro e P Q hIV
    have hB : wl_B m s := ml_IV_b hm l1 l3 hx hy hIV
    have hok := ml_IV_ok hIV
    by_cases ht : ∀ c, c < 20 → 0 ≤ s.1 8 c
    · refine ⟨1, fun tb ow fd ft fb x1 hR hcol => ?_⟩
      have hmin := ml_opt hm l1 l3 hIV ht
      rcases hcol with ⟨rfl, _⟩ | ⟨q, hq, _, hneg, _⟩
      · obtain ⟨r1, rfl, r3⟩ := hR
        obtain ⟨hD1, hD2⟩ := hB.1
        have b := hB.2 8 (Or.inr rfl) 20 (by omega)
        have e188 : tb 188 = ml_l (s.1 8 20) := r1 8 (Or.inr rfl) 20 (by omega)
        obtain ⟨T, hT⟩ := Int.eq_ofNat_of_zero_le hmin.2.1
        obtain ⟨B, hBb⟩ := Int.eq_ofNat_of_zero_le (Int.le_of_lt hD1)
        rw [hT, hBb] at hmin
        refine br_t (by decide) (nm_r (e' := lN T) ?_ ?_)
        · rw [e188, ml_l_neg, hT]; exact ml_l_lN T
        · rw [hBb, show ml_l ((B : Nat) : Int) = lN B from ml_l_lN B]
          exact wl_low (by omega) (by omega) (by omega) (H T B _ _ _ hmin (by omega) (by omega) (by omega))
      · have := ht q hq
        omega
    · have hex : ∃ c, c < 20 ∧ s.1 8 c < 0 := by
        apply Classical.byContradiction
        intro z
        refine ht (fun c hc => ?_)
        have : ¬ s.1 8 c < 0 := fun w => z ⟨c, hc, w⟩
        omega
      obtain ⟨q, hq, hneg, hleast⟩ := ml_least hex
      have hlim := ml_lim_ex l1 l3 hIV hq hneg
      obtain ⟨row, hrow⟩ := ml_Lim_ex hlim
      obtain ⟨s', e', P', Q', hIV', hPiv⟩ := ml_step hm hIV hq hneg (fun c hc => by have := hleast c hc; omega) hrow
      have hB' : wl_B m s' := ml_IV_b hm l1 l3 hx hy hIV'
      obtain ⟨n, hn⟩ := ih s' ⟨hok, ml_IV_ok hIV', row, q, hPiv⟩ e' P' Q' hIV'
      refine ⟨n + 1, fun tb ow fd ft fb x1 hR hcol => ?_⟩
      rcases hcol with ⟨_, hall⟩ | ⟨q', hq', rfl, hneg', hleast'⟩
      · have := hall q hq
        omega
      · have eq : q' = q := by
          rcases Nat.lt_trichotomy q' q with z | z | z
          · exact absurd hneg' (hleast q' z)
          · exact z
          · have := hleast' q z
            omega
        subst eq
        refine br_f (nI_pos (by omega)) (wl_lim hm hq hR hB hok.2.1 hlim (fun row' hrow' => ?_))
        have er := ml_Lim_u hok hrow' hrow
        subst er
        exact wl_exch hm hR hB hB' hPiv (fun tb' ow' hR' => wl_cheap hm hR' hB' (fun x1' hcol' => hn tb' ow' _ _ _ x1' hR' hcol'))
/-- X: the least cost of all lines -/
theorem wl_solve {post : SX → Prop} (hm : m ≤ 8) (l1 : 1 ≤ l) (l3 : l ≤ 3) (hx : ml_B20 x) (hy : ml_B20 y)
    (H : ∀ (t b : Nat) fd tb ow, ml_min m x y l t b → t ≤ 100000 → 0 < b → b ≤ 40 → post (nI m, ml_i l, fd, lN (t / Nat.gcd t b), lN (b / Nat.gcd t b), sc, ml_a x, ml_a y, tb, ow, st, sb)) :
    wpX_solve post (nI m, ml_i l, fd, ft, fb, sc, ml_a x, ml_a y, tb, ow, st, sb) := by
  have hIV : ml_IV m x y l (wl_F267 m x y l m 0, 1, ml_ow y) 1 0 2 := by
    refine ml_IV_0 hm (fun r hr c hc => ?_) (fun c hc => ?_) (fun r hr => rfl)
    · unfold wl_F267
      rw [if_neg (by omega), if_pos hr]
    · unfold wl_F267
      rw [if_pos rfl, if_neg (by omega)]
  have hB : wl_B m _ := ml_IV_b hm l1 l3 hx hy hIV
  obtain ⟨n, hn⟩ := wl_s9 hm l1 l3 hx hy H _ (ml_acc hm _) 1 0 2 hIV
  refine wl_fill hm l1 l3 hx hy (fun tb' ow' w o => ?_)
  have hR : wl_R m tb' ow' 1 (wl_F267 m x y l m 0, 1, ml_ow y) := ⟨fun r hr c hc => w r (by omega) c hc, ml_l1, o⟩
  exact wl_cheap hm hR hB (fun x1 hcol => ⟨n, hn tb' ow' 1 ft fb x1 hR hcol⟩)
end
end
section
/-- the same points and the same lean on both sides; all else is free -/
def i_Rel (k : Nat) (u : SX) (v : SY) : Prop :=
  ∃ (m : Nat) (l : Int) (x y : Nat → Int) (fd ft fb : Int64) (sc : Int32) (tb : Nat → Int64) (ow st sb : Nat → Int32) (gt gb : Int64) (fo : Int32),
    m ≤ 8 ∧ 1 ≤ l ∧ l ≤ 3 ∧ ml_B20 x ∧ ml_B20 y ∧ u = (nI m, ml_i l, fd, ft, fb, sc, ml_a x, ml_a y, tb, ow, st, sb) ∧ v = (nI m, ml_i l, gt, gb, fo, ml_a x, ml_a y)
theorem zz_mk {k m : Nat} {l : Int} {x y : Nat → Int} {fd ft fb : Int64} {sc : Int32} {tb : Nat → Int64} {ow st sb : Nat → Int32} {gt gb : Int64} {fo : Int32} (hm : m ≤ 8) (l1 : 1 ≤ l) (l3 : l ≤ 3) (hx : ml_B20 x) (hy : ml_B20 y) :
    i_Rel k (nI m, ml_i l, fd, ft, fb, sc, ml_a x, ml_a y, tb, ow, st, sb) (nI m, ml_i l, gt, gb, fo, ml_a x, ml_a y) :=
  ⟨m, l, x, y, fd, ft, fb, sc, tb, ow, st, sb, gt, gb, fo, hm, l1, l3, hx, hy, rfl, rfl⟩
theorem zz_el {P : SX → SY → Prop} {k : Nat} {u : SX} {v : SY}
    (h : ∀ (m : Nat) (l : Int) (x y : Nat → Int) (fd ft fb : Int64) (sc : Int32) (tb : Nat → Int64) (ow st sb : Nat → Int32) (gt gb : Int64) (fo : Int32), m ≤ 8 → 1 ≤ l → l ≤ 3 → ml_B20 x → ml_B20 y →
      P (nI m, ml_i l, fd, ft, fb, sc, ml_a x, ml_a y, tb, ow, st, sb) (nI m, ml_i l, gt, gb, fo, ml_a x, ml_a y)) (I : i_Rel k u v) : P u v := by
  obtain ⟨m, l, x, y, fd, ft, fb, sc, tb, ow, st, sb, gt, gb, fo, hm, l1, l3, hx, hy, eu, ev⟩ := I
  rw [eu, ev]
  exact h m l x y fd ft fb sc tb ow st sb gt gb fo hm l1 l3 hx hy
theorem zz_int (v : Int32) : ∃ a : Int, -2147483648 ≤ a ∧ a < 2147483648 ∧ v = ml_i a := ⟨v.toInt, v.le_toInt, v.toInt_lt, (Int32.ofInt_toInt v).symm⟩
theorem zz_byte {a : Int} (h1 : -20 ≤ a) (h2 : a ≤ 20) : (ml_i a).toInt8.toInt32 = ml_i a := lg_i2b_small (by rw [ml_i_toInt (by omega) (by omega)]; omega) (by rw [ml_i_toInt (by omega) (by omega)]; omega)
theorem i_up {k : Nat} {u : SX} {v : SY} (h : i_Rel k u v) : i_Rel (k + 3) u v := h
theorem i_vc0 : wpX_init (fun u => wpY_init (fun v => i_Rel 0 u v)) := by
  have ea : (fun _ => 0 : Nat → Int32) = ml_a (fun _ => 0) := funext (fun _ => ml_i0)
  have e2 : (2 : Int32) = ml_i 2 := by decide
  have hb : ml_B20 (fun _ => 0) := fun j => ⟨show (-20 : Int) ≤ 0 by omega, show (0 : Int) ≤ 20 by omega⟩
  refine ⟨0, 2, fun _ => 0, fun _ => 0, 0, 0, 0, 0, fun _ => 0, fun _ => 0, fun _ => 0, fun _ => 0, 0, 0, 0, by omega, by omega, by omega, hb, hb, ?_, ?_⟩
  · rw [← ea, ← e2, nI_0]
  · rw [← ea, ← e2, nI_0]
section
variable {m : Nat} {x y : Nat → Int} {l : Int} {fd ft fb gt gb : Int64} {sc fo ln : Int32} {tb : Nat → Int64} {ow st sb : Nat → Int32} {px py : Nat → Int32}
theorem zz_xp1 {post : Int32 → Prop} {j : Nat} (hm : m ≤ 8) (hj : j < m) (h : post 1) : wpX_isPoint post (nI m, ln, fd, ft, fb, sc, px, py, tb, ow, st, sb) (nI j) :=
  br_f (nI_pos (by omega)) (br_f (nI_ge hj (by omega)) h)
theorem zz_xp0 {post : Int32 → Prop} {v : Int32} (hv : v < 0 ∨ nI m ≤ v) (h : post 0) : wpX_isPoint post (nI m, ln, fd, ft, fb, sc, px, py, tb, ow, st, sb) v :=
  br_c (fun _ => h) (fun hn => br_c (fun _ => h) (fun hn2 => (hv.elim hn hn2).elim))
theorem zz_yp1 {post : Int32 → Prop} {j : Nat} (hm : m ≤ 8) (hj : j < m) (h : post 1) : wpY_isPoint post (nI m, ln, ft, fb, fo, px, py) (nI j) :=
  br_f (nI_pos (by omega)) (br_f (nI_ge hj (by omega)) h)
theorem zz_yp0 {post : Int32 → Prop} {v : Int32} (hv : v < 0 ∨ nI m ≤ v) (h : post 0) : wpY_isPoint post (nI m, ln, ft, fb, fo, px, py) v :=
  br_c (fun _ => h) (fun hn => br_c (fun _ => h) (fun hn2 => (hv.elim hn hn2).elim))
/-- what is left when point j goes, as far as place k -/
def zz_sh (x : Nat → Int) (j k : Nat) : Nat → Int := fun t => if j ≤ t ∧ t < k then x (t + 1) else x t
theorem zz_sh_b (hx : ml_B20 x) (j k : Nat) : ml_B20 (zz_sh x j k) := by
  intro t
  unfold zz_sh
  split
  · exact hx (t + 1)
  · exact hx t
theorem zz_sh_0 (j : Nat) : zz_sh x j j = x := by
  funext t
  unfold zz_sh
  rw [if_neg (by omega)]
theorem zz_sh_s {j k : Nat} (hjk : j ≤ k) : (fun t => if t = k then zz_sh x j k (k + 1) else zz_sh x j k t) = zz_sh x j (k + 1) := by
  funext t
  unfold zz_sh
  rw [if_neg (show ¬ (j ≤ k + 1 ∧ k + 1 < k) by omega)]
  by_cases z : t = k
  · rw [if_pos z, if_pos (by omega), z]
  · rw [if_neg z]
    by_cases w : j ≤ t ∧ t < k
    · rw [if_pos w, if_pos (by omega)]
    · rw [if_neg w, if_neg (by omega)]
theorem zz_xd22 {post : Int32 → SX → Prop} {j : Nat} (hm : m ≤ 7) (hx : ml_B20 x) (hy : ml_B20 y) (h : post (nI m) (nI m, ln, fd, ft, fb, sc, ml_a (zz_sh x j m), ml_a (zz_sh y j m), tb, ow, st, sb)) :
    ∀ dd k, k + dd = m → j ≤ k → wX_drop_22 post (nI m) ln fd ft fb sc (dd + 1) (nI k) (ml_a (zz_sh x j k)) (ml_a (zz_sh y j k)) tb ow st sb := by
  intro dd
  induction dd with
  | zero =>
    intro k hk hj
    have e : k = m := by omega
    subst e
    exact pk_le k k (fun _ => h) (fun z => by omega)
  | succ dd ih =>
    intro k hk hj
    have vk : vp_in (nI k) 8 := vp_in_nI (by omega) (by omega)
    have e1 : nI k + 1 = nI (k + 1) := nI_1 k
    have vk1 : vp_in (nI k + 1) 8 := pk_in (k + 1) 8 (by omega) e1
    have up : ∀ (x : Nat → Int), ml_B20 x → upd (ml_a (zz_sh x j k)) (nI k).toNatClampNeg (vp_nar .byte (ml_a (zz_sh x j k) (nI k + 1).toNatClampNeg)) = ml_a (zz_sh x j (k + 1)) := by
      intro x hx
      have b := zz_sh_b hx j k (k + 1)
      rw [e1, ml_acl (by omega), vp_nar_byte, zz_byte b.1 b.2, ml_a_upd (by omega), zz_sh_s hj]
    refine pk_le m k (fun z => by omega) (fun _ => ⟨vk1, vk, nm_r (up x hx) ⟨vk1, vk, nm_r (up y hy) (nm_r e1 (ih (k + 1) (by omega) (by omega)))⟩⟩)
theorem zz_yd12 {post : Int32 → SY → Prop} {j : Nat} (hm : m ≤ 7) (hx : ml_B20 x) (hy : ml_B20 y) (h : post (nI m) (nI m, ln, ft, fb, fo, ml_a (zz_sh x j m), ml_a (zz_sh y j m))) :
    ∀ dd k, k + dd = m → j ≤ k → wY_drop_12 post (nI (m + 1)) ln ft fb fo (dd + 1) (nI k) (ml_a (zz_sh x j k)) (ml_a (zz_sh y j k)) := by
  intro dd
  induction dd with
  | zero =>
    intro k hk hj
    have e : k = m := by omega
    subst e
    exact pk_le k k (fun _ => nm_r (nI_pred k) h) (fun z => by omega) (nI_pred k)
  | succ dd ih =>
    intro k hk hj
    have vk : vp_in (nI k) 8 := vp_in_nI (by omega) (by omega)
    have e1 : nI k + 1 = nI (k + 1) := nI_1 k
    have vk1 : vp_in (nI k + 1) 8 := pk_in (k + 1) 8 (by omega) e1
    have up : ∀ (x : Nat → Int), upd (ml_a (zz_sh x j k)) (nI k).toNatClampNeg (ml_a (zz_sh x j k) (nI k + 1).toNatClampNeg) = ml_a (zz_sh x j (k + 1)) := by
      intro x
      rw [e1, ml_acl (by omega), ml_a_upd (by omega), zz_sh_s hj]
    refine pk_le m k (fun z => by omega) (fun _ => ⟨vk1, vk, nm_r (up x) ⟨vk1, vk, nm_r (up y) (nm_r e1 (ih (k + 1) (by omega) (by omega)))⟩⟩) (nI_pred m)
end
theorem i_vc_add {k : Nat} {u : SX} {v : SY} (I : i_Rel k u v) (hk : k + 3 ≤ 1536) (v1 : Int32) (v2 : Int32) : wpX_add (fun r u' => wpY_add (fun r' v' => r' = r ∧ i_Rel (k + 3) u' v') v v1 v2) u v1 v2 := by
  refine zz_el (P := fun u v => wpX_add (fun r u' => wpY_add (fun r' v' => r' = r ∧ i_Rel (k + 3) u' v') v v1 v2) u v1 v2) ?_ I
  intro m l x y fd ft fb sc tb ow st sb gt gb fo hm l1 l3 hx hy
  obtain ⟨a, a1, a2, rfl⟩ := zz_int v1
  obtain ⟨b, b1, b2, rfl⟩ := zz_int v2
  have em : (-20 : Int32) = ml_i (-20) := by decide
  have ep : (20 : Int32) = ml_i 20 := by decide
  have rel := zz_mk (k := k + 3) (fd := fd) (ft := ft) (fb := fb) (sc := sc) (tb := tb) (ow := ow) (st := st) (sb := sb) (gt := gt) (gb := gb) (fo := fo) hm l1 l3 hx hy
  refine pk_lt m 8 (fun h8 => ?_) (fun h8 => ?_)
  · have y8 : ¬ nI m = 8 := fun z => by
      have := (nI_eq (b := 8) (show m < 2 ^ 31 by omega) (by decide)).mp z
      omega
    refine ml_blt a (-20) (fun g1 => br_f y8 (ml_blt a (-20) (fun _ => ⟨rfl, rel⟩) (fun z => by omega) rfl em)) (fun g1 => ?_) rfl em
    refine ml_blt 20 a (fun g2 => br_f y8 (ml_blt a (-20) (fun z => by omega) (fun _ => ml_blt 20 a (fun _ => ⟨rfl, rel⟩) (fun z => by omega) ep rfl) rfl em)) (fun g2 => ?_) ep rfl
    refine ml_blt b (-20) (fun g3 => br_f y8 (ml_blt a (-20) (fun z => by omega) (fun _ => ml_blt 20 a (fun z => by omega) (fun _ => ml_blt b (-20) (fun _ => ⟨rfl, rel⟩) (fun z => by omega) rfl em) ep rfl) rfl em)) (fun g3 => ?_) rfl em
    have vm : vp_in (nI m) 8 := vp_in_nI h8 (by omega)
    refine ml_ble b 20 (fun g4 => ⟨vm, nm_r (e' := ml_a (fun j => if j = m then a else x j)) (by rw [pk_vb, zz_byte g1 g2]; exact ml_a_upd (by omega)) ⟨vm, nm_r (e' := ml_a (fun j => if j = m then b else y j)) (by rw [pk_vb, zz_byte g3 g4]; exact ml_a_upd (by omega)) (nm_r (nI_1 m) ?_)⟩⟩) (fun g4 => ?_) rfl ep
    · refine br_f y8 (ml_blt a (-20) (fun z => by omega) (fun _ => ml_blt 20 a (fun z => by omega) (fun _ => ml_blt b (-20) (fun z => by omega) (fun _ => ml_ble b 20 (fun _ => ⟨vm, nm_r (ml_a_upd (by omega)) ⟨vm, nm_r (ml_a_upd (by omega)) (nm_r (nI_1 m) ⟨rfl, ?_⟩)⟩⟩) (fun z => by omega) rfl ep) rfl em) ep rfl) rfl em)
      refine zz_mk (by omega) l1 l3 (fun j => ?_) (fun j => ?_)
      · split
        · exact ⟨g1, g2⟩
        · exact hx j
      · split
        · exact ⟨g3, g4⟩
        · exact hy j
    · exact br_f y8 (ml_blt a (-20) (fun z => by omega) (fun _ => ml_blt 20 a (fun z => by omega) (fun _ => ml_blt b (-20) (fun z => by omega) (fun _ => ml_ble b 20 (fun z => by omega) (fun _ => ⟨rfl, rel⟩) rfl ep) rfl em) ep rfl) rfl em)
  · have e : m = 8 := by omega
    subst e
    exact br_t rfl ⟨rfl, rel⟩
theorem i_vc_drop {k : Nat} {u : SX} {v : SY} (I : i_Rel k u v) (hk : k + 3 ≤ 1536) (v1 : Int32) : wpX_drop (fun r u' => wpY_drop (fun r' v' => r' = r ∧ i_Rel (k + 3) u' v') v v1) u v1 := by
  refine zz_el (P := fun u v => wpX_drop (fun r u' => wpY_drop (fun r' v' => r' = r ∧ i_Rel (k + 3) u' v') v v1) u v1) ?_ I
  intro m l x y fd ft fb sc tb ow st sb gt gb fo hm l1 l3 hx hy
  have bad : (v1 < 0 ∨ nI m ≤ v1) → wpX_drop (fun r u' => wpY_drop (fun r' v' => r' = r ∧ i_Rel (k + 3) u' v') (nI m, ml_i l, gt, gb, fo, ml_a x, ml_a y) v1) (nI m, ml_i l, fd, ft, fb, sc, ml_a x, ml_a y, tb, ow, st, sb) v1 := by
    intro hb
    unfold wpX_drop wpY_drop
    dsimp only
    exact zz_xp0 hb (br_t rfl (zz_yp0 hb (br_t rfl ⟨rfl, zz_mk hm l1 l3 hx hy⟩)))
  rcases pk_ix v1 (show m < 2 ^ 31 by omega) with h | h | ⟨j, hj, rfl⟩
  · exact bad (Or.inl h)
  · exact bad (Or.inr h)
  · obtain ⟨n, rfl⟩ : ∃ n, m = n + 1 := ⟨m - 1, by omega⟩
    unfold wpX_drop wpY_drop
    dsimp only
    refine zz_xp1 hm hj (br_f (by decide) (nm_r (nI_pred n) ⟨(n - j) + 1, ?_⟩))
    have kx := zz_xd22 (m := n) (x := x) (y := y) (j := j) (ln := ml_i l) (fd := fd) (ft := ft) (fb := fb) (sc := sc) (tb := tb) (ow := ow) (st := st) (sb := sb)
      (post := fun r u' => wpY_isPoint (fun r_1 => (((r_1 = 0 → ((-1 : Int32) = r ∧ i_Rel (k + 3) u' (nI (n + 1), ml_i l, gt, gb, fo, ml_a x, ml_a y))) ∧ (¬ r_1 = 0 → (∃ n12 : Nat, wY_drop_12 (fun r' v' => r' = r ∧ i_Rel (k + 3) u' v') (nI (n + 1)) (ml_i l) gt gb fo n12 (nI j) (ml_a x) (ml_a y)))))) (nI (n + 1), ml_i l, gt, gb, fo, ml_a x, ml_a y) (nI j))
      (by omega) hx hy (zz_yp1 hm hj (br_f (by decide) ⟨(n - j) + 1, by
        have ky := zz_yd12 (m := n) (x := x) (y := y) (j := j) (ln := ml_i l) (ft := gt) (fb := gb) (fo := fo)
          (post := fun r' v' => r' = nI n ∧ i_Rel (k + 3) (nI n, ml_i l, fd, ft, fb, sc, ml_a (zz_sh x j n), ml_a (zz_sh y j n), tb, ow, st, sb) v')
          (by omega) hx hy ⟨rfl, zz_mk (by omega) l1 l3 (zz_sh_b hx j n) (zz_sh_b hy j n)⟩ (n - j) j (by omega) (by omega)
        rw [zz_sh_0, zz_sh_0] at ky
        exact ky⟩)) (n - j) j (by omega) (by omega)
    rw [zz_sh_0, zz_sh_0] at kx
    exact kx
theorem i_vc_lean {k : Nat} {u : SX} {v : SY} (I : i_Rel k u v) (hk : k + 3 ≤ 1536) (v1 : Int32) : wpX_lean (fun r u' => wpY_lean (fun r' v' => r' = r ∧ i_Rel (k + 3) u' v') v v1) u v1 := by
  refine zz_el (P := fun u v => wpX_lean (fun r u' => wpY_lean (fun r' v' => r' = r ∧ i_Rel (k + 3) u' v') v v1) u v1) ?_ I
  intro m l x y fd ft fb sc tb ow st sb gt gb fo hm l1 l3 hx hy
  obtain ⟨a, a1, a2, rfl⟩ := zz_int v1
  have e3 : (3 : Int32) = ml_i 3 := by decide
  have rel := zz_mk (k := k + 3) (fd := fd) (ft := ft) (fb := fb) (sc := sc) (tb := tb) (ow := ow) (st := st) (sb := sb) (gt := gt) (gb := gb) (fo := fo) hm l1 l3 hx hy
  refine ml_blt a 1 (fun g1 => ml_blt a 1 (fun _ => ⟨rfl, rel⟩) (fun z => by omega) rfl ml_i1) (fun g1 => ?_) rfl ml_i1
  refine ml_ble a 3 (fun g2 => ml_blt a 1 (fun z => by omega) (fun _ => ml_ble a 3 (fun _ => ⟨rfl, zz_mk hm g1 g2 hx hy⟩) (fun z => by omega) rfl e3) rfl ml_i1) (fun g2 => ml_blt a 1 (fun z => by omega) (fun _ => ml_ble a 3 (fun z => by omega) (fun _ => ⟨rfl, rel⟩) rfl e3) rfl ml_i1) rfl e3
theorem zz_low {m : Nat} {x y : Nat → Int} {l : Int} {t b t' b' : Nat} (h : ml_min m x y l t b) (h' : ml_min m x y l t' b') (hb : 0 < b) (hb' : 0 < b') : t' / Nat.gcd t' b' = t / Nat.gcd t b ∧ b' / Nat.gcd t' b' = b / Nat.gcd t b := by
  have e := ml_min_uniq h' h
  have e2 : t' * b = t * b' := by
    rw [← Int.natCast_mul, ← Int.natCast_mul] at e
    exact Int.ofNat.inj e
  exact ml_low hb' hb e2
theorem zz_tlow {m : Nat} {x y : Nat → Int} {l : Int} {i t b t' b' : Nat} (h : ml_tmin m x y l i t b) (h' : ml_tmin m x y l i t' b') (hb : 0 < b) (hb' : 0 < b') : t' / Nat.gcd t' b' = t / Nat.gcd t b ∧ b' / Nat.gcd t' b' = b / Nat.gcd t b := by
  have e := ml_tmin_uniq h' h
  have e2 : t' * b = t * b' := by
    rw [← Int.natCast_mul, ← Int.natCast_mul] at e
    exact Int.ofNat.inj e
  exact ml_low hb' hb e2
theorem i_vc_leastTop {k : Nat} {u : SX} {v : SY} (I : i_Rel k u v) (hk : k + 3 ≤ 1536) : wpX_leastTop (fun r u' => wpY_leastTop (fun r' v' => r' = r ∧ i_Rel (k + 3) u' v') v) u := by
  refine zz_el (P := fun u v => wpX_leastTop (fun r u' => wpY_leastTop (fun r' v' => r' = r ∧ i_Rel (k + 3) u' v') v) u) ?_ I
  intro m l x y fd ft fb sc tb ow st sb gt gb fo hm l1 l3 hx hy
  unfold wpX_leastTop wpY_leastTop
  dsimp only
  refine wl_solve hm l1 l3 hx hy (fun t b fd' tb' ow' h1 h2 h3 h4 => ?_)
  refine wl_least hm l1 l3 hx hy (fun t' b' fo' g1 g2 g3 g4 => ?_)
  refine wl_upper (by omega) g4 g3 ⟨?_, zz_mk hm l1 l3 hx hy⟩
  rw [lN_i, (zz_low h1 g1 h3 g3).1]
theorem i_vc_leastBottom {k : Nat} {u : SX} {v : SY} (I : i_Rel k u v) (hk : k + 3 ≤ 1536) : wpX_leastBottom (fun r u' => wpY_leastBottom (fun r' v' => r' = r ∧ i_Rel (k + 3) u' v') v) u := by
  refine zz_el (P := fun u v => wpX_leastBottom (fun r u' => wpY_leastBottom (fun r' v' => r' = r ∧ i_Rel (k + 3) u' v') v) u) ?_ I
  intro m l x y fd ft fb sc tb ow st sb gt gb fo hm l1 l3 hx hy
  unfold wpX_leastBottom wpY_leastBottom
  dsimp only
  refine wl_solve hm l1 l3 hx hy (fun t b fd' tb' ow' h1 h2 h3 h4 => ?_)
  refine wl_least hm l1 l3 hx hy (fun t' b' fo' g1 g2 g3 g4 => ?_)
  refine wl_lower (by omega) g4 g3 ⟨?_, zz_mk hm l1 l3 hx hy⟩
  rw [lN_i, (zz_low h1 g1 h3 g3).2]
theorem zz_sl0 {post : Int32 → Prop} {a b : Int} {s : SY} (a1 : -2147483648 ≤ a) (a2 : a < 2147483648) (b1 : -2147483648 ≤ b) (b2 : b < 2147483648) (hbad : a < -1000 ∨ 1000 < a ∨ b < 1 ∨ 40 < b) (h : post 0) : wpY_isSlope post s (ml_i a) (ml_i b) := by
  have em : (-1000 : Int32) = ml_i (-1000) := by decide
  have ep : (1000 : Int32) = ml_i 1000 := by decide
  have e40 : (40 : Int32) = ml_i 40 := by decide
  obtain ⟨f1, f2, f3, f4, f5, f6, f7⟩ := s
  exact ml_blt a (-1000) (fun _ => h) (fun _ => ml_blt 1000 a (fun _ => h) (fun _ => ml_blt b 1 (fun _ => h) (fun _ => ml_blt 40 b (fun _ => h) (fun z => by omega) e40 rfl) rfl ml_i1) ep rfl) rfl em
theorem zz_sl1 {post : Int32 → Prop} {a b : Int} {s : SY} (ha : -1000 ≤ a ∧ a ≤ 1000) (hb : 1 ≤ b ∧ b ≤ 40) (h : post 1) : wpY_isSlope post s (ml_i a) (ml_i b) := by
  have em : (-1000 : Int32) = ml_i (-1000) := by decide
  have ep : (1000 : Int32) = ml_i 1000 := by decide
  have e40 : (40 : Int32) = ml_i 40 := by decide
  obtain ⟨f1, f2, f3, f4, f5, f6, f7⟩ := s
  exact ml_blt a (-1000) (fun z => by omega) (fun _ => ml_blt 1000 a (fun z => by omega) (fun _ => ml_blt b 1 (fun z => by omega) (fun _ => ml_blt 40 b (fun z => by omega) (fun _ => h) e40 rfl) rfl ml_i1) ep rfl) rfl em
theorem i_vc_withSlope {k : Nat} {u : SX} {v : SY} (I : i_Rel k u v) (hk : k + 3 ≤ 1536) (v1 : Int32) (v2 : Int32) : wpX_withSlope (fun r u' => wpY_withSlope (fun r' => r' = r ∧ i_Rel (k + 3) u' v) v v1 v2) u v1 v2 := by
  refine zz_el (P := fun u v => wpX_withSlope (fun r u' => wpY_withSlope (fun r' => r' = r ∧ i_Rel (k + 3) u' v) v v1 v2) u v1 v2) ?_ I
  intro m l x y fd ft fb sc tb ow st sb gt gb fo hm l1 l3 hx hy
  obtain ⟨a, a1, a2, rfl⟩ := zz_int v1
  obtain ⟨b, b1, b2, rfl⟩ := zz_int v2
  have em : (-1000 : Int32) = ml_i (-1000) := by decide
  have ep : (1000 : Int32) = ml_i 1000 := by decide
  have e40 : (40 : Int32) = ml_i 40 := by decide
  unfold wpX_withSlope wpY_withSlope
  dsimp only
  refine ml_blt a (-1000) (fun g1 => zz_sl0 a1 a2 b1 b2 (by omega) (br_t rfl ⟨rfl, zz_mk hm l1 l3 hx hy⟩)) (fun g1 => ?_) rfl em
  refine ml_blt 1000 a (fun g2 => zz_sl0 a1 a2 b1 b2 (by omega) (br_t rfl ⟨rfl, zz_mk hm l1 l3 hx hy⟩)) (fun g2 => ?_) ep rfl
  refine ml_blt b 1 (fun g3 => zz_sl0 a1 a2 b1 b2 (by omega) (br_t rfl ⟨rfl, zz_mk hm l1 l3 hx hy⟩)) (fun g3 => ?_) rfl ml_i1
  refine ml_ble b 40 (fun g4 => ?_) (fun g4 => zz_sl0 a1 a2 b1 b2 (by omega) (br_t rfl ⟨rfl, zz_mk hm l1 l3 hx hy⟩)) rfl e40
  refine wl_slope hm l1 l3 hx hy ⟨g1, g2⟩ (by omega) (fun V sc' st' sb' hV => ?_)
  refine zz_sl1 ⟨g1, g2⟩ ⟨g3, g4⟩ (br_f (by decide) (wl_with hm l1 l3 hx hy ⟨g1, g2⟩ (by omega) (fun V' hV' => ⟨?_, zz_mk hm l1 l3 hx hy⟩)))
  rw [ml_l_i, wl_wV_u hV hV']
/-- the two questions are one -/
theorem zz_cmp {t b t' b' : Nat} {V q : Int} (hb : 0 < b) (hb' : 0 < b') (e : t * b' = t' * b) : V * ((b / Nat.gcd t b : Nat) : Int) = ((t / Nat.gcd t b : Nat) : Int) * q ↔ V * (b' : Int) = (t' : Int) * q := by
  have hg : 0 < Nat.gcd t b := Nat.gcd_pos_of_pos_right t hb
  obtain ⟨T, hT⟩ := Nat.gcd_dvd_left t b
  obtain ⟨B, hB⟩ := Nat.gcd_dvd_right t b
  have d1 : t / Nat.gcd t b = T := Nat.div_eq_of_eq_mul_right hg hT
  have d2 : b / Nat.gcd t b = B := Nat.div_eq_of_eq_mul_right hg hB
  rw [d1, d2]
  generalize Nat.gcd t b = g at *
  have hB0 : 0 < B := by
    rcases Nat.eq_zero_or_pos B with z | z
    · rw [z, Nat.mul_zero] at hB; omega
    · exact z
  have e2 : (T : Int) * b' = t' * B := by
    have e3 : g * (T * b') = g * (t' * B) := by
      calc g * (T * b') = (g * T) * b' := by rw [Nat.mul_assoc]
        _ = t * b' := by rw [← hT]
        _ = t' * b := e
        _ = t' * (g * B) := by rw [← hB]
        _ = g * (t' * B) := by rw [← Nat.mul_assoc, Nat.mul_comm t' g, Nat.mul_assoc]
    have e4 := Nat.eq_of_mul_eq_mul_left hg e3
    rw [← Int.natCast_mul, ← Int.natCast_mul, e4]
  have cB : (0 : Int) < B := by omega
  have cb : (0 : Int) < b' := by omega
  constructor
  · intro h
    apply ml_cancel cB
    calc (B : Int) * (V * b') = (V * B) * b' := by grind
      _ = (T * q) * b' := by rw [h]
      _ = (T * b') * q := by grind
      _ = (t' * B) * q := by rw [e2]
      _ = B * (t' * q) := by grind
  · intro h
    apply ml_cancel cb
    calc (b' : Int) * (V * B) = (V * b') * B := by grind
      _ = (t' * q) * B := by rw [h]
      _ = (t' * B) * q := by grind
      _ = (T * b') * q := by rw [e2]
      _ = b' * (T * q) := by grind
theorem zz_eq64 {V q : Int} {t b : Nat} {A B : Prop} (hV : 0 ≤ V ∧ V ≤ 1920000) (hq : 0 ≤ q ∧ q ≤ 40) (ht : t ≤ 1920000) (hb : b ≤ 40) (f : V * b = t * q → A) (g : V * b ≠ t * q → B) :
    (ml_l V * lN b = lN t * ml_l q → A) ∧ (¬ ml_l V * lN b = lN t * ml_l q → B) := by
  have m1 := ml_mb (a := V) (b := b) (A := 1920000) (B := 40) (by omega) (by omega)
  have m2 := ml_mb (a := t) (b := q) (A := 1920000) (B := 40) (by omega) (by omega)
  exact ml_ceq64 (V * b) (t * q) f g (by rw [← ml_l_lN, ml_l_mul]) (by rw [← ml_l_lN, ml_l_mul])
theorem zz_nat {m : Nat} {x y : Nat → Int} {l : Int} {t b t' b' : Nat} (h : ml_min m x y l t b) (h' : ml_min m x y l t' b') : t * b' = t' * b := by
  have e := ml_min_uniq h h'
  rw [← Int.natCast_mul, ← Int.natCast_mul] at e
  exact Int.ofNat.inj e
theorem i_vc_bestSlope {k : Nat} {u : SX} {v : SY} (I : i_Rel k u v) (hk : k + 3 ≤ 1536) (v1 : Int32) (v2 : Int32) : wpX_bestSlope (fun r u' => wpY_bestSlope (fun r' v' => r' = r ∧ i_Rel (k + 3) u' v') v v1 v2) u v1 v2 := by
  refine zz_el (P := fun u v => wpX_bestSlope (fun r u' => wpY_bestSlope (fun r' v' => r' = r ∧ i_Rel (k + 3) u' v') v v1 v2) u v1 v2) ?_ I
  intro m l x y fd ft fb sc tb ow st sb gt gb fo hm l1 l3 hx hy
  obtain ⟨a, a1, a2, rfl⟩ := zz_int v1
  obtain ⟨b, b1, b2, rfl⟩ := zz_int v2
  have em : (-1000 : Int32) = ml_i (-1000) := by decide
  have ep : (1000 : Int32) = ml_i 1000 := by decide
  have e40 : (40 : Int32) = ml_i 40 := by decide
  unfold wpX_bestSlope wpY_bestSlope
  dsimp only
  refine ml_blt a (-1000) (fun g1 => zz_sl0 a1 a2 b1 b2 (by omega) (br_t rfl ⟨rfl, zz_mk hm l1 l3 hx hy⟩)) (fun g1 => ?_) rfl em
  refine ml_blt 1000 a (fun g2 => zz_sl0 a1 a2 b1 b2 (by omega) (br_t rfl ⟨rfl, zz_mk hm l1 l3 hx hy⟩)) (fun g2 => ?_) ep rfl
  refine ml_blt b 1 (fun g3 => zz_sl0 a1 a2 b1 b2 (by omega) (br_t rfl ⟨rfl, zz_mk hm l1 l3 hx hy⟩)) (fun g3 => ?_) rfl ml_i1
  refine ml_ble b 40 (fun g4 => ?_) (fun g4 => zz_sl0 a1 a2 b1 b2 (by omega) (br_t rfl ⟨rfl, zz_mk hm l1 l3 hx hy⟩)) rfl e40
  refine wl_solve hm l1 l3 hx hy (fun t b' fd' tb' ow' h1 h2 h3 h4 => ?_)
  refine wl_slope hm l1 l3 hx hy ⟨g1, g2⟩ (by omega) (fun V sc' st' sb' hV => ?_)
  have hVb := wl_wV_b hm l1 l3 hx hy ⟨g1, g2⟩ (by omega) hV
  have q1 := Nat.div_le_self t (Nat.gcd t b')
  have q2 := Nat.div_le_self b' (Nat.gcd t b')
  have ey : (ml_i b).toInt64 = ml_l b := ml_i_l (by omega) (by omega)
  rw [ey, ml_i_l (by omega) (by omega)]
  refine zz_eq64 hVb (by omega) (by omega) (by omega) (fun hx1 => ?_) (fun hx1 => ?_)
  · refine zz_sl1 ⟨g1, g2⟩ ⟨g3, g4⟩ (br_f (by decide) (wl_least hm l1 l3 hx hy (fun t2 b2 fo' k1 k2 k3 k4 => wl_with hm l1 l3 hx hy ⟨g1, g2⟩ (by omega) (fun V' hV' => ?_))))
    rw [← wl_wV_u hV hV']
    exact zz_eq64 hVb (by omega) k2 k4 (fun _ => ⟨rfl, zz_mk hm l1 l3 hx hy⟩) (fun z => absurd ((zz_cmp h3 k3 (zz_nat h1 k1)).mp hx1) z)
  · refine zz_sl1 ⟨g1, g2⟩ ⟨g3, g4⟩ (br_f (by decide) (wl_least hm l1 l3 hx hy (fun t2 b2 fo' k1 k2 k3 k4 => wl_with hm l1 l3 hx hy ⟨g1, g2⟩ (by omega) (fun V' hV' => ?_))))
    rw [← wl_wV_u hV hV']
    exact zz_eq64 hVb (by omega) k2 k4 (fun z => absurd ((zz_cmp h3 k3 (zz_nat h1 k1)).mpr z) hx1) (fun _ => ⟨rfl, zz_mk hm l1 l3 hx hy⟩)
theorem zz_bp74 {k m : Nat} {l : Int} {x y : Nat → Int} {fd ft fb gt gb : Int64} {sc fo : Int32} {tb : Nat → Int64} {ow st sb : Nat → Int32} {i j : Nat} (hm : m ≤ 8) (l1 : 1 ≤ l) (l3 : l ≤ 3) (hx : ml_B20 x) (hy : ml_B20 y) (hi : i < m) (hj : j < m) (hne : x i ≠ x j) :
    wX_bestPair_74 (fun r u' => wpY_bestPair (fun r' v' => r' = r ∧ i_Rel (k + 3) u' v') (nI m, ml_i l, gt, gb, fo, ml_a x, ml_a y) (nI i) (nI j)) (nI i) (ml_i (ml_run x i j)) (ml_i (ml_rise x y i j)) (nI m) (ml_i l) fd ft fb sc (ml_a x) (ml_a y) tb ow st sb := by
  have rb := ml_riseb (x := x) hy i j
  have ub := ml_runb hx i j
  have hxi := hx i
  have hxj := hx j
  have tcb := ml_TCb (n := m) (l := l) hm l1 l3 hx hy (p := ml_rise x y i j) (q := ml_run x i j) (by omega) (by omega) i
  unfold wX_bestPair_74
  refine wl_solve hm l1 l3 hx hy (fun t b' fd' tb' ow' h1 h2 h3 h4 => ?_)
  refine wl_ct hm (by omega) hx hy (by omega) (by omega) ?_
  have q1 := Nat.div_le_self t (Nat.gcd t b')
  have q2 := Nat.div_le_self b' (Nat.gcd t b')
  have ey : (ml_i (ml_run x i j)).toInt64 = ml_l (ml_run x i j) := ml_i_l (by omega) (by omega)
  have vi : vp_in (nI i) 8 := vp_in_nI (by omega) (by omega)
  have vj : vp_in (nI j) 8 := vp_in_nI (by omega) (by omega)
  rw [ey, ml_i_l (by omega) (by omega)]
  -- the reference, at either answer
  have yside : ∀ (r : Int32) (u' : SX), (∀ (t2 b2 : Nat) (fo' : Int32), ml_min m x y l t2 b2 → t2 ≤ 1920000 → 0 < b2 → b2 ≤ 40 →
      ((ml_l (ml_TC m x y l i (ml_rise x y i j) (ml_run x i j)) * lN b2 = lN t2 * ml_l (ml_run x i j) → (1 = r ∧ i_Rel (k + 3) u' (nI m, ml_i l, lN t2, lN b2, fo', ml_a x, ml_a y))) ∧ (¬ ml_l (ml_TC m x y l i (ml_rise x y i j) (ml_run x i j)) * lN b2 = lN t2 * ml_l (ml_run x i j) → (0 = r ∧ i_Rel (k + 3) u' (nI m, ml_i l, lN t2, lN b2, fo', ml_a x, ml_a y))))) →
      wpY_bestPair (fun r' v' => r' = r ∧ i_Rel (k + 3) u' v') (nI m, ml_i l, gt, gb, fo, ml_a x, ml_a y) (nI i) (nI j) := by
    intro r u' h
    unfold wpY_bestPair
    dsimp only
    refine zz_yp1 hm hi (br_f (by decide) (zz_yp1 hm hj (br_f (by decide) ⟨vi, vj, ml_beq (x i) (x j) (fun z => absurd z hne) (fun _ => ?_) (ml_acl (by omega)) (ml_acl (by omega))⟩)))
    refine wl_least hm l1 l3 hx hy (fun t2 b2 fo' k1 k2 k3 k4 => ?_)
    refine wl_rise (by omega) (by omega) hx (wl_run (by omega) (by omega) hx (wl_yc hm (by omega) l1 l3 hx hy (by omega) (by omega) ?_))
    rw [ey]
    exact h t2 b2 fo' k1 k2 k3 k4
  refine zz_eq64 tcb ub (by omega) (by omega) (fun hx1 => ?_) (fun hx1 => ?_)
  · exact yside _ _ (fun t2 b2 fo' k1 k2 k3 k4 => zz_eq64 tcb ub k2 k4 (fun _ => ⟨rfl, zz_mk hm l1 l3 hx hy⟩) (fun z => absurd ((zz_cmp h3 k3 (zz_nat h1 k1)).mp hx1) z))
  · exact yside _ _ (fun t2 b2 fo' k1 k2 k3 k4 => zz_eq64 tcb ub k2 k4 (fun z => absurd ((zz_cmp h3 k3 (zz_nat h1 k1)).mpr z) hx1) (fun _ => ⟨rfl, zz_mk hm l1 l3 hx hy⟩))
theorem i_vc_bestPair {k : Nat} {u : SX} {v : SY} (I : i_Rel k u v) (hk : k + 3 ≤ 1536) (v1 : Int32) (v2 : Int32) : wpX_bestPair (fun r u' => wpY_bestPair (fun r' v' => r' = r ∧ i_Rel (k + 3) u' v') v v1 v2) u v1 v2 := by
  refine zz_el (P := fun u v => wpX_bestPair (fun r u' => wpY_bestPair (fun r' v' => r' = r ∧ i_Rel (k + 3) u' v') v v1 v2) u v1 v2) ?_ I
  intro m l x y fd ft fb sc tb ow st sb gt gb fo hm l1 l3 hx hy
  have bad1 : (v1 < 0 ∨ nI m ≤ v1) → wpX_bestPair (fun r u' => wpY_bestPair (fun r' v' => r' = r ∧ i_Rel (k + 3) u' v') (nI m, ml_i l, gt, gb, fo, ml_a x, ml_a y) v1 v2) (nI m, ml_i l, fd, ft, fb, sc, ml_a x, ml_a y, tb, ow, st, sb) v1 v2 := by
    intro hb
    unfold wpX_bestPair wpY_bestPair
    dsimp only
    exact zz_xp0 hb (br_t rfl (zz_yp0 hb (br_t rfl ⟨rfl, zz_mk hm l1 l3 hx hy⟩)))
  rcases pk_ix v1 (show m < 2 ^ 31 by omega) with h | h | ⟨i, hi, rfl⟩
  · exact bad1 (Or.inl h)
  · exact bad1 (Or.inr h)
  · have bad2 : (v2 < 0 ∨ nI m ≤ v2) → wpX_bestPair (fun r u' => wpY_bestPair (fun r' v' => r' = r ∧ i_Rel (k + 3) u' v') (nI m, ml_i l, gt, gb, fo, ml_a x, ml_a y) (nI i) v2) (nI m, ml_i l, fd, ft, fb, sc, ml_a x, ml_a y, tb, ow, st, sb) (nI i) v2 := by
      intro hb
      unfold wpX_bestPair wpY_bestPair
      dsimp only
      exact zz_xp1 hm hi (br_f (by decide) (zz_xp0 hb (br_t rfl (zz_yp1 hm hi (br_f (by decide) (zz_yp0 hb (br_t rfl ⟨rfl, zz_mk hm l1 l3 hx hy⟩)))))))
    rcases pk_ix v2 (show m < 2 ^ 31 by omega) with h | h | ⟨j, hj, rfl⟩
    · exact bad2 (Or.inl h)
    · exact bad2 (Or.inr h)
    · have vi : vp_in (nI i) 8 := vp_in_nI (by omega) (by omega)
      have vj : vp_in (nI j) 8 := vp_in_nI (by omega) (by omega)
      have xi := hx i
      have xj := hx j
      have yi := hy i
      have yj := hy j
      have e0 : ∀ x : Nat → Int, ml_a x (nI j).toNatClampNeg - ml_a x (nI i).toNatClampNeg = ml_i (x j - x i) := by
        intro x
        rw [ml_acl (by omega), ml_acl (by omega), ml_i_sub]
      unfold wpX_bestPair
      dsimp only
      refine zz_xp1 hm hi (br_f (by decide) (zz_xp1 hm hj (br_f (by decide) ⟨vi, vj, ml_beq (x i) (x j) (fun he => ?_) (fun hne => ⟨vj, vi, nm_r (e0 x) ⟨vj, vi, nm_r (e0 y) ?_⟩⟩) (ml_acl (by omega)) (ml_acl (by omega))⟩)))
      · unfold wpY_bestPair
        dsimp only
        exact zz_yp1 hm hi (br_f (by decide) (zz_yp1 hm hj (br_f (by decide) ⟨vi, vj, ml_beq (x i) (x j) (fun _ => ⟨rfl, zz_mk hm l1 l3 hx hy⟩) (fun z => absurd he z) (ml_acl (by omega)) (ml_acl (by omega))⟩)))
      · refine ml_ble 0 (x j - x i) (fun hle => ?_) (fun hlt => nm_r (ml_i_neg _) (nm_r (ml_i_neg _) ?_)) ml_i0 rfl
        · have eu : ml_run x i j = x j - x i := by unfold ml_run; rw [if_pos (by omega)]
          have er : ml_rise x y i j = y j - y i := by unfold ml_rise; rw [if_pos (by omega)]
          rw [← eu, ← er]
          exact zz_bp74 hm l1 l3 hx hy hi hj hne
        · have eu : ml_run x i j = -(x j - x i) := by unfold ml_run; rw [if_neg (by omega)]; omega
          have er : ml_rise x y i j = -(y j - y i) := by unfold ml_rise; rw [if_neg (by omega)]; omega
          rw [← eu, ← er]
          exact zz_bp74 hm l1 l3 hx hy hi hj hne
theorem i_vc_throughTop {k : Nat} {u : SX} {v : SY} (I : i_Rel k u v) (hk : k + 3 ≤ 1536) (v1 : Int32) : wpX_throughTop (fun r u' => wpY_throughTop (fun r' v' => r' = r ∧ i_Rel (k + 3) u' v') v v1) u v1 := by
  refine zz_el (P := fun u v => wpX_throughTop (fun r u' => wpY_throughTop (fun r' v' => r' = r ∧ i_Rel (k + 3) u' v') v v1) u v1) ?_ I
  intro m l x y fd ft fb sc tb ow st sb gt gb fo hm l1 l3 hx hy
  have bad : (v1 < 0 ∨ nI m ≤ v1) → wpX_throughTop (fun r u' => wpY_throughTop (fun r' v' => r' = r ∧ i_Rel (k + 3) u' v') (nI m, ml_i l, gt, gb, fo, ml_a x, ml_a y) v1) (nI m, ml_i l, fd, ft, fb, sc, ml_a x, ml_a y, tb, ow, st, sb) v1 := by
    intro hb
    unfold wpX_throughTop wpY_throughTop
    dsimp only
    exact zz_xp0 hb (br_t rfl (zz_yp0 hb (br_t rfl ⟨rfl, zz_mk hm l1 l3 hx hy⟩)))
  rcases pk_ix v1 (show m < 2 ^ 31 by omega) with h | h | ⟨i, hi, rfl⟩
  · exact bad (Or.inl h)
  · exact bad (Or.inr h)
  · unfold wpX_throughTop wpY_throughTop
    dsimp only
    refine zz_xp1 hm hi (br_f (by decide) (wl_xthr hm (by omega) l1 l3 hx hy (fun t b sc' st' sb' h1 h2 h3 h4 => ?_)))
    refine zz_yp1 hm hi (br_f (by decide) (wl_ythr hm hi l1 l3 hx hy (fun t' b' fo' g1 g2 g3 g4 => ?_)))
    refine wl_upper (by omega) g4 g3 ⟨?_, zz_mk hm l1 l3 hx hy⟩
    rw [lN_i, (zz_tlow h1 g1 h3 g3).1]
theorem i_vc_throughBottom {k : Nat} {u : SX} {v : SY} (I : i_Rel k u v) (hk : k + 3 ≤ 1536) (v1 : Int32) : wpX_throughBottom (fun r u' => wpY_throughBottom (fun r' v' => r' = r ∧ i_Rel (k + 3) u' v') v v1) u v1 := by
  refine zz_el (P := fun u v => wpX_throughBottom (fun r u' => wpY_throughBottom (fun r' v' => r' = r ∧ i_Rel (k + 3) u' v') v v1) u v1) ?_ I
  intro m l x y fd ft fb sc tb ow st sb gt gb fo hm l1 l3 hx hy
  have bad : (v1 < 0 ∨ nI m ≤ v1) → wpX_throughBottom (fun r u' => wpY_throughBottom (fun r' v' => r' = r ∧ i_Rel (k + 3) u' v') (nI m, ml_i l, gt, gb, fo, ml_a x, ml_a y) v1) (nI m, ml_i l, fd, ft, fb, sc, ml_a x, ml_a y, tb, ow, st, sb) v1 := by
    intro hb
    unfold wpX_throughBottom wpY_throughBottom
    dsimp only
    exact zz_xp0 hb (br_t rfl (zz_yp0 hb (br_t rfl ⟨rfl, zz_mk hm l1 l3 hx hy⟩)))
  rcases pk_ix v1 (show m < 2 ^ 31 by omega) with h | h | ⟨i, hi, rfl⟩
  · exact bad (Or.inl h)
  · exact bad (Or.inr h)
  · unfold wpX_throughBottom wpY_throughBottom
    dsimp only
    refine zz_xp1 hm hi (br_f (by decide) (wl_xthr hm (by omega) l1 l3 hx hy (fun t b sc' st' sb' h1 h2 h3 h4 => ?_)))
    refine zz_yp1 hm hi (br_f (by decide) (wl_ythr hm hi l1 l3 hx hy (fun t' b' fo' g1 g2 g3 g4 => ?_)))
    refine wl_lower (by omega) g4 g3 ⟨?_, zz_mk hm l1 l3 hx hy⟩
    rw [lN_i, (zz_tlow h1 g1 h3 g3).2]
theorem i_vc_points {k : Nat} {u : SX} {v : SY} (I : i_Rel k u v) (hk : k + 3 ≤ 1536) : wpX_points (fun r => wpY_points (fun r' => r' = r ∧ i_Rel (k + 3) u v) v) u := by
  refine zz_el (P := fun u v => wpX_points (fun r => wpY_points (fun r' => r' = r ∧ i_Rel (k + 3) u v) v) u) ?_ I
  intro m l x y fd ft fb sc tb ow st sb gt gb fo hm l1 l3 hx hy
  exact ⟨rfl, zz_mk hm l1 l3 hx hy⟩
end
