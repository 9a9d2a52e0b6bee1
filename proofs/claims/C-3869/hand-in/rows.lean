section
/-! numbers: sd_i, sd_l are the ring maps from the integers -/
def sd_i (z : Int) : Int32 := Int32.ofInt z
def sd_l (z : Int) : Int64 := Int64.ofInt z
theorem sd_iN (n : Nat) : nI n = sd_i (n : Int) := Int32.ofInt_eq_ofNat.symm
theorem sd_iT {z : Int} (h1 : -2147483648 ≤ z) (h2 : z < 2147483648) : (sd_i z).toInt = z :=
  Int32.toInt_ofInt_of_le (by omega) (by omega)
theorem sd_lT {z : Int} (h1 : -9223372036854775808 ≤ z) (h2 : z < 9223372036854775808) : (sd_l z).toInt = z :=
  Int64.toInt_ofInt_of_le (by omega) (by omega)
theorem sd_ia (a b : Int) : sd_i a + sd_i b = sd_i (a + b) := (Int32.ofInt_add a b).symm
theorem sd_is (a b : Int) : sd_i a - sd_i b = sd_i (a - b) := (Int32.ofInt_sub a b).symm
theorem sd_im (a b : Int) : sd_i a * sd_i b = sd_i (a * b) := (Int32.ofInt_mul a b).symm
theorem sd_in (a : Int) : -sd_i a = sd_i (-a) := (Int32.ofInt_neg a).symm
theorem sd_la (a b : Int) : sd_l a + sd_l b = sd_l (a + b) := (Int64.ofInt_add a b).symm
theorem sd_ls (a b : Int) : sd_l a - sd_l b = sd_l (a - b) := (Int64.ofInt_sub a b).symm
theorem sd_lm (a b : Int) : sd_l a * sd_l b = sd_l (a * b) := (Int64.ofInt_mul a b).symm
theorem sd_ln (a : Int) : -sd_l a = sd_l (-a) := (Int64.ofInt_neg a).symm
theorem sd_io (x : Int32) : sd_i x.toInt = x := Int32.ofInt_toInt x
theorem sd_lo (x : Int64) : sd_l x.toInt = x := Int64.ofInt_toInt x
theorem sd_il {z : Int} (h1 : -2147483648 ≤ z) (h2 : z < 2147483648) : (sd_i z).toInt64 = sd_l z := by
  have h : (sd_i z).toInt64 = sd_l (sd_i z).toInt := rfl
  rw [h, sd_iT h1 h2]
theorem sd_li (z : Int) : (sd_l z).toInt32 = sd_i z := Int64.toInt32_ofInt
theorem sd_iinj {a b : Int} (h : sd_i a = sd_i b) (h1 : -2147483648 ≤ a := by omega) (h2 : a < 2147483648 := by omega)
    (h3 : -2147483648 ≤ b := by omega) (h4 : b < 2147483648 := by omega) : a = b := by
  have e := congrArg Int32.toInt h
  rwa [sd_iT h1 h2, sd_iT h3 h4] at e
theorem sd_ble {x y : Int32} {A B : Prop} (a b : Int) (hx : x = sd_i a) (hy : y = sd_i b) (f : a ≤ b → A) (g : b < a → B)
    (h1 : -2147483648 ≤ a := by omega) (h2 : a < 2147483648 := by omega) (h3 : -2147483648 ≤ b := by omega)
    (h4 : b < 2147483648 := by omega) : (x ≤ y → A) ∧ (¬ x ≤ y → B) := by
  have e : x ≤ y ↔ a ≤ b := by rw [hx, hy, Int32.le_iff_toInt_le, sd_iT h1 h2, sd_iT h3 h4]
  exact ⟨fun h => f (e.mp h), fun h => g (Int.not_le.mp fun z => h (e.mpr z))⟩
theorem sd_blt {x y : Int32} {A B : Prop} (a b : Int) (hx : x = sd_i a) (hy : y = sd_i b) (f : a < b → A) (g : b ≤ a → B)
    (h1 : -2147483648 ≤ a := by omega) (h2 : a < 2147483648 := by omega) (h3 : -2147483648 ≤ b := by omega)
    (h4 : b < 2147483648 := by omega) : (x < y → A) ∧ (¬ x < y → B) := by
  have e : x < y ↔ a < b := by rw [hx, hy, Int32.lt_iff_toInt_lt, sd_iT h1 h2, sd_iT h3 h4]
  exact ⟨fun h => f (e.mp h), fun h => g (Int.not_lt.mp fun z => h (e.mpr z))⟩
theorem sd_beq {x y : Int32} {A B : Prop} (a b : Int) (hx : x = sd_i a) (hy : y = sd_i b) (f : a = b → A) (g : ¬ a = b → B)
    (h1 : -2147483648 ≤ a := by omega) (h2 : a < 2147483648 := by omega) (h3 : -2147483648 ≤ b := by omega)
    (h4 : b < 2147483648 := by omega) : (x = y → A) ∧ (¬ x = y → B) := by
  have e : x = y ↔ a = b := by rw [hx, hy, ← Int32.toInt_inj, sd_iT h1 h2, sd_iT h3 h4]
  exact ⟨fun h => f (e.mp h), fun h => g fun z => h (e.mpr z)⟩
theorem sd_Lle {x y : Int64} {A B : Prop} (a b : Int) (hx : x = sd_l a) (hy : y = sd_l b) (f : a ≤ b → A) (g : b < a → B)
    (h1 : -9223372036854775808 ≤ a := by omega) (h2 : a < 9223372036854775808 := by omega) (h3 : -9223372036854775808 ≤ b := by omega)
    (h4 : b < 9223372036854775808 := by omega) : (x ≤ y → A) ∧ (¬ x ≤ y → B) := by
  have e : x ≤ y ↔ a ≤ b := by rw [hx, hy, Int64.le_iff_toInt_le, sd_lT h1 h2, sd_lT h3 h4]
  exact ⟨fun h => f (e.mp h), fun h => g (Int.not_le.mp fun z => h (e.mpr z))⟩
theorem sd_nle {x y : Int32} {A B : Prop} (a b : Nat) (hx : x = nI a) (hy : y = nI b) (f : a ≤ b → A) (g : b < a → B)
    (ha : a < 2147483648 := by omega) (hb : b < 2147483648 := by omega) : (x ≤ y → A) ∧ (¬ x ≤ y → B) := by
  have e : x ≤ y ↔ a ≤ b := by rw [hx, hy]; exact nI_leI ha hb
  exact ⟨fun h => f (e.mp h), fun h => g (Nat.not_le.mp fun z => h (e.mpr z))⟩
theorem sd_neq {x y : Int32} {A B : Prop} (a b : Nat) (hx : x = nI a) (hy : y = nI b) (f : a = b → A) (g : ¬ a = b → B)
    (ha : a < 2147483648 := by omega) (hb : b < 2147483648 := by omega) : (x = y → A) ∧ (¬ x = y → B) := by
  have e : x = y ↔ a = b := by rw [hx, hy]; exact nI_eq ha hb
  exact ⟨fun h => f (e.mp h), fun h => g fun z => h (e.mpr z)⟩
theorem sd_cl {n : Nat} (h : n < 2147483648) : (nI n).toNatClampNeg = n := nI_clamp h
theorem sd_us {f : Nat → Int32} {k : Nat} {x : Int32} : upd f k x k = x := if_pos rfl
theorem sd_un {f : Nat → Int32} {k j : Nat} {x : Int32} (h : j ≠ k) : upd f k x j = f j := if_neg h
theorem sd_uLs {f : Nat → Int64} {k : Nat} {x : Int64} : vp_updL f k x k = x := if_pos rfl
theorem sd_uLn {f : Nat → Int64} {k j : Nat} {x : Int64} (h : j ≠ k) : vp_updL f k x j = f j := if_neg h
/-- an array updated, at the level of the integers -/
def sd_ud {α : Type} (f : Nat → α) (k : Nat) (x : α) : Nat → α := fun j => if j = k then x else f j
theorem sd_uds {α : Type} {f : Nat → α} {k : Nat} {x : α} : sd_ud f k x k = x := if_pos rfl
theorem sd_udn {α : Type} {f : Nat → α} {k j : Nat} {x : α} (h : j ≠ k) : sd_ud f k x j = f j := if_neg h
theorem sd_uI {n : Nat} {a : Nat → Int32} {R : Nat → Int} {k : Nat} {x : Int32} {z : Int} (h : ∀ i, i < n → a i = sd_i (R i)) (hx : x = sd_i z) :
    ∀ i, i < n → upd a k x i = sd_i (sd_ud R k z i) := by
  intro i hi
  by_cases e : i = k
  · subst e; rw [sd_us, sd_uds]; exact hx
  · rw [sd_un e, sd_udn e]; exact h i hi
theorem sd_uL {n : Nat} {a : Nat → Int64} {R : Nat → Int} {k : Nat} {x : Int64} {z : Int} (h : ∀ i, i < n → a i = sd_l (R i)) (hx : x = sd_l z) :
    ∀ i, i < n → vp_updL a k x i = sd_l (sd_ud R k z i) := by
  intro i hi
  by_cases e : i = k
  · subst e; rw [sd_uLs, sd_uds]; exact hx
  · rw [sd_uLn e, sd_udn e]; exact h i hi
theorem sd_uN {n : Nat} {a : Nat → Int32} {R : Nat → Nat} {k : Nat} {x : Int32} {z : Nat} (h : ∀ i, i < n → a i = nI (R i)) (hx : x = nI z) :
    ∀ i, i < n → upd a k x i = nI (sd_ud R k z i) := by
  intro i hi
  by_cases e : i = k
  · subst e; rw [sd_us, sd_uds]; exact hx
  · rw [sd_un e, sd_udn e]; exact h i hi
theorem sd_byte : ∀ n, n < 100 → vp_nar .byte (nI n).toInt8.toInt32 = nI n := by
  intro n hn
  rw [vp_nar_byte]
  have h : ∀ n, n < 100 → (nI n).toInt8.toInt32.toInt8.toInt32 = nI n := by decide +kernel
  exact h n hn
end
section
/-! finite sums of integers -/
def sd_sm (f : Nat → Int) : Nat → Int
  | 0 => 0
  | n + 1 => sd_sm f n + f n
theorem sd_sm_c {f g : Nat → Int} : ∀ {n : Nat}, (∀ i, i < n → f i = g i) → sd_sm f n = sd_sm g n
  | 0, _ => rfl
  | n + 1, h => by
    show sd_sm f n + f n = sd_sm g n + g n
    rw [sd_sm_c (fun i hi => h i (Nat.lt_succ_of_lt hi)), h n (Nat.lt_succ_self n)]
theorem sd_sm_add (f g : Nat → Int) : ∀ n : Nat, sd_sm (fun i => f i + g i) n = sd_sm f n + sd_sm g n
  | 0 => rfl
  | n + 1 => by
    show sd_sm (fun i => f i + g i) n + (f n + g n) = (sd_sm f n + f n) + (sd_sm g n + g n)
    rw [sd_sm_add f g n]; omega
theorem sd_sm_sub (f g : Nat → Int) : ∀ n : Nat, sd_sm (fun i => f i - g i) n = sd_sm f n - sd_sm g n
  | 0 => rfl
  | n + 1 => by
    show sd_sm (fun i => f i - g i) n + (f n - g n) = (sd_sm f n + f n) - (sd_sm g n + g n)
    rw [sd_sm_sub f g n]; omega
theorem sd_sm_mul (c : Int) (f : Nat → Int) : ∀ n : Nat, sd_sm (fun i => c * f i) n = c * sd_sm f n
  | 0 => (Int.mul_zero c).symm
  | n + 1 => by
    show sd_sm (fun i => c * f i) n + c * f n = c * (sd_sm f n + f n)
    rw [sd_sm_mul c f n, Int.mul_add]
theorem sd_sm_le {f g : Nat → Int} : ∀ {n : Nat}, (∀ i, i < n → f i ≤ g i) → sd_sm f n ≤ sd_sm g n
  | 0, _ => Int.le_refl 0
  | n + 1, h => Int.add_le_add (sd_sm_le (fun i hi => h i (Nat.lt_succ_of_lt hi))) (h n (Nat.lt_succ_self n))
theorem sd_sm_0 : ∀ n : Nat, sd_sm (fun _ => 0) n = 0
  | 0 => rfl
  | n + 1 => by
    show sd_sm (fun _ => 0) n + 0 = 0
    rw [sd_sm_0 n]; rfl
theorem sd_sm_nn {f : Nat → Int} {n : Nat} (h : ∀ i, i < n → 0 ≤ f i) : 0 ≤ sd_sm f n := by
  rw [← sd_sm_0 n]; exact sd_sm_le h
theorem sd_sm_one {f : Nat → Int} : ∀ {n : Nat}, (∀ i, i < n → 0 ≤ f i) → ∀ j, j < n → f j ≤ sd_sm f n
  | 0, _, j, hj => absurd hj (Nat.not_lt_zero j)
  | n + 1, h, j, hj => by
    show f j ≤ sd_sm f n + f n
    have h1 : 0 ≤ sd_sm f n := sd_sm_nn fun i hi => h i (Nat.lt_succ_of_lt hi)
    have h2 := h n (Nat.lt_succ_self n)
    by_cases e : j = n
    · subst e; omega
    · have h3 := sd_sm_one (fun i hi => h i (Nat.lt_succ_of_lt hi)) j (by omega)
      omega
/-- one place changes -/
theorem sd_sm_u {f g : Nat → Int} : ∀ {n j : Nat}, j < n → (∀ i, i < n → i ≠ j → g i = f i) → sd_sm g n = sd_sm f n + (g j - f j)
  | 0, j, hj, _ => absurd hj (Nat.not_lt_zero j)
  | n + 1, j, hj, h => by
    show sd_sm g n + g n = sd_sm f n + f n + (g j - f j)
    by_cases e : j = n
    · subst e
      rw [sd_sm_c (fun i hi => h i (Nat.lt_succ_of_lt hi) (by omega))]; omega
    · rw [sd_sm_u (n := n) (j := j) (by omega) (fun i hi => h i (Nat.lt_succ_of_lt hi)), h n (Nat.lt_succ_self n) (fun z => e z.symm)]
      omega
/-- two places change -/
theorem sd_sm_u2 {f g : Nat → Int} {n j l : Nat} (hj : j < n) (hl : l < n) (hjl : j ≠ l) (h : ∀ i, i < n → i ≠ j → i ≠ l → g i = f i) :
    sd_sm g n = sd_sm f n + (g j - f j) + (g l - f l) := by
  have h1 := sd_sm_u (f := f) (g := fun i => if i = j then g j else f i) hj (fun i _ e => if_neg e)
  have h2 := sd_sm_u (f := fun i => if i = j then g j else f i) (g := g) hl (fun i hi e => by
    by_cases z : i = j
    · subst z; exact (if_pos rfl).symm
    · exact (h i hi z e).trans (if_neg z).symm)
  have e1 : (if j = j then g j else f j) = g j := if_pos rfl
  have e2 : (if l = j then g j else f l) = f l := if_neg (fun z => hjl z.symm)
  have h1' : sd_sm (fun i => if i = j then g j else f i) n = sd_sm f n + ((if j = j then g j else f j) - f j) := h1
  have h2' : sd_sm g n = sd_sm (fun i => if i = j then g j else f i) n + (g l - (if l = j then g j else f l)) := h2
  rw [e1] at h1'
  rw [e2, h1'] at h2'
  exact h2'
theorem sd_sm_swap (φ : Nat → Int) (g : Nat → Nat → Int) (P : Nat) : ∀ K : Nat,
    sd_sm (fun p => φ p * sd_sm (fun k => g k p) K) P = sd_sm (fun k => sd_sm (fun p => φ p * g k p) P) K
  | 0 => by
    show sd_sm (fun p => φ p * 0) P = 0
    exact (sd_sm_c (g := fun _ => 0) fun i _ => Int.mul_zero _).trans (sd_sm_0 P)
  | K + 1 => by
    show sd_sm (fun p => φ p * (sd_sm (fun k => g k p) K + g K p)) P = sd_sm (fun k => sd_sm (fun p => φ p * g k p) P) K + sd_sm (fun p => φ p * g K p) P
    rw [← sd_sm_swap φ g P K, ← sd_sm_add]
    exact sd_sm_c fun i _ => Int.mul_add _ _ _
/-- the sum picks one place -/
theorem sd_sm_pick (φ : Nat → Int) (f : Nat) (x : Int) : ∀ n : Nat, f < n → sd_sm (fun p => φ p * (if f = p then x else 0)) n = φ f * x := by
  intro n hf
  have h := sd_sm_u (f := fun _ => 0) (g := fun p => φ p * (if f = p then x else 0)) hf (fun i _ e => by
    show φ i * (if f = i then x else 0) = 0
    rw [if_neg (fun z => e z.symm)]; exact Int.mul_zero _)
  rw [h, sd_sm_0]
  show 0 + (φ f * (if f = f then x else 0) - 0) = φ f * x
  rw [if_pos rfl]; omega
end
section
/-! flows on seven lines between five places -/
def sd_ox (fm tt : Nat → Nat) (x : Nat → Int) (p : Nat) : Int :=
  sd_sm (fun k => (if fm k = p then x k else 0) - (if tt k = p then x k else 0)) 7
def sd_Fe (fm tt : Nat → Nat) (c b x : Nat → Int) : Prop :=
  (∀ k, k < 7 → 0 ≤ x k ∧ x k ≤ c k) ∧ ∀ p, p < 5 → sd_ox fm tt x p = b p
def sd_ct (W x : Nat → Int) : Int := sd_sm (fun k => W k * x k) 7
theorem sd_ct_c {W x y : Nat → Int} (h : ∀ k, k < 7 → x k = y k) : sd_ct W x = sd_ct W y :=
  sd_sm_c fun k hk => by rw [h k hk]
theorem sd_ct_cW {W V x : Nat → Int} (h : ∀ k, k < 7 → W k = V k) : sd_ct W x = sd_ct V x :=
  sd_sm_c fun k hk => by rw [h k hk]
theorem sd_ox_c {fm tt : Nat → Nat} {x y : Nat → Int} (h : ∀ k, k < 7 → x k = y k) (p : Nat) : sd_ox fm tt x p = sd_ox fm tt y p :=
  sd_sm_c fun k hk => by rw [h k hk]
theorem sd_Fe_c {fm tt : Nat → Nat} {c b x y : Nat → Int} (h : ∀ k, k < 7 → x k = y k) (F : sd_Fe fm tt c b x) : sd_Fe fm tt c b y :=
  ⟨fun k hk => h k hk ▸ F.1 k hk, fun p hp => (sd_ox_c h p).symm.trans (F.2 p hp)⟩
theorem sd_ox_s {fm tt : Nat → Nat} (hf : ∀ k, k < 7 → fm k < 5 ∧ tt k < 5) (φ x : Nat → Int) :
    sd_sm (fun p => φ p * sd_ox fm tt x p) 5 = sd_sm (fun k => x k * (φ (fm k) - φ (tt k))) 7 := by
  have h := sd_sm_swap φ (fun k p => (if fm k = p then x k else 0) - (if tt k = p then x k else 0)) 5 7
  refine h.trans (sd_sm_c fun k hk => ?_)
  show sd_sm (fun p => φ p * ((if fm k = p then x k else 0) - (if tt k = p then x k else 0))) 5 = x k * (φ (fm k) - φ (tt k))
  have e1 := sd_sm_pick φ (fm k) (x k) 5 (hf k hk).1
  have e2 := sd_sm_pick φ (tt k) (x k) 5 (hf k hk).2
  have e3 := sd_sm_sub (fun p => φ p * (if fm k = p then x k else 0)) (fun p => φ p * (if tt k = p then x k else 0)) 5
  have e4 : sd_sm (fun p => φ p * ((if fm k = p then x k else 0) - (if tt k = p then x k else 0))) 5
      = sd_sm (fun p => φ p * (if fm k = p then x k else 0) - φ p * (if tt k = p then x k else 0)) 5 :=
    sd_sm_c fun p _ => Int.mul_sub _ _ _
  rw [e4, e3, e1, e2, Int.mul_sub, Int.mul_comm (φ (fm k)), Int.mul_comm (φ (tt k))]
/-- a potential shows that x is cheapest -/
theorem sd_opt {fm tt : Nat → Nat} {c b x y W π : Nat → Int} (hf : ∀ k, k < 7 → fm k < 5 ∧ tt k < 5)
    (hx : sd_Fe fm tt c b x) (hy : sd_Fe fm tt c b y)
    (h1 : ∀ k, k < 7 → x k < c k → 0 ≤ W k + π (fm k) - π (tt k))
    (h2 : ∀ k, k < 7 → 0 < x k → W k + π (fm k) - π (tt k) ≤ 0) : sd_ct W x ≤ sd_ct W y := by
  have s0 : 0 ≤ sd_sm (fun k => (W k + π (fm k) - π (tt k)) * (y k - x k)) 7 := by
    refine sd_sm_nn fun k hk => ?_
    show 0 ≤ (W k + π (fm k) - π (tt k)) * (y k - x k)
    have bx := hx.1 k hk
    have bY := hy.1 k hk
    by_cases e : x k < y k
    · exact Int.mul_nonneg (h1 k hk (by omega)) (by omega)
    · by_cases e' : y k < x k
      · exact Int.mul_nonneg_of_nonpos_of_nonpos (h2 k hk (by omega)) (by omega)
      · have e2 : y k - x k = 0 := by omega
        rw [e2, Int.mul_zero]; exact Int.le_refl 0
  have e1 : sd_sm (fun k => (W k + π (fm k) - π (tt k)) * (y k - x k)) 7
      = sd_sm (fun k => (W k * y k - W k * x k) + (y k * (π (fm k) - π (tt k)) - x k * (π (fm k) - π (tt k)))) 7 :=
    sd_sm_c fun k _ => by grind
  rw [e1, sd_sm_add, sd_sm_sub, sd_sm_sub, ← sd_ox_s hf π y, ← sd_ox_s hf π x] at s0
  have e2 : sd_sm (fun p => π p * sd_ox fm tt y p) 5 = sd_sm (fun p => π p * sd_ox fm tt x p) 5 :=
    sd_sm_c fun p hp => by rw [hx.2 p hp, hy.2 p hp]
  rw [e2] at s0
  show sd_sm (fun k => W k * x k) 7 ≤ sd_sm (fun k => W k * y k) 7
  omega
/-- a certificate that nothing is feasible -/
def sd_Ce (fm tt : Nat → Nat) (c b : Nat → Int) : Prop :=
  sd_sm b 5 ≠ 0 ∨ ∃ S : Nat → Int, (∀ v, S v = 0 ∨ S v = 1) ∧
    sd_sm (fun k => c k * (S (fm k) * (1 - S (tt k)))) 7 < sd_sm (fun p => S p * b p) 5
theorem sd_Fe_sum {fm tt : Nat → Nat} (hf : ∀ k, k < 7 → fm k < 5 ∧ tt k < 5) {c b y : Nat → Int} (hy : sd_Fe fm tt c b y) : sd_sm b 5 = 0 := by
  have h := sd_ox_s hf (fun _ => 1) y
  have e1 : sd_sm (fun p => 1 * sd_ox fm tt y p) 5 = sd_sm b 5 := sd_sm_c fun p hp => by rw [hy.2 p hp, Int.one_mul]
  have e2 : sd_sm (fun k => y k * (1 - 1)) 7 = sd_sm (fun _ => 0) 7 := sd_sm_c fun k _ => Int.mul_zero _
  rw [sd_sm_0] at e2
  exact e1.symm.trans (h.trans e2)
theorem sd_Fe_cut {fm tt : Nat → Nat} (hf : ∀ k, k < 7 → fm k < 5 ∧ tt k < 5) {c b y : Nat → Int} (hy : sd_Fe fm tt c b y)
    {S : Nat → Int} (hS : ∀ v, S v = 0 ∨ S v = 1) : sd_sm (fun p => S p * b p) 5 ≤ sd_sm (fun k => c k * (S (fm k) * (1 - S (tt k)))) 7 := by
  have e1 : sd_sm (fun p => S p * b p) 5 = sd_sm (fun p => S p * sd_ox fm tt y p) 5 := sd_sm_c fun p hp => by rw [hy.2 p hp]
  rw [e1, sd_ox_s hf S y]
  refine sd_sm_le fun k hk => ?_
  have bY := hy.1 k hk
  rcases hS (fm k) with e | e <;> rcases hS (tt k) with e' | e' <;> rw [e, e'] <;> omega
theorem sd_Ce_no {fm tt : Nat → Nat} (hf : ∀ k, k < 7 → fm k < 5 ∧ tt k < 5) {c b y : Nat → Int} (hc : sd_Ce fm tt c b) : ¬ sd_Fe fm tt c b y := by
  intro hy
  rcases hc with h | ⟨S, hS, h⟩
  · exact h (sd_Fe_sum hf hy)
  · have := sd_Fe_cut hf hy hS
    omega
/-- the balances with n more at p and n less at q -/
def sd_sh (b : Nat → Int) (p q : Nat) (n : Int) : Nat → Int := sd_ud (sd_ud b p (b p + n)) q (b q - n)
theorem sd_sh_sum {b S : Nat → Int} {p q : Nat} (hp : p < 5) (hq : q < 5) (hpq : p ≠ q) (n : Int) :
    sd_sm (fun r => S r * sd_sh b p q n r) 5 = sd_sm (fun r => S r * b r) 5 + n * (S p - S q) := by
  have h := sd_sm_u2 (f := fun r => S r * b r) (g := fun r => S r * sd_sh b p q n r) hp hq hpq (fun i _ e1 e2 => by
    show S i * sd_ud (sd_ud b p (b p + n)) q (b q - n) i = S i * b i
    rw [sd_udn e2, sd_udn e1])
  have e1 : sd_sh b p q n p = b p + n := by
    show sd_ud (sd_ud b p (b p + n)) q (b q - n) p = b p + n
    rw [sd_udn hpq, sd_uds]
  have e2 : sd_sh b p q n q = b q - n := sd_uds
  have h' : sd_sm (fun r => S r * sd_sh b p q n r) 5 = sd_sm (fun r => S r * b r) 5 + (S p * sd_sh b p q n p - S p * b p) + (S q * sd_sh b p q n q - S q * b q) := h
  rw [h', e1, e2]; grind
/-- feasible at 0 and at N: feasible (no certificate) between -/
theorem sd_cvx {fm tt : Nat → Nat} (hf : ∀ k, k < 7 → fm k < 5 ∧ tt k < 5) {c b y z : Nat → Int} {p q : Nat} (hp : p < 5) (hq : q < 5) (hpq : p ≠ q)
    {m N : Int} (h0 : 0 ≤ m) (hm : m ≤ N) (hy : sd_Fe fm tt c b y) (hz : sd_Fe fm tt c (sd_sh b p q N) z) : ¬ sd_Ce fm tt c (sd_sh b p q m) := by
  intro hc
  rcases hc with h | ⟨S, hS, h⟩
  · have e := sd_sh_sum (b := b) (S := fun _ => 1) hp hq hpq m
    have e1 : sd_sm (fun r => 1 * sd_sh b p q m r) 5 = sd_sm (sd_sh b p q m) 5 := sd_sm_c fun r _ => Int.one_mul _
    have e2 : sd_sm (fun r => 1 * b r) 5 = sd_sm b 5 := sd_sm_c fun r _ => Int.one_mul _
    have e3 := sd_Fe_sum hf hy
    apply h
    rw [← e1]
    refine e.trans ?_
    rw [e2, e3]; omega
  · rw [sd_sh_sum hp hq hpq] at h
    have h1 := sd_Fe_cut hf hy hS
    have h2 := sd_Fe_cut hf hz hS
    rw [sd_sh_sum hp hq hpq] at h2
    rcases hS p with e | e <;> rcases hS q with e' | e' <;> rw [e, e'] at h h2 <;> omega
end
section
/-! the arcs: 2k, 2k+1 are line k and its way back; then four for each place -/
def sd_pr (i : Nat) : Nat := if i % 2 = 0 then i + 1 else i - 1
def sd_AF (fm tt : Nat → Nat) (i : Nat) : Nat :=
  if i < 14 then (if i % 2 = 0 then fm (i / 2) else tt (i / 2)) else if i % 4 = 2 then 5 else if i % 4 = 1 then 6 else (i - 14) / 4
def sd_AT (fm tt : Nat → Nat) (i : Nat) : Nat := sd_AF fm tt (sd_pr i)
def sd_AW (W : Nat → Int) (i : Nat) : Int := if i < 14 then (if i % 2 = 0 then W (i / 2) else -W (i / 2)) else 0
theorem sd_pr_pr (i : Nat) : sd_pr (sd_pr i) = i := by
  unfold sd_pr
  by_cases h : i % 2 = 0
  · rw [if_pos h, if_neg (by omega)]; omega
  · rw [if_neg h, if_pos (by omega)]; omega
theorem sd_pr_lt {i : Nat} (h : i < 34) : sd_pr i < 34 := by
  unfold sd_pr
  by_cases e : i % 2 = 0
  · rw [if_pos e]; omega
  · rw [if_neg e]; omega
theorem sd_pr_ne (i : Nat) : sd_pr i ≠ i := by
  unfold sd_pr
  by_cases e : i % 2 = 0
  · rw [if_pos e]; omega
  · rw [if_neg e]; omega
theorem sd_AF_pr (fm tt : Nat → Nat) (i : Nat) : sd_AF fm tt (sd_pr i) = sd_AT fm tt i := rfl
theorem sd_AT_pr (fm tt : Nat → Nat) (i : Nat) : sd_AT fm tt (sd_pr i) = sd_AF fm tt i := by
  show sd_AF fm tt (sd_pr (sd_pr i)) = _
  rw [sd_pr_pr]
theorem sd_AW_pr (W : Nat → Int) (i : Nat) : sd_AW W (sd_pr i) = -sd_AW W i := by
  unfold sd_AW sd_pr
  by_cases e : i % 2 = 0
  · rw [if_pos e]
    by_cases h : i < 14
    · have e2 : (i + 1) / 2 = i / 2 := by omega
      rw [if_pos (by omega), if_neg (by omega), if_pos h, if_pos e, e2]
    · rw [if_neg (by omega), if_neg h]; rfl
  · rw [if_neg e]
    by_cases h : i < 14
    · have e2 : (i - 1) / 2 = i / 2 := by omega
      rw [if_pos (by omega), if_pos (by omega), if_pos h, if_neg e, e2]; omega
    · rw [if_neg (by omega), if_neg h]; rfl
theorem sd_AF_lt {fm tt : Nat → Nat} (hf : ∀ k, k < 7 → fm k < 5 ∧ tt k < 5) {i : Nat} (hi : i < 34) : sd_AF fm tt i < 7 := by
  unfold sd_AF
  by_cases h : i < 14
  · rw [if_pos h]
    have := hf (i / 2) (by omega)
    by_cases e : i % 2 = 0
    · rw [if_pos e]; omega
    · rw [if_neg e]; omega
  · rw [if_neg h]
    by_cases e : i % 4 = 2
    · rw [if_pos e]; omega
    · rw [if_neg e]
      by_cases e' : i % 4 = 1
      · rw [if_pos e']; omega
      · rw [if_neg e']; omega
theorem sd_AT_lt {fm tt : Nat → Nat} (hf : ∀ k, k < 7 → fm k < 5 ∧ tt k < 5) {i : Nat} (hi : i < 34) : sd_AT fm tt i < 7 :=
  sd_AF_lt hf (sd_pr_lt hi)
theorem sd_AF_e (fm tt : Nat → Nat) {k : Nat} (h : k < 7) : sd_AF fm tt (2 * k) = fm k := by
  unfold sd_AF
  have e : 2 * k / 2 = k := by omega
  rw [if_pos (by omega), if_pos (by omega), e]
theorem sd_AF_o (fm tt : Nat → Nat) {k : Nat} (h : k < 7) : sd_AF fm tt (2 * k + 1) = tt k := by
  unfold sd_AF
  have e : (2 * k + 1) / 2 = k := by omega
  rw [if_pos (by omega), if_neg (by omega), e]
theorem sd_pr_e (k : Nat) : sd_pr (2 * k) = 2 * k + 1 := if_pos (by omega)
theorem sd_pr_o (k : Nat) : sd_pr (2 * k + 1) = 2 * k := by
  unfold sd_pr
  rw [if_neg (by omega)]; omega
theorem sd_AW_e (W : Nat → Int) {k : Nat} (h : k < 7) : sd_AW W (2 * k) = W k := by
  unfold sd_AW
  have e : 2 * k / 2 = k := by omega
  rw [if_pos (by omega), if_pos (by omega), e]
theorem sd_AW_o (W : Nat → Int) {k : Nat} (h : k < 7) : sd_AW W (2 * k + 1) = -W k := by
  unfold sd_AW
  have e : (2 * k + 1) / 2 = k := by omega
  rw [if_pos (by omega), if_neg (by omega), e]
theorem sd_AF_0 (fm tt : Nat → Nat) {p : Nat} : sd_AF fm tt (14 + 4 * p) = 5 := by
  unfold sd_AF
  rw [if_neg (by omega), if_pos (by omega)]
theorem sd_AF_1 (fm tt : Nat → Nat) {p : Nat} : sd_AF fm tt (15 + 4 * p) = p := by
  unfold sd_AF
  rw [if_neg (by omega), if_neg (by omega), if_neg (by omega)]; omega
theorem sd_AF_2 (fm tt : Nat → Nat) {p : Nat} : sd_AF fm tt (16 + 4 * p) = p := by
  unfold sd_AF
  rw [if_neg (by omega), if_neg (by omega), if_neg (by omega)]; omega
theorem sd_AF_3 (fm tt : Nat → Nat) {p : Nat} : sd_AF fm tt (17 + 4 * p) = 6 := by
  unfold sd_AF
  rw [if_neg (by omega), if_neg (by omega), if_pos (by omega)]
theorem sd_pr_0 (p : Nat) : sd_pr (14 + 4 * p) = 15 + 4 * p := by
  unfold sd_pr
  rw [if_pos (by omega)]; omega
theorem sd_pr_1 (p : Nat) : sd_pr (15 + 4 * p) = 14 + 4 * p := by
  unfold sd_pr
  rw [if_neg (by omega)]; omega
theorem sd_pr_2 (p : Nat) : sd_pr (16 + 4 * p) = 17 + 4 * p := by
  unfold sd_pr
  rw [if_pos (by omega)]; omega
theorem sd_pr_3 (p : Nat) : sd_pr (17 + 4 * p) = 16 + 4 * p := by
  unfold sd_pr
  rw [if_neg (by omega)]; omega
theorem sd_AW_h (W : Nat → Int) {i : Nat} (h : 14 ≤ i) : sd_AW W i = 0 := if_neg (by omega)
/-- an arc is one of six kinds -/
theorem sd_kind {i : Nat} (h : i < 34) : (∃ k, k < 7 ∧ i = 2 * k) ∨ (∃ k, k < 7 ∧ i = 2 * k + 1) ∨ (∃ p, p < 5 ∧ i = 14 + 4 * p) ∨
    (∃ p, p < 5 ∧ i = 15 + 4 * p) ∨ (∃ p, p < 5 ∧ i = 16 + 4 * p) ∨ (∃ p, p < 5 ∧ i = 17 + 4 * p) := by
  by_cases h1 : i < 14
  · by_cases e : i % 2 = 0
    · exact Or.inl ⟨i / 2, by omega, by omega⟩
    · exact Or.inr (Or.inl ⟨i / 2, by omega, by omega⟩)
  · by_cases e0 : i % 4 = 2
    · exact Or.inr (Or.inr (Or.inl ⟨(i - 14) / 4, by omega, by omega⟩))
    · by_cases e1 : i % 4 = 3
      · exact Or.inr (Or.inr (Or.inr (Or.inl ⟨(i - 14) / 4, by omega, by omega⟩)))
      · by_cases e2 : i % 4 = 0
        · exact Or.inr (Or.inr (Or.inr (Or.inr (Or.inl ⟨(i - 14) / 4, by omega, by omega⟩))))
        · exact Or.inr (Or.inr (Or.inr (Or.inr (Or.inr ⟨(i - 14) / 4, by omega, by omega⟩))))
end
section
/-! Bellman and Ford: 7 nodes, 34 arcs, node 5 the source; far is 2^60 -/
def sd_Pot (fr to : Nat → Nat) (w R π : Nat → Int) : Prop := ∀ i, i < 34 → 0 < R i → π (to i) ≤ w i + π (fr i)
/-- the chain of chosen arcs from v back to the source has n arcs -/
def sd_ch (fr B : Nat → Nat) : Nat → Nat → Prop
  | 0, v => v = 5
  | n + 1, v => v ≠ 5 ∧ sd_ch fr B n (fr (B v))
/-- walks of at most r arcs from the source to v, of weight c -/
def sd_P (fr to : Nat → Nat) (w R : Nat → Int) : Nat → Nat → Int → Prop
  | 0, v, c => v = 5 ∧ c = 0
  | r + 1, v, c => sd_P fr to w R r v c ∨ ∃ i, i < 34 ∧ 0 < R i ∧ to i = v ∧ sd_P fr to w R r (fr i) (c - w i)
/-- v is reached, by the arc B v -/
def sd_pd (fr to : Nat → Nat) (w R : Nat → Int) (D : Nat → Int) (B : Nat → Nat) (v : Nat) : Prop :=
  B v < 34 ∧ to (B v) = v ∧ 0 < R (B v) ∧ D (fr (B v)) < 1152921504606846976 ∧ D (fr (B v)) + w (B v) ≤ D v
def sd_BF (fr to : Nat → Nat) (w R π : Nat → Int) (L : Int) (D : Nat → Int) (B : Nat → Nat) : Prop :=
  D 5 = 0 ∧ (∀ v, v < 7 → D v = 1152921504606846976 ∨ (-L ≤ D v ∧ D v ≤ L)) ∧
  (∀ v, v < 7 → D v < 1152921504606846976 → π v - π 5 ≤ D v) ∧
  (∀ v, v < 7 → D v < 1152921504606846976 → v ≠ 5 → sd_pd fr to w R D B v) ∧
  (∀ v, v < 7 → D v < 1152921504606846976 → ∃ n, sd_ch fr B n v)
theorem sd_BF_mono {fr to : Nat → Nat} {w R π : Nat → Int} {L L' : Int} {D : Nat → Int} {B : Nat → Nat} (h : L ≤ L') (I : sd_BF fr to w R π L D B) :
    sd_BF fr to w R π L' D B := by
  refine ⟨I.1, fun v hv => ?_, I.2.2⟩
  rcases I.2.1 v hv with e | ⟨e1, e2⟩
  · exact Or.inl e
  · exact Or.inr ⟨by omega, by omega⟩
theorem sd_ch_uniq {fr B : Nat → Nat} : ∀ {n m v : Nat}, sd_ch fr B n v → sd_ch fr B m v → n = m
  | 0, 0, _, _, _ => rfl
  | 0, _ + 1, _, h, h' => absurd h h'.1
  | _ + 1, 0, _, h, h' => absurd h' h.1
  | n + 1, m + 1, v, h, h' => congrArg (· + 1) (sd_ch_uniq (n := n) (m := m) h.2 h'.2)
section
variable {fr to : Nat → Nat} {w R π : Nat → Int} {L : Int} {D : Nat → Int} {B : Nat → Nat}
theorem sd_ch_keep (hN : ∀ i, i < 34 → fr i < 7 ∧ to i < 7) (hP : sd_Pot fr to w R π) (I : sd_BF fr to w R π L D B) {b : Nat} {B' : Nat → Nat} (hB : ∀ v, v ≠ b → B' v = B v) :
    ∀ n v, v < 7 → D v < 1152921504606846976 → D v - π v < D b - π b → sd_ch fr B n v → sd_ch fr B' n v
  | 0, _, _, _, _, h => h
  | n + 1, v, hv, hr, hlt, h => by
    have hvb : v ≠ b := fun e => by rw [e] at hlt; omega
    obtain ⟨p1, p2, p3, p4, p5⟩ := I.2.2.2.1 v hv hr h.1
    have hpot := hP (B v) p1 p3
    rw [p2] at hpot
    refine ⟨h.1, ?_⟩
    rw [hB v hvb]
    exact sd_ch_keep hN hP I hB n (fr (B v)) (hN _ p1).1 p4 (by omega) h.2
/-- one arc is used -/
theorem sd_BF_relax (hN : ∀ i, i < 34 → fr i < 7 ∧ to i < 7) (hP : sd_Pot fr to w R π) (I : sd_BF fr to w R π L D B) {M : Int} {i : Nat} (hi : i < 34) (hR : 0 < R i)
    (hM : -M ≤ w i ∧ w i ≤ M) (hL0 : 0 ≤ L) (hL : L + M < 1152921504606846976) (hr : D (fr i) < 1152921504606846976) (hlt : D (fr i) + w i < D (to i)) :
    sd_BF fr to w R π (L + M) (sd_ud D (to i) (D (fr i) + w i)) (sd_ud B (to i) i) := by
  have hb := hN i hi
  have hpot := hP i hi hR
  have hlb := I.2.2.1 (fr i) hb.1 hr
  have hbd : -L ≤ D (fr i) ∧ D (fr i) ≤ L := by
    rcases I.2.1 (fr i) hb.1 with e | e
    · omega
    · exact e
  have hb5 : to i ≠ 5 := by
    intro e
    rw [e] at hlt hpot
    have := I.1
    omega
  have hab : fr i ≠ to i := by
    intro e
    rw [← e] at hlt hpot
    omega
  have hD : ∀ v, sd_ud D (to i) (D (fr i) + w i) v ≤ D v := by
    intro v
    by_cases e : v = to i
    · rw [e, sd_uds]; omega
    · rw [sd_udn e]; exact Int.le_refl _
  refine ⟨?_, ?_, ?_, ?_, ?_⟩
  · rw [sd_udn (fun e => hb5 e.symm)]; exact I.1
  · intro v hv
    by_cases e : v = to i
    · rw [e, sd_uds]; exact Or.inr ⟨by omega, by omega⟩
    · rw [sd_udn e]
      rcases I.2.1 v hv with e' | ⟨e1, e2⟩
      · exact Or.inl e'
      · exact Or.inr ⟨by omega, by omega⟩
  · intro v hv hrv
    by_cases e : v = to i
    · rw [e, sd_uds]; omega
    · rw [sd_udn e] at hrv ⊢
      exact I.2.2.1 v hv hrv
  · intro v hv hrv hv5
    by_cases e : v = to i
    · have e1 : sd_ud B (to i) i v = i := by rw [e, sd_uds]
      unfold sd_pd
      rw [e1, sd_udn hab, e, sd_uds]
      exact ⟨hi, rfl, hR, hr, Int.le_refl _⟩
    · rw [sd_udn e] at hrv
      obtain ⟨p1, p2, p3, p4, p5⟩ := I.2.2.2.1 v hv hrv hv5
      have h1 := hD (fr (B v))
      unfold sd_pd
      rw [sd_udn e, sd_udn (f := D) e]
      exact ⟨p1, p2, p3, by omega, by omega⟩
  · have ha : ∃ n, sd_ch fr (sd_ud B (to i) i) n (fr i) := by
      obtain ⟨n, hn⟩ := I.2.2.2.2 (fr i) hb.1 hr
      exact ⟨n, sd_ch_keep hN hP I (b := to i) (fun v e => sd_udn e) n (fr i) hb.1 hr (by omega) hn⟩
    obtain ⟨na, hna⟩ := ha
    have key : ∀ n v, v < 7 → (v = to i ∨ D v < 1152921504606846976) → (v ≠ to i → sd_ch fr B n v) → ∃ m, sd_ch fr (sd_ud B (to i) i) m v := by
      intro n
      induction n with
      | zero =>
        intro v hv _ hc
        by_cases e : v = to i
        · refine ⟨na + 1, by rw [e]; exact hb5, ?_⟩
          rw [e, sd_uds]; exact hna
        · exact ⟨0, hc e⟩
      | succ n ih =>
        intro v hv hrv hc
        by_cases e : v = to i
        · refine ⟨na + 1, by rw [e]; exact hb5, ?_⟩
          rw [e, sd_uds]; exact hna
        · have hrv' : D v < 1152921504606846976 := by
            rcases hrv with z | z
            · exact absurd z e
            · exact z
          have hc' := hc e
          obtain ⟨p1, p2, p3, p4, p5⟩ := I.2.2.2.1 v hv hrv' hc'.1
          obtain ⟨m, hm⟩ := ih (fr (B v)) (hN _ p1).1 (Or.inr p4) (fun _ => hc'.2)
          refine ⟨m + 1, hc'.1, ?_⟩
          rw [sd_udn e]; exact hm
    intro v hv hrv
    by_cases e : v = to i
    · exact key 0 v hv (Or.inl e) (fun z => absurd e z)
    · rw [sd_udn e] at hrv
      obtain ⟨n, hn⟩ := I.2.2.2.2 v hv hrv
      exact key n v hv (Or.inr hrv) (fun _ => hn)
theorem sd_P_mono : ∀ {r v : Nat} {c : Int} (k : Nat), sd_P fr to w R r v c → sd_P fr to w R (r + k) v c
  | _, _, _, 0, h => h
  | _, _, _, k + 1, h => Or.inl (sd_P_mono k h)
theorem sd_P_lt (hN : ∀ i, i < 34 → fr i < 7 ∧ to i < 7) : ∀ {r v : Nat} {c : Int}, sd_P fr to w R r v c → v < 7
  | 0, v, c, h => by rw [h.1]; decide
  | r + 1, v, c, h => by
    rcases h with h | ⟨i, hi, _, e, _⟩
    · exact sd_P_lt hN h
    · rw [← e]; exact (hN i hi).2
theorem sd_P_bd {M : Int} (hM0 : 0 ≤ M) (hM : ∀ i, i < 34 → -M ≤ w i ∧ w i ≤ M) : ∀ {r v : Nat} {c : Int}, sd_P fr to w R r v c → c ≤ M * r
  | 0, v, c, h => by rw [h.2]; simp
  | r + 1, v, c, h => by
    have e : M * ((r + 1 : Nat) : Int) = M * r + M := by rw [Int.natCast_add, Int.mul_add]; simp
    rw [e]
    rcases h with h | ⟨i, hi, _, _, h⟩
    · have := sd_P_bd hM0 hM h
      omega
    · have h1 := sd_P_bd hM0 hM h
      have h2 := hM i hi
      omega
theorem sd_ch_walk (hN : ∀ i, i < 34 → fr i < 7 ∧ to i < 7) (I : sd_BF fr to w R π L D B) :
    ∀ n v, v < 7 → D v < 1152921504606846976 → sd_ch fr B n v → ∃ c, c ≤ D v ∧ sd_P fr to w R n v c
  | 0, v, _, _, h => ⟨0, by rw [show v = 5 from h, I.1]; exact Int.le_refl 0, h, rfl⟩
  | n + 1, v, hv, hr, h => by
    obtain ⟨p1, p2, p3, p4, p5⟩ := I.2.2.2.1 v hv hr h.1
    obtain ⟨c, hc, hp⟩ := sd_ch_walk hN I n (fr (B v)) (hN _ p1).1 p4 h.2
    refine ⟨c + w (B v), by omega, Or.inr ⟨B v, p1, p3, p2, ?_⟩⟩
    have e : c + w (B v) - w (B v) = c := by omega
    rw [e]; exact hp
/-- the nodes of a chain -/
def sd_cl1 (fr B : Nat → Nat) : Nat → Nat → List Nat
  | 0, v => [v]
  | n + 1, v => v :: sd_cl1 fr B n (fr (B v))
theorem sd_cl_len : ∀ n v, (sd_cl1 fr B n v).length = n + 1
  | 0, _ => rfl
  | n + 1, v => congrArg (· + 1) (sd_cl_len n (fr (B v)))
theorem sd_cl_ch : ∀ n v, sd_ch fr B n v → ∀ u, u ∈ sd_cl1 fr B n v → ∃ m, m ≤ n ∧ sd_ch fr B m u
  | 0, v, h, u, hu => by
    rw [List.mem_singleton.mp hu]; exact ⟨0, Nat.le_refl 0, h⟩
  | n + 1, v, h, u, hu => by
    rcases List.mem_cons.mp hu with e | e
    · rw [e]; exact ⟨n + 1, Nat.le_refl _, h⟩
    · obtain ⟨m, hm, hc⟩ := sd_cl_ch n (fr (B v)) h.2 u e
      exact ⟨m, by omega, hc⟩
theorem sd_cl_nd : ∀ n v, sd_ch fr B n v → (sd_cl1 fr B n v).Nodup
  | 0, v, _ => List.nodup_cons.mpr ⟨List.not_mem_nil, List.nodup_nil⟩
  | n + 1, v, h => List.nodup_cons.mpr ⟨fun hm => by
      obtain ⟨m, hm', hc⟩ := sd_cl_ch n (fr (B v)) h.2 v hm
      have := sd_ch_uniq h hc
      omega, sd_cl_nd n (fr (B v)) h.2⟩
theorem sd_cl_lt (hN : ∀ i, i < 34 → fr i < 7 ∧ to i < 7) (I : sd_BF fr to w R π L D B) :
    ∀ n v, v < 7 → D v < 1152921504606846976 → sd_ch fr B n v → ∀ u, u ∈ sd_cl1 fr B n v → u < 7
  | 0, v, hv, _, _, u, hu => by rw [List.mem_singleton.mp hu]; exact hv
  | n + 1, v, hv, hr, h, u, hu => by
    obtain ⟨p1, p2, p3, p4, p5⟩ := I.2.2.2.1 v hv hr h.1
    rcases List.mem_cons.mp hu with e | e
    · rw [e]; exact hv
    · exact sd_cl_lt hN I n (fr (B v)) (hN _ p1).1 p4 h.2 u e
end
/-- different numbers below n are at most n -/
theorem sd_pig : ∀ (n : Nat) (l : List Nat), l.Nodup → (∀ u, u ∈ l → u < n) → l.length ≤ n
  | 0, l, _, h => by
    cases l with
    | nil => exact Nat.le_refl 0
    | cons a t => exact absurd (h a (List.mem_cons_self ..)) (Nat.not_lt_zero a)
  | n + 1, l, hn, h => by
    have h1 := sd_pig n (l.erase n) (hn.erase n) (fun u hu => by
      have h2 := h u (List.mem_of_mem_erase hu)
      have h3 : u ≠ n := fun e => by
        rw [e] at hu
        exact hn.not_mem_erase hu
      omega)
    have h4 := @List.length_erase Nat _ _ n l
    by_cases e : n ∈ l
    · rw [if_pos e] at h4; omega
    · rw [if_neg e] at h4; omega
section
variable {fr to : Nat → Nat} {w R π : Nat → Int} {L : Int} {D : Nat → Int} {B : Nat → Nat}
theorem sd_ch_6 (hN : ∀ i, i < 34 → fr i < 7 ∧ to i < 7) (I : sd_BF fr to w R π L D B) {n v : Nat} (hv : v < 7) (hr : D v < 1152921504606846976)
    (h : sd_ch fr B n v) : n ≤ 6 := by
  have h1 := sd_pig 7 _ (sd_cl_nd n v h) (sd_cl_lt hN I n v hv hr h)
  rw [sd_cl_len] at h1
  omega
/-- an arc is satisfied -/
def sd_sat (fr to : Nat → Nat) (w R D : Nat → Int) (i : Nat) : Prop := 0 < R i → D (fr i) < 1152921504606846976 → D (to i) ≤ D (fr i) + w i
/-- round r, at arc j -/
def sd_RI (fr to : Nat → Nat) (w R : Nat → Int) (r j : Nat) (D : Nat → Int) : Prop :=
  (∀ v c, sd_P fr to w R r v c → D v ≤ c) ∧ ∀ i, i < j → 0 < R i → ∀ c, sd_P fr to w R r (fr i) c → D (to i) ≤ c + w i
theorem sd_RI_le {r j : Nat} {D' : Nat → Int} (h : ∀ v, D' v ≤ D v) (I : sd_RI fr to w R r j D) : sd_RI fr to w R r j D' :=
  ⟨fun v c hp => Int.le_trans (h v) (I.1 v c hp), fun i hi hR c hp => Int.le_trans (h _) (I.2 i hi hR c hp)⟩
theorem sd_RI_s {r j : Nat} (I : sd_RI fr to w R r j D) (h : 0 < R j → ∀ c, sd_P fr to w R r (fr j) c → D (to j) ≤ c + w j) : sd_RI fr to w R r (j + 1) D :=
  ⟨I.1, fun i hi hR c hp => by
    by_cases e : i = j
    · subst e; exact h hR c hp
    · exact I.2 i (by omega) hR c hp⟩
theorem sd_RI_end {r : Nat} (I : sd_RI fr to w R r 34 D) : sd_RI fr to w R (r + 1) 0 D := by
  refine ⟨fun v c hp => ?_, fun i hi => absurd hi (Nat.not_lt_zero i)⟩
  rcases hp with hp | ⟨i, hi, hR, e, hp⟩
  · exact I.1 v c hp
  · have h := I.2 i hi hR _ hp
    rw [← e]; omega
/-- after seven rounds every arc is satisfied -/
theorem sd_RI_7 (hN : ∀ i, i < 34 → fr i < 7 ∧ to i < 7) (I : sd_BF fr to w R π L D B) (J : sd_RI fr to w R 7 0 D) : ∀ i, i < 34 → sd_sat fr to w R D i := by
  intro i hi hR hr
  have hb := hN i hi
  obtain ⟨n, hn⟩ := I.2.2.2.2 (fr i) hb.1 hr
  have h6 := sd_ch_6 hN I hb.1 hr hn
  obtain ⟨c, hc, hp⟩ := sd_ch_walk hN I n (fr i) hb.1 hr hn
  have hp6 := sd_P_mono (6 - n) hp
  have e6 : n + (6 - n) = 6 := by omega
  rw [e6] at hp6
  have h7 : sd_P fr to w R 7 (to i) (c + w i) := Or.inr ⟨i, hi, hR, rfl, by
    have e : c + w i - w i = c := by omega
    rw [e]; exact hp6⟩
  have := J.1 _ _ h7
  omega
end
/-- a bound beyond seven numbers -/
theorem sd_big (π : Nat → Int) (K : Int) : ∃ C, ∀ v, v < 7 → K ≤ π v + C := by
  refine ⟨K + sd_sm (fun v => if π v < 0 then -π v else 0) 7, fun v hv => ?_⟩
  have h := sd_sm_one (f := fun v => if π v < 0 then -π v else 0) (n := 7) (fun i _ => by
    show (0 : Int) ≤ if π i < 0 then -π i else 0
    by_cases e : π i < 0
    · rw [if_pos e]; omega
    · rw [if_neg e]; exact Int.le_refl 0) v hv
  have h' : (if π v < 0 then -π v else 0) ≤ sd_sm (fun v => if π v < 0 then -π v else 0) 7 := h
  by_cases e : π v < 0
  · rw [if_pos e] at h'; omega
  · rw [if_neg e] at h'; omega
/-- the distances give the next potential -/
theorem sd_newpot {fr to : Nat → Nat} {w R π : Nat → Int} {L : Int} {D : Nat → Int} {B : Nat → Nat} {M : Int}
    (hN : ∀ i, i < 34 → fr i < 7 ∧ to i < 7) (hP : sd_Pot fr to w R π) (hM : ∀ i, i < 34 → -M ≤ w i ∧ w i ≤ M) (hL : L + M < 1152921504606846976)
    (I : sd_BF fr to w R π L D B) (hS : ∀ i, i < 34 → sd_sat fr to w R D i) :
    ∃ π' : Nat → Int, sd_Pot fr to w R π' ∧ ∀ v, v < 7 → D v < 1152921504606846976 → π' v = D v := by
  obtain ⟨C, hC⟩ := sd_big π (L + M)
  refine ⟨fun v => if D v < 1152921504606846976 then D v else π v + C, ?_, fun v _ h => if_pos h⟩
  intro i hi hR
  have hb := hN i hi
  have hm := hM i hi
  show (if D (to i) < 1152921504606846976 then D (to i) else π (to i) + C) ≤ w i + (if D (fr i) < 1152921504606846976 then D (fr i) else π (fr i) + C)
  by_cases e : D (fr i) < 1152921504606846976
  · have h := hS i hi hR e
    have hb1 := I.2.1 (to i) hb.2
    have hb2 := I.2.1 (fr i) hb.1
    rw [if_pos e]
    by_cases e' : D (to i) < 1152921504606846976
    · rw [if_pos e']; omega
    · omega
  · rw [if_neg e]
    have hp := hP i hi hR
    by_cases e' : D (to i) < 1152921504606846976
    · rw [if_pos e']
      have hc := hC (fr i) hb.1
      have hb1 := I.2.1 (to i) hb.2
      omega
    · rw [if_neg e']; omega
end
section
/-! pushing along the chain -/
def sd_ps (c R : Nat → Int) : Int := sd_sm (fun i => c i * R i) 34
/-- the rooms when a goes along arc i -/
def sd_mv (R : Nat → Int) (i : Nat) (a : Int) : Nat → Int := sd_ud (sd_ud R i (R i - a)) (sd_pr i) (R (sd_pr i) + a)
theorem sd_mv_i {R : Nat → Int} {i : Nat} {a : Int} : sd_mv R i a i = R i - a := by
  unfold sd_mv
  rw [sd_udn (fun e => sd_pr_ne i e.symm), sd_uds]
theorem sd_mv_p {R : Nat → Int} {i : Nat} {a : Int} : sd_mv R i a (sd_pr i) = R (sd_pr i) + a := sd_uds
theorem sd_mv_n {R : Nat → Int} {i j : Nat} {a : Int} (h1 : j ≠ i) (h2 : j ≠ sd_pr i) : sd_mv R i a j = R j := by
  unfold sd_mv
  rw [sd_udn h2, sd_udn h1]
theorem sd_mv_ps (c R : Nat → Int) {i : Nat} (hi : i < 34) (a : Int) : sd_ps c (sd_mv R i a) = sd_ps c R + a * (c (sd_pr i) - c i) := by
  have h := sd_sm_u2 (f := fun j => c j * R j) (g := fun j => c j * sd_mv R i a j) hi (sd_pr_lt hi) (fun e => sd_pr_ne i e.symm) (fun j _ e1 e2 => by
    show c j * sd_mv R i a j = c j * R j
    rw [sd_mv_n e1 e2])
  have h' : sd_ps c (sd_mv R i a) = sd_ps c R + (c i * sd_mv R i a i - c i * R i) + (c (sd_pr i) * sd_mv R i a (sd_pr i) - c (sd_pr i) * R (sd_pr i)) := h
  rw [h', sd_mv_i, sd_mv_p]; grind
theorem sd_mv_pair (R : Nat → Int) (i j : Nat) (a : Int) : sd_mv R i a j + sd_mv R i a (sd_pr j) = R j + R (sd_pr j) := by
  by_cases e1 : j = i
  · subst e1
    rw [sd_mv_i, sd_mv_p]; omega
  · by_cases e2 : j = sd_pr i
    · have e3 : sd_pr j = i := by rw [e2, sd_pr_pr]
      rw [e3, e2, sd_mv_p, sd_mv_i]; omega
    · have e3 : sd_pr j ≠ i := fun z => e2 (by rw [← z, sd_pr_pr])
      have e4 : sd_pr j ≠ sd_pr i := fun z => e1 (by rw [← sd_pr_pr j, z, sd_pr_pr])
      rw [sd_mv_n e1 e2, sd_mv_n e3 e4]
/-- there is room for a along the chain -/
def sd_al (fr B : Nat → Nat) (R : Nat → Int) (a : Int) : Nat → Nat → Prop
  | 0, _ => True
  | n + 1, v => a ≤ R (B v) ∧ sd_al fr B R a n (fr (B v))
/-- what holds of the rooms while a is moved: R0 the first rooms, R the present ones, x the node come to -/
def sd_MI (fr to : Nat → Nat) (w π D : Nat → Int) (B : Nat → Nat) (R0 : Nat → Int) (a : Int) (R : Nat → Int) (x : Nat) : Prop :=
  (∀ i, i < 34 → 0 ≤ R i) ∧ sd_Pot fr to w R π ∧ (∀ j, R j + R (sd_pr j) = R0 j + R0 (sd_pr j)) ∧
  ∀ c φ : Nat → Int, (∀ v, v < 7 → D v < 1152921504606846976 → v ≠ 5 → c (sd_pr (B v)) - c (B v) = φ v - φ (fr (B v))) →
    sd_ps c R = sd_ps c R0 + a * (φ 6 - φ x)
section
variable {fr to : Nat → Nat} {w π D : Nat → Int} {B : Nat → Nat} {R0 R : Nat → Int} {a : Int}
theorem sd_MI_0 (h0 : ∀ i, i < 34 → 0 ≤ R i) (hP : sd_Pot fr to w R π) : sd_MI fr to w π D B R a R 6 :=
  ⟨h0, hP, fun _ => rfl, fun c φ _ => by
    have e : φ 6 - φ 6 = 0 := by omega
    rw [e, Int.mul_zero]; omega⟩
/-- a step along the arc B x -/
theorem sd_MI_s {x : Nat} (hx : x < 7) (hr : D x < 1152921504606846976) (h5 : x ≠ 5) (hB : B x < 34) (hto : to (B x) = x)
    (hpr : ∀ i, i < 34 → fr (sd_pr i) = to i ∧ to (sd_pr i) = fr i ∧ w (sd_pr i) = -w i)
    (hti : w (B x) + π (fr (B x)) = π x) (ha0 : 0 ≤ a) (ha : a ≤ R (B x)) (I : sd_MI fr to w π D B R0 a R x) : sd_MI fr to w π D B R0 a (sd_mv R (B x) a) (fr (B x)) := by
  refine ⟨?_, ?_, ?_, ?_⟩
  · intro i hi
    have h := I.1 i hi
    by_cases e1 : i = B x
    · rw [e1, sd_mv_i]; omega
    · by_cases e2 : i = sd_pr (B x)
      · rw [e2, sd_mv_p]; rw [e2] at h; omega
      · rw [sd_mv_n e1 e2]; exact h
  · intro i hi hR
    by_cases e1 : i = B x
    · rw [e1] at hR ⊢
      rw [sd_mv_i] at hR
      exact I.2.1 (B x) hB (by omega)
    · by_cases e2 : i = sd_pr (B x)
      · have hp := hpr (B x) hB
        rw [e2, hp.1, hp.2.1, hp.2.2, hto]; omega
      · rw [sd_mv_n e1 e2] at hR
        exact I.2.1 i hi hR
  · intro j
    rw [sd_mv_pair]; exact I.2.2.1 j
  · intro c φ hc
    have h1 := I.2.2.2 c φ hc
    have h2 := hc x hx hr h5
    rw [sd_mv_ps c R hB, h1, h2]; grind
/-- the rest of the chain keeps its room -/
theorem sd_al_s {π' : Nat → Int} {L : Int} (hN : ∀ i, i < 34 → fr i < 7 ∧ to i < 7) (I : sd_BF fr to w R0 π' L D B) (ha0 : 0 ≤ a) {x n : Nat} (hB : to (B x) = x) (hx : sd_ch fr B (n + 1) x) :
    ∀ m v, v < 7 → D v < 1152921504606846976 → m ≤ n → sd_ch fr B m v → sd_al fr B R a m v → sd_al fr B (sd_mv R (B x) a) a m v
  | 0, _, _, _, _, _, _ => trivial
  | m + 1, v, hv, hr, hm, hc, h => by
    obtain ⟨p1, p2, p3, p4, p5⟩ := I.2.2.2.1 v hv hr hc.1
    have hvx : v ≠ x := fun e => by
      rw [e] at hc
      have := sd_ch_uniq hx hc
      omega
    have hbv : B v ≠ B x := fun e => hvx (by rw [← p2, e, hB])
    refine ⟨?_, sd_al_s hN I ha0 hB hx m (fr (B v)) (hN _ p1).1 p4 (by omega) hc.2 h.2⟩
    by_cases e2 : B v = sd_pr (B x)
    · have h1 := h.1
      rw [e2] at h1
      rw [e2, sd_mv_p]; omega
    · rw [sd_mv_n hbv e2]; exact h.1
end
end
section
/-! the whole network: functionals of the rooms -/
def sd_cG (fm tt : Nat → Nat) (p : Nat) (i : Nat) : Int :=
  if i < 14 then (if i % 2 = 0 then 0 else (if fm (i / 2) = p then 1 else 0) - (if tt (i / 2) = p then 1 else 0))
  else if i = 14 + 4 * p then 1 else if i = 16 + 4 * p then -1 else 0
def sd_cS (i : Nat) : Int := if i < 14 then 0 else if i % 4 = 2 then 1 else 0
def sd_cT (W : Nat → Int) (i : Nat) : Int := if i % 2 = 0 then 0 else -sd_AW W i
theorem sd_AT_e (fm tt : Nat → Nat) {k : Nat} (h : k < 7) : sd_AT fm tt (2 * k) = tt k := by
  unfold sd_AT; rw [sd_pr_e, sd_AF_o fm tt h]
theorem sd_AT_o (fm tt : Nat → Nat) {k : Nat} (h : k < 7) : sd_AT fm tt (2 * k + 1) = fm k := by
  unfold sd_AT; rw [sd_pr_o, sd_AF_e fm tt h]
theorem sd_AT_0 (fm tt : Nat → Nat) {p : Nat} : sd_AT fm tt (14 + 4 * p) = p := by
  unfold sd_AT; rw [sd_pr_0, sd_AF_1]
theorem sd_AT_1 (fm tt : Nat → Nat) {p : Nat} : sd_AT fm tt (15 + 4 * p) = 5 := by
  unfold sd_AT; rw [sd_pr_1, sd_AF_0]
theorem sd_AT_2 (fm tt : Nat → Nat) {p : Nat} : sd_AT fm tt (16 + 4 * p) = 6 := by
  unfold sd_AT; rw [sd_pr_2, sd_AF_3]
theorem sd_AT_3 (fm tt : Nat → Nat) {p : Nat} : sd_AT fm tt (17 + 4 * p) = p := by
  unfold sd_AT; rw [sd_pr_3, sd_AF_2]
theorem sd_cG_e (fm tt : Nat → Nat) (p : Nat) {k : Nat} (h : k < 7) : sd_cG fm tt p (2 * k) = 0 := by
  unfold sd_cG; rw [if_pos (by omega), if_pos (by omega)]
theorem sd_cG_o (fm tt : Nat → Nat) (p : Nat) {k : Nat} (h : k < 7) : sd_cG fm tt p (2 * k + 1) = (if fm k = p then 1 else 0) - (if tt k = p then 1 else 0) := by
  have e : (2 * k + 1) / 2 = k := by omega
  unfold sd_cG; rw [if_pos (by omega), if_neg (by omega), e]
theorem sd_cG_0 (fm tt : Nat → Nat) (p q : Nat) : sd_cG fm tt p (14 + 4 * q) = if q = p then 1 else 0 := by
  unfold sd_cG; rw [if_neg (by omega)]
  by_cases e : q = p
  · rw [if_pos (by omega), if_pos e]
  · rw [if_neg (by omega), if_neg (by omega), if_neg e]
theorem sd_cG_1 (fm tt : Nat → Nat) (p q : Nat) : sd_cG fm tt p (15 + 4 * q) = 0 := by
  unfold sd_cG; rw [if_neg (by omega), if_neg (by omega), if_neg (by omega)]
theorem sd_cG_2 (fm tt : Nat → Nat) (p q : Nat) : sd_cG fm tt p (16 + 4 * q) = if q = p then -1 else 0 := by
  unfold sd_cG; rw [if_neg (by omega)]
  by_cases e : q = p
  · rw [if_neg (by omega), if_pos (by omega), if_pos e]
  · rw [if_neg (by omega), if_neg (by omega), if_neg e]
theorem sd_cG_3 (fm tt : Nat → Nat) (p q : Nat) : sd_cG fm tt p (17 + 4 * q) = 0 := by
  unfold sd_cG; rw [if_neg (by omega), if_neg (by omega), if_neg (by omega)]
theorem sd_cG_p (fm tt : Nat → Nat) {p : Nat} (hp : p < 5) {i : Nat} (hi : i < 34) :
    sd_cG fm tt p (sd_pr i) - sd_cG fm tt p i = (if sd_AT fm tt i = p then -1 else 0) - (if sd_AF fm tt i = p then -1 else 0) := by
  rcases sd_kind hi with ⟨k, hk, rfl⟩ | ⟨k, hk, rfl⟩ | ⟨q, hq, rfl⟩ | ⟨q, hq, rfl⟩ | ⟨q, hq, rfl⟩ | ⟨q, hq, rfl⟩
  · rw [sd_pr_e, sd_cG_o fm tt p hk, sd_cG_e fm tt p hk, sd_AT_e fm tt hk, sd_AF_e fm tt hk]
    by_cases e1 : fm k = p <;> by_cases e2 : tt k = p <;> simp [e1, e2]
  · rw [sd_pr_o, sd_cG_o fm tt p hk, sd_cG_e fm tt p hk, sd_AT_o fm tt hk, sd_AF_o fm tt hk]
    by_cases e1 : fm k = p <;> by_cases e2 : tt k = p <;> simp [e1, e2]
  · rw [sd_pr_0, sd_cG_1, sd_cG_0, sd_AT_0, sd_AF_0, if_neg (show ¬ 5 = p by omega)]
    by_cases e : q = p <;> simp [e]
  · rw [sd_pr_1, sd_cG_1, sd_cG_0, sd_AT_1, sd_AF_1, if_neg (show ¬ 5 = p by omega)]
    by_cases e : q = p <;> simp [e]
  · rw [sd_pr_2, sd_cG_3, sd_cG_2, sd_AT_2, sd_AF_2, if_neg (show ¬ 6 = p by omega)]
  · rw [sd_pr_3, sd_cG_3, sd_cG_2, sd_AT_3, sd_AF_3, if_neg (show ¬ 6 = p by omega)]
theorem sd_cS_p (fm tt : Nat → Nat) (hf : ∀ k, k < 7 → fm k < 5 ∧ tt k < 5) {i : Nat} (hi : i < 34) :
    sd_cS (sd_pr i) - sd_cS i = (if sd_AT fm tt i = 5 then 1 else 0) - (if sd_AF fm tt i = 5 then 1 else 0) := by
  unfold sd_cS
  rcases sd_kind hi with ⟨k, hk, rfl⟩ | ⟨k, hk, rfl⟩ | ⟨q, hq, rfl⟩ | ⟨q, hq, rfl⟩ | ⟨q, hq, rfl⟩ | ⟨q, hq, rfl⟩
  · have h := hf k hk
    rw [sd_pr_e, sd_AT_e fm tt hk, sd_AF_e fm tt hk, if_pos (by omega), if_pos (by omega), if_neg (by omega), if_neg (by omega)]
  · have h := hf k hk
    rw [sd_pr_o, sd_AT_o fm tt hk, sd_AF_o fm tt hk, if_pos (by omega), if_pos (by omega), if_neg (by omega), if_neg (by omega)]
  · rw [sd_pr_0, sd_AT_0, sd_AF_0, if_neg (by omega), if_neg (by omega), if_neg (by omega), if_pos (by omega), if_neg (by omega), if_pos rfl]
  · rw [sd_pr_1, sd_AT_1, sd_AF_1, if_neg (by omega), if_pos (by omega), if_neg (by omega), if_neg (by omega), if_pos rfl, if_neg (by omega)]
  · rw [sd_pr_2, sd_AT_2, sd_AF_2, if_neg (by omega), if_neg (by omega), if_neg (by omega), if_neg (by omega), if_neg (by omega), if_neg (by omega)]
  · rw [sd_pr_3, sd_AT_3, sd_AF_3, if_neg (by omega), if_neg (by omega), if_neg (by omega), if_neg (by omega), if_neg (by omega), if_neg (by omega)]
theorem sd_cT_p (W : Nat → Int) (i : Nat) : sd_cT W (sd_pr i) - sd_cT W i = sd_AW W i := by
  unfold sd_cT
  rw [sd_AW_pr]
  by_cases e : i % 2 = 0
  · have e2 : ¬ sd_pr i % 2 = 0 := by unfold sd_pr; rw [if_pos e]; omega
    rw [if_neg e2, if_pos e]; omega
  · have e2 : sd_pr i % 2 = 0 := by unfold sd_pr; rw [if_neg e]; omega
    rw [if_pos e2, if_neg e]; omega
/-- the 34 arcs by kinds -/
theorem sd_sm_34 (f : Nat → Int) : sd_sm f 34 = sd_sm (fun k => f (2 * k) + f (2 * k + 1)) 7 +
    sd_sm (fun p => f (14 + 4 * p) + f (15 + 4 * p) + f (16 + 4 * p) + f (17 + 4 * p)) 5 := by
  simp only [sd_sm, Nat.reduceMul, Nat.reduceAdd]
  omega
theorem sd_ps_G (fm tt : Nat → Nat) {p : Nat} (hp : p < 5) (R : Nat → Int) :
    sd_ps (sd_cG fm tt p) R = sd_ox fm tt (fun k => R (2 * k + 1)) p + R (14 + 4 * p) - R (16 + 4 * p) := by
  unfold sd_ps
  rw [sd_sm_34]
  have e1 : sd_sm (fun k => sd_cG fm tt p (2 * k) * R (2 * k) + sd_cG fm tt p (2 * k + 1) * R (2 * k + 1)) 7 = sd_ox fm tt (fun k => R (2 * k + 1)) p := by
    refine sd_sm_c fun k hk => ?_
    show sd_cG fm tt p (2 * k) * R (2 * k) + sd_cG fm tt p (2 * k + 1) * R (2 * k + 1) = (if fm k = p then R (2 * k + 1) else 0) - (if tt k = p then R (2 * k + 1) else 0)
    rw [sd_cG_e fm tt p hk, sd_cG_o fm tt p hk]
    by_cases z1 : fm k = p <;> by_cases z2 : tt k = p <;> simp [z1, z2]
  have e2 : sd_sm (fun q => sd_cG fm tt p (14 + 4 * q) * R (14 + 4 * q) + sd_cG fm tt p (15 + 4 * q) * R (15 + 4 * q) + sd_cG fm tt p (16 + 4 * q) * R (16 + 4 * q) + sd_cG fm tt p (17 + 4 * q) * R (17 + 4 * q)) 5
      = sd_sm (fun q => (R (14 + 4 * q) - R (16 + 4 * q)) * (if p = q then 1 else 0)) 5 := by
    refine sd_sm_c fun q _ => ?_
    show sd_cG fm tt p (14 + 4 * q) * R (14 + 4 * q) + sd_cG fm tt p (15 + 4 * q) * R (15 + 4 * q) + sd_cG fm tt p (16 + 4 * q) * R (16 + 4 * q) + sd_cG fm tt p (17 + 4 * q) * R (17 + 4 * q) = _
    rw [sd_cG_0, sd_cG_1, sd_cG_2, sd_cG_3]
    by_cases z : q = p
    · rw [if_pos z, if_pos z, if_pos z.symm]; omega
    · rw [if_neg z, if_neg z, if_neg (fun y => z y.symm)]; omega
  have e3 := sd_sm_pick (fun q => R (14 + 4 * q) - R (16 + 4 * q)) p 1 5 hp
  have e4 : sd_sm (fun q => (R (14 + 4 * q) - R (16 + 4 * q)) * (if p = q then 1 else 0)) 5 = (R (14 + 4 * p) - R (16 + 4 * p)) * 1 := e3
  rw [e1, e2, e4]; omega
theorem sd_ps_S (R : Nat → Int) : sd_ps sd_cS R = sd_sm (fun p => R (14 + 4 * p)) 5 := by
  unfold sd_ps
  rw [sd_sm_34]
  have e1 : sd_sm (fun k => sd_cS (2 * k) * R (2 * k) + sd_cS (2 * k + 1) * R (2 * k + 1)) 7 = 0 := by
    refine (sd_sm_c (g := fun _ => 0) fun k hk => ?_).trans (sd_sm_0 7)
    show sd_cS (2 * k) * R (2 * k) + sd_cS (2 * k + 1) * R (2 * k + 1) = 0
    unfold sd_cS
    rw [if_pos (by omega), if_pos (by omega)]; omega
  have e2 : sd_sm (fun q => sd_cS (14 + 4 * q) * R (14 + 4 * q) + sd_cS (15 + 4 * q) * R (15 + 4 * q) + sd_cS (16 + 4 * q) * R (16 + 4 * q) + sd_cS (17 + 4 * q) * R (17 + 4 * q)) 5
      = sd_sm (fun p => R (14 + 4 * p)) 5 := by
    refine sd_sm_c fun q _ => ?_
    show sd_cS (14 + 4 * q) * R (14 + 4 * q) + sd_cS (15 + 4 * q) * R (15 + 4 * q) + sd_cS (16 + 4 * q) * R (16 + 4 * q) + sd_cS (17 + 4 * q) * R (17 + 4 * q) = R (14 + 4 * q)
    unfold sd_cS
    rw [if_neg (by omega), if_pos (by omega), if_neg (by omega), if_neg (by omega), if_neg (by omega), if_neg (by omega), if_neg (by omega), if_neg (by omega)]
    omega
  rw [e1, e2]; omega
theorem sd_ps_T (W R : Nat → Int) : sd_ps (sd_cT W) R = sd_ct W (fun k => R (2 * k + 1)) := by
  unfold sd_ps
  rw [sd_sm_34]
  have e1 : sd_sm (fun k => sd_cT W (2 * k) * R (2 * k) + sd_cT W (2 * k + 1) * R (2 * k + 1)) 7 = sd_ct W (fun k => R (2 * k + 1)) := by
    refine sd_sm_c fun k hk => ?_
    show sd_cT W (2 * k) * R (2 * k) + sd_cT W (2 * k + 1) * R (2 * k + 1) = W k * R (2 * k + 1)
    unfold sd_cT
    rw [if_pos (by omega), if_neg (by omega), sd_AW_o W hk]; grind
  have e2 : sd_sm (fun q => sd_cT W (14 + 4 * q) * R (14 + 4 * q) + sd_cT W (15 + 4 * q) * R (15 + 4 * q) + sd_cT W (16 + 4 * q) * R (16 + 4 * q) + sd_cT W (17 + 4 * q) * R (17 + 4 * q)) 5 = 0 := by
    refine (sd_sm_c (g := fun _ => 0) fun q _ => ?_).trans (sd_sm_0 5)
    show sd_cT W (14 + 4 * q) * R (14 + 4 * q) + sd_cT W (15 + 4 * q) * R (15 + 4 * q) + sd_cT W (16 + 4 * q) * R (16 + 4 * q) + sd_cT W (17 + 4 * q) * R (17 + 4 * q) = 0
    unfold sd_cT
    rw [if_pos (by omega), if_neg (by omega), if_pos (by omega), if_neg (by omega), sd_AW_h W (by omega), sd_AW_h W (by omega)]
    omega
  rw [e1, e2]; omega
/-- what holds between two sendings: t have been made, T is the total -/
def sd_SI (fm tt : Nat → Nat) (W c b R : Nat → Int) (T : Int) (t : Nat) : Prop :=
  (∀ i, i < 34 → 0 ≤ R i) ∧ (∃ π, sd_Pot (sd_AF fm tt) (sd_AT fm tt) (sd_AW W) R π) ∧ (∀ k, k < 7 → R (2 * k) + R (2 * k + 1) = c k) ∧
  (∀ p, p < 5 → sd_ps (sd_cG fm tt p) R = b p) ∧ sd_ps sd_cS R + t ≤ 127 ∧ T = sd_ps (sd_cT W) R ∧ ∀ i, i < 34 → R i + R (sd_pr i) ≤ 1000
theorem sd_net_N {fm tt : Nat → Nat} (hf : ∀ k, k < 7 → fm k < 5 ∧ tt k < 5) : ∀ i, i < 34 → sd_AF fm tt i < 7 ∧ sd_AT fm tt i < 7 :=
  fun _ hi => ⟨sd_AF_lt hf hi, sd_AT_lt hf hi⟩
theorem sd_net_pr (fm tt : Nat → Nat) (W : Nat → Int) : ∀ i, i < 34 → sd_AF fm tt (sd_pr i) = sd_AT fm tt i ∧ sd_AT fm tt (sd_pr i) = sd_AF fm tt i ∧ sd_AW W (sd_pr i) = -sd_AW W i :=
  fun i _ => ⟨rfl, sd_AT_pr fm tt i, sd_AW_pr W i⟩
/-- a sending keeps it -/
theorem sd_SI_push {fm tt : Nat → Nat} (hf : ∀ k, k < 7 → fm k < 5 ∧ tt k < 5) {W c b R R' π π' D : Nat → Int} {B : Nat → Nat} {T L a : Int} {t : Nat}
    (I : sd_SI fm tt W c b R T t) (F : sd_BF (sd_AF fm tt) (sd_AT fm tt) (sd_AW W) R π L D B)
    (hS : ∀ i, i < 34 → sd_sat (sd_AF fm tt) (sd_AT fm tt) (sd_AW W) R D i) (ha : 1 ≤ a)
    (J : sd_MI (sd_AF fm tt) (sd_AT fm tt) (sd_AW W) π' D B R a R' 5) : sd_SI fm tt W c b R' (T + a * D 6) (t + 1) := by
  obtain ⟨J1, J2, J3, J4⟩ := J
  have hpd : ∀ v, v < 7 → D v < 1152921504606846976 → v ≠ 5 → B v < 34 ∧ sd_AT fm tt (B v) = v ∧ sd_AW W (B v) = D v - D (sd_AF fm tt (B v)) := by
    intro v hv hr h5
    obtain ⟨p1, p2, p3, p4, p5⟩ := F.2.2.2.1 v hv hr h5
    have h := hS (B v) p1 p3 p4
    rw [p2] at h
    exact ⟨p1, p2, by omega⟩
  refine ⟨J1, ⟨π', J2⟩, ?_, ?_, ?_, ?_, ?_⟩
  · intro k hk
    have h := J3 (2 * k)
    rw [sd_pr_e] at h
    rw [h]; exact I.2.2.1 k hk
  · intro p hp
    have h := J4 (sd_cG fm tt p) (fun v => if v = p then -1 else 0) (fun v hv hr h5 => by
      obtain ⟨q1, q2, q3⟩ := hpd v hv hr h5
      have h := sd_cG_p fm tt hp q1
      rw [q2] at h
      exact h)
    have e6 : (if 6 = p then (-1 : Int) else 0) = 0 := if_neg (by omega)
    have e5 : (if 5 = p then (-1 : Int) else 0) = 0 := if_neg (by omega)
    have h' : sd_ps (sd_cG fm tt p) R' = sd_ps (sd_cG fm tt p) R + a * ((if 6 = p then -1 else 0) - (if 5 = p then -1 else 0)) := h
    rw [e5, e6] at h'
    rw [h', I.2.2.2.1 p hp]; omega
  · have h := J4 sd_cS (fun v => if v = 5 then 1 else 0) (fun v hv hr h5 => by
      obtain ⟨q1, q2, q3⟩ := hpd v hv hr h5
      have h := sd_cS_p fm tt hf q1
      rw [q2] at h
      exact h)
    have h' : sd_ps sd_cS R' = sd_ps sd_cS R + a * (0 - 1) := h
    have h5 := I.2.2.2.2.1
    rw [h']; omega
  · have h := J4 (sd_cT W) D (fun v hv hr h5 => by
      obtain ⟨q1, q2, q3⟩ := hpd v hv hr h5
      rw [sd_cT_p, q3])
    have h0 := F.1
    rw [h0] at h
    have e : D 6 - 0 = D 6 := by omega
    rw [h, ← I.2.2.2.2.2.1, e]
  · intro i hi
    rw [J3 i]; exact I.2.2.2.2.2.2 i hi
end
section
/-! the end of the sendings, and their beginning -/
theorem sd_ox_1 {fm tt : Nat → Nat} (hf : ∀ k, k < 7 → fm k < 5 ∧ tt k < 5) (x : Nat → Int) : sd_sm (fun p => sd_ox fm tt x p) 5 = 0 := by
  have h := sd_ox_s hf (fun _ => 1) x
  have e1 : sd_sm (fun p => 1 * sd_ox fm tt x p) 5 = sd_sm (fun p => sd_ox fm tt x p) 5 := sd_sm_c fun p _ => Int.one_mul _
  have e2 : sd_sm (fun k => x k * (1 - 1)) 7 = sd_sm (fun _ => 0) 7 := sd_sm_c fun k _ => Int.mul_zero _
  rw [sd_sm_0] at e2
  exact e1.symm.trans (h.trans e2)
theorem sd_end_met {fm tt : Nat → Nat} (hf : ∀ k, k < 7 → fm k < 5 ∧ tt k < 5) {W c b R : Nat → Int} {T : Int} {t : Nat}
    (I : sd_SI fm tt W c b R T t) (h : ∀ p, p < 5 → R (14 + 4 * p) = 0 ∧ R (16 + 4 * p) = 0) :
    sd_Fe fm tt c b (fun k => R (2 * k + 1)) ∧ T = sd_ct W (fun k => R (2 * k + 1)) ∧ ∀ y, sd_Fe fm tt c b y → sd_ct W (fun k => R (2 * k + 1)) ≤ sd_ct W y := by
  obtain ⟨I1, ⟨π, I2⟩, I3, I4, I5, I6, I7⟩ := I
  have hF : sd_Fe fm tt c b (fun k => R (2 * k + 1)) := by
    refine ⟨fun k hk => ?_, fun p hp => ?_⟩
    · have h1 := I1 (2 * k) (by omega)
      have h2 := I1 (2 * k + 1) (by omega)
      have h3 := I3 k hk
      show 0 ≤ R (2 * k + 1) ∧ R (2 * k + 1) ≤ c k
      omega
    · have h1 := I4 p hp
      rw [sd_ps_G fm tt hp] at h1
      have h2 := h p hp
      omega
  refine ⟨hF, by rw [I6, sd_ps_T], fun y hy => sd_opt (π := π) hf hF hy ?_ ?_⟩
  · intro k hk hlt
    have h3 := I3 k hk
    have hlt' : R (2 * k + 1) < c k := hlt
    have h1 := I2 (2 * k) (by omega) (by omega)
    rw [sd_AT_e fm tt hk, sd_AF_e fm tt hk, sd_AW_e W hk] at h1
    omega
  · intro k hk hlt
    have hlt' : 0 < R (2 * k + 1) := hlt
    have h1 := I2 (2 * k + 1) (by omega) hlt'
    rw [sd_AT_o fm tt hk, sd_AF_o fm tt hk, sd_AW_o W hk] at h1
    omega
theorem sd_end_cert {fm tt : Nat → Nat} (hf : ∀ k, k < 7 → fm k < 5 ∧ tt k < 5) {W c b R π D : Nat → Int} {B : Nat → Nat} {T L M : Int} {t : Nat}
    (I : sd_SI fm tt W c b R T t) (F : sd_BF (sd_AF fm tt) (sd_AT fm tt) (sd_AW W) R π L D B)
    (hS : ∀ i, i < 34 → sd_sat (sd_AF fm tt) (sd_AT fm tt) (sd_AW W) R D i) (hM : ∀ i, i < 34 → -M ≤ sd_AW W i ∧ sd_AW W i ≤ M)
    (hL : L + M < 1152921504606846976) (h6 : ¬ D 6 < 1152921504606846976)
    (h : sd_sm b 5 ≠ 0 ∨ ∃ p, p < 5 ∧ (R (14 + 4 * p) ≠ 0 ∨ R (16 + 4 * p) ≠ 0)) : sd_Ce fm tt c b := by
  by_cases hb : sd_sm b 5 = 0
  · right
    obtain ⟨p0, hp0, hR0⟩ : ∃ p, p < 5 ∧ (R (14 + 4 * p) ≠ 0 ∨ R (16 + 4 * p) ≠ 0) := by
      rcases h with h | h
      · exact absurd hb h
      · exact h
    obtain ⟨I1, _, I3, I4, I5, I6, I7⟩ := I
    have hA : ∀ i, i < 34 → D (sd_AF fm tt i) < 1152921504606846976 → ¬ D (sd_AT fm tt i) < 1152921504606846976 → R i = 0 := by
      intro i hi h1 h2
      have h0 := I1 i hi
      by_cases e : R i = 0
      · exact e
      · have h3 := hS i hi (by omega) h1
        have h4 := F.2.1 _ (sd_AF_lt hf hi)
        have h5 := F.2.1 _ (sd_AT_lt hf hi)
        have h6 := hM i hi
        omega
    have h5 : D 5 < 1152921504606846976 := by rw [F.1]; decide
    have hs0 : ∀ p, p < 5 → ¬ D p < 1152921504606846976 → R (14 + 4 * p) = 0 := by
      intro p hp hd
      exact hA (14 + 4 * p) (by omega) (by rw [sd_AF_0]; exact h5) (by rw [sd_AT_0]; exact hd)
    have ht0 : ∀ p, p < 5 → D p < 1152921504606846976 → R (16 + 4 * p) = 0 := by
      intro p hp hd
      exact hA (16 + 4 * p) (by omega) (by rw [sd_AF_2]; exact hd) (by rw [sd_AT_2]; exact h6)
    refine ⟨fun v => if D v < 1152921504606846976 then 1 else 0, fun v => ?_, ?_⟩
    · by_cases e : D v < 1152921504606846976
      · exact Or.inr (if_pos e)
      · exact Or.inl (if_neg e)
    · have hbp : ∀ p, p < 5 → b p = sd_ox fm tt (fun k => R (2 * k + 1)) p + R (14 + 4 * p) - R (16 + 4 * p) := by
        intro p hp
        rw [← sd_ps_G fm tt hp]; exact (I4 p hp).symm
      have e1 : sd_sm (fun p => (if D p < 1152921504606846976 then (1 : Int) else 0) * b p) 5
          = sd_sm (fun p => (if D p < 1152921504606846976 then (1 : Int) else 0) * sd_ox fm tt (fun k => R (2 * k + 1)) p + R (14 + 4 * p)) 5 := by
        refine sd_sm_c fun p hp => ?_
        have h1 := hbp p hp
        by_cases e : D p < 1152921504606846976
        · have h2 := ht0 p hp e
          rw [if_pos e]; omega
        · have h2 := hs0 p hp e
          rw [if_neg e, h2]; omega
      have e2 := sd_ox_s hf (fun v => if D v < 1152921504606846976 then (1 : Int) else 0) (fun k => R (2 * k + 1))
      have e3 : sd_sm (fun k => R (2 * k + 1) * ((if D (fm k) < 1152921504606846976 then (1 : Int) else 0) - (if D (tt k) < 1152921504606846976 then (1 : Int) else 0))) 7
          = sd_sm (fun k => c k * ((if D (fm k) < 1152921504606846976 then (1 : Int) else 0) * (1 - (if D (tt k) < 1152921504606846976 then (1 : Int) else 0)))) 7 := by
        refine sd_sm_c fun k hk => ?_
        have h3 := I3 k hk
        by_cases z1 : D (fm k) < 1152921504606846976
        · by_cases z2 : D (tt k) < 1152921504606846976
          · rw [if_pos z1, if_pos z2]; omega
          · have h4 := hA (2 * k) (by omega) (by rw [sd_AF_e fm tt hk]; exact z1) (by rw [sd_AT_e fm tt hk]; exact z2)
            rw [if_pos z1, if_neg z2]; omega
        · by_cases z2 : D (tt k) < 1152921504606846976
          · have h4 := hA (2 * k + 1) (by omega) (by rw [sd_AF_o fm tt hk]; exact z2) (by rw [sd_AT_o fm tt hk]; exact z1)
            rw [if_neg z1, if_pos z2, h4]; omega
          · rw [if_neg z1, if_neg z2]; omega
      have hs : 0 < sd_sm (fun p => R (14 + 4 * p)) 5 := by
        have n1 : ∀ p, p < 5 → 0 ≤ R (14 + 4 * p) := fun p hp => I1 _ (by omega)
        have n2 : ∀ p, p < 5 → 0 ≤ R (16 + 4 * p) := fun p hp => I1 _ (by omega)
        have s1 := sd_sm_one (f := fun p => R (14 + 4 * p)) (n := 5) n1 p0 hp0
        have s2 := sd_sm_one (f := fun p => R (16 + 4 * p)) (n := 5) n2 p0 hp0
        have s3 : sd_sm b 5 = sd_sm (fun p => sd_ox fm tt (fun k => R (2 * k + 1)) p + R (14 + 4 * p) - R (16 + 4 * p)) 5 := sd_sm_c hbp
        rw [sd_sm_sub, sd_sm_add, sd_ox_1 hf, hb] at s3
        have n1' := n1 p0 hp0
        have n2' := n2 p0 hp0
        have s1' : R (14 + 4 * p0) ≤ sd_sm (fun p => R (14 + 4 * p)) 5 := s1
        have s2' : R (16 + 4 * p0) ≤ sd_sm (fun p => R (16 + 4 * p)) 5 := s2
        omega
      show sd_sm (fun k => c k * ((if D (fm k) < 1152921504606846976 then (1 : Int) else 0) * (1 - (if D (tt k) < 1152921504606846976 then (1 : Int) else 0)))) 7
        < sd_sm (fun p => (if D p < 1152921504606846976 then (1 : Int) else 0) * b p) 5
      rw [e1, sd_sm_add, e2, e3]; omega
  · exact Or.inl hb
/-- what is filled at once -/
def sd_x0 (W c : Nat → Int) (k : Nat) : Int := if W k < 0 then c k else 0
theorem sd_ox_bd {fm tt : Nat → Nat} {x : Nat → Int} (h : ∀ k, k < 7 → 0 ≤ x k) (p : Nat) : -sd_sm x 7 ≤ sd_ox fm tt x p ∧ sd_ox fm tt x p ≤ sd_sm x 7 := by
  constructor
  · have e : sd_sm (fun k => -1 * x k) 7 ≤ sd_ox fm tt x p := sd_sm_le fun k hk => by
      have := h k hk
      by_cases z1 : fm k = p <;> by_cases z2 : tt k = p <;> simp only [z1, z2, if_true, if_false] <;> omega
    rw [sd_sm_mul] at e; omega
  · exact sd_sm_le fun k hk => by
      have := h k hk
      by_cases z1 : fm k = p <;> by_cases z2 : tt k = p <;> simp only [z1, z2, if_true, if_false] <;> omega
def sd_pos (z : Int) : Int := if z ≤ 0 then 0 else z
def sd_neg (z : Int) : Int := if 0 ≤ z then 0 else -z
theorem sd_pos_neg (z : Int) : sd_pos z - sd_neg z = z ∧ 0 ≤ sd_pos z ∧ 0 ≤ sd_neg z := by
  unfold sd_pos sd_neg
  by_cases h1 : z ≤ 0
  · by_cases h2 : 0 ≤ z
    · rw [if_pos h1, if_pos h2]; omega
    · rw [if_pos h1, if_neg h2]; omega
  · rw [if_neg h1, if_pos (by omega)]; omega
/-- the bound on what is left to be sent -/
theorem sd_sup {fm tt : Nat → Nat} (hf : ∀ k, k < 7 → fm k < 5 ∧ tt k < 5) {x c b : Nat → Int} (h0 : ∀ k, k < 7 → 0 ≤ x k ∧ x k ≤ c k) :
    sd_sm (fun p => sd_pos (b p - sd_ox fm tt x p)) 5 ≤ sd_sm (fun p => sd_pos (b p)) 5 + sd_sm c 7 := by
  have h1 : sd_sm (fun p => sd_pos (b p - sd_ox fm tt x p)) 5 ≤ sd_sm (fun p => sd_pos (b p) + 1 * sd_sm (fun k => if tt k = p then x k else 0) 7) 5 := by
    refine sd_sm_le fun p hp => ?_
    have h2 : 0 ≤ sd_sm (fun k => if tt k = p then x k else 0) 7 := sd_sm_nn fun k hk => by
      have := h0 k hk
      by_cases z : tt k = p
      · simp only [z, if_true]; omega
      · simp only [z, if_false]; omega
    have h3 : sd_sm (fun k => -1 * (if tt k = p then x k else 0)) 7 ≤ sd_ox fm tt x p := sd_sm_le fun k hk => by
      have := h0 k hk
      by_cases z1 : fm k = p <;> by_cases z2 : tt k = p <;> simp only [z1, z2, if_true, if_false] <;> omega
    rw [sd_sm_mul] at h3
    show sd_pos (b p - sd_ox fm tt x p) ≤ sd_pos (b p) + 1 * sd_sm (fun k => if tt k = p then x k else 0) 7
    generalize sd_sm (fun k => if tt k = p then x k else 0) 7 = s at h2 h3
    generalize sd_ox fm tt x p = o at h3
    unfold sd_pos
    by_cases z1 : b p - o ≤ 0 <;> by_cases z2 : b p ≤ 0
    · rw [if_pos z1, if_pos z2]; omega
    · rw [if_pos z1, if_neg z2]; omega
    · rw [if_neg z1, if_pos z2]; omega
    · rw [if_neg z1, if_neg z2]; omega
  rw [sd_sm_add, sd_sm_swap (fun _ => 1) (fun k p => if tt k = p then x k else 0) 5 7] at h1
  have h4 : sd_sm (fun k => sd_sm (fun p => 1 * (if tt k = p then x k else 0)) 5) 7 ≤ sd_sm c 7 := sd_sm_le fun k hk => by
    have e := sd_sm_pick (fun _ => 1) (tt k) (x k) 5 (hf k hk).2
    have e' : sd_sm (fun p => 1 * (if tt k = p then x k else 0)) 5 = 1 * x k := e
    rw [e']
    have := h0 k hk
    omega
  omega
/-- the rooms as they are laid out -/
def sd_L0 (fm tt : Nat → Nat) (W c b R : Nat → Int) : Prop :=
  (∀ k, k < 7 → R (2 * k) = c k - sd_x0 W c k ∧ R (2 * k + 1) = sd_x0 W c k) ∧
  ∀ p, p < 5 → R (14 + 4 * p) = sd_pos (b p - sd_ox fm tt (sd_x0 W c) p) ∧ R (15 + 4 * p) = 0 ∧
    R (16 + 4 * p) = sd_neg (b p - sd_ox fm tt (sd_x0 W c) p) ∧ R (17 + 4 * p) = 0
theorem sd_SI_0 {fm tt : Nat → Nat} (hf : ∀ k, k < 7 → fm k < 5 ∧ tt k < 5) {W c b R : Nat → Int} (hc : ∀ k, k < 7 → 0 ≤ c k)
    (hb : ∀ p, p < 5 → -500 ≤ b p ∧ b p ≤ 500) (hs : sd_sm (fun p => sd_pos (b p)) 5 + sd_sm c 7 ≤ 127) (h : sd_L0 fm tt W c b R) :
    sd_SI fm tt W c b R (sd_ct W (sd_x0 W c)) 0 := by
  have hx : ∀ k, k < 7 → 0 ≤ sd_x0 W c k ∧ sd_x0 W c k ≤ c k := by
    intro k hk
    have := hc k hk
    unfold sd_x0
    by_cases e : W k < 0
    · rw [if_pos e]; omega
    · rw [if_neg e]; omega
  have hcs : ∀ k, k < 7 → c k ≤ 127 := by
    intro k hk
    have h1 := sd_sm_one (f := c) (n := 7) hc k hk
    have h2 : 0 ≤ sd_sm (fun p => sd_pos (b p)) 5 := sd_sm_nn fun p _ => (sd_pos_neg (b p)).2.1
    omega
  have hox : ∀ p, -127 ≤ sd_ox fm tt (sd_x0 W c) p ∧ sd_ox fm tt (sd_x0 W c) p ≤ 127 := by
    intro p
    have h1 := sd_ox_bd (fm := fm) (tt := tt) (x := sd_x0 W c) (fun k hk => (hx k hk).1) p
    have h2 : sd_sm (sd_x0 W c) 7 ≤ sd_sm c 7 := sd_sm_le fun k hk => (hx k hk).2
    have h3 : 0 ≤ sd_sm (fun p => sd_pos (b p)) 5 := sd_sm_nn fun p _ => (sd_pos_neg (b p)).2.1
    omega
  have e7 : sd_ox fm tt (fun k => R (2 * k + 1)) = sd_ox fm tt (sd_x0 W c) := funext fun p => sd_ox_c (fun k hk => (h.1 k hk).2) p
  refine ⟨?_, ⟨fun _ => 0, ?_⟩, ?_, ?_, ?_, ?_, ?_⟩
  · intro i hi
    rcases sd_kind hi with ⟨k, hk, rfl⟩ | ⟨k, hk, rfl⟩ | ⟨q, hq, rfl⟩ | ⟨q, hq, rfl⟩ | ⟨q, hq, rfl⟩ | ⟨q, hq, rfl⟩
    · rw [(h.1 k hk).1]; have := hx k hk; omega
    · rw [(h.1 k hk).2]; have := hx k hk; omega
    · rw [(h.2 q hq).1]; exact (sd_pos_neg _).2.1
    · rw [(h.2 q hq).2.1]; exact Int.le_refl 0
    · rw [(h.2 q hq).2.2.1]; exact (sd_pos_neg _).2.2
    · rw [(h.2 q hq).2.2.2]; exact Int.le_refl 0
  · intro i hi hR
    show (0 : Int) ≤ sd_AW W i + 0
    by_cases e14 : i < 14
    · by_cases e2 : i % 2 = 0
      · have ek : i = 2 * (i / 2) := by omega
        have hk : i / 2 < 7 := by omega
        rw [ek, (h.1 _ hk).1] at hR
        rw [ek, sd_AW_e W hk]
        unfold sd_x0 at hR
        by_cases e : W (i / 2) < 0
        · rw [if_pos e] at hR; omega
        · omega
      · have ek : i = 2 * (i / 2) + 1 := by omega
        have hk : i / 2 < 7 := by omega
        rw [ek, (h.1 _ hk).2] at hR
        rw [ek, sd_AW_o W hk]
        unfold sd_x0 at hR
        by_cases e : W (i / 2) < 0
        · omega
        · rw [if_neg e] at hR; omega
    · rw [sd_AW_h W (by omega)]; decide
  · intro k hk
    have := h.1 k hk
    omega
  · intro p hp
    rw [sd_ps_G fm tt hp, e7, (h.2 p hp).1, (h.2 p hp).2.2.1]
    have := (sd_pos_neg (b p - sd_ox fm tt (sd_x0 W c) p)).1
    omega
  · rw [sd_ps_S]
    have e : sd_sm (fun p => R (14 + 4 * p)) 5 = sd_sm (fun p => sd_pos (b p - sd_ox fm tt (sd_x0 W c) p)) 5 := sd_sm_c fun p hp => (h.2 p hp).1
    rw [e]
    have := sd_sup (b := b) hf hx
    simp only [Int.natCast_zero, Int.add_zero]
    omega
  · rw [sd_ps_T]
    exact sd_ct_c fun k hk => ((h.1 k hk).2).symm
  · have hpn : ∀ p, p < 5 → sd_pos (b p - sd_ox fm tt (sd_x0 W c) p) ≤ 1000 ∧ sd_neg (b p - sd_ox fm tt (sd_x0 W c) p) ≤ 1000 := by
      intro p hp
      have h1 := hox p
      have h2 := hb p hp
      generalize sd_ox fm tt (sd_x0 W c) p = o at h1
      unfold sd_pos sd_neg
      by_cases z1 : b p - o ≤ 0 <;> by_cases z2 : 0 ≤ b p - o
      · rw [if_pos z1, if_pos z2]; omega
      · rw [if_pos z1, if_neg z2]; omega
      · rw [if_neg z1, if_pos z2]; omega
      · omega
    intro i hi
    rcases sd_kind hi with ⟨k, hk, rfl⟩ | ⟨k, hk, rfl⟩ | ⟨q, hq, rfl⟩ | ⟨q, hq, rfl⟩ | ⟨q, hq, rfl⟩ | ⟨q, hq, rfl⟩
    · rw [sd_pr_e, (h.1 k hk).1, (h.1 k hk).2]; have := hcs k hk; omega
    · rw [sd_pr_o, (h.1 k hk).1, (h.1 k hk).2]; have := hcs k hk; omega
    · rw [sd_pr_0, (h.2 q hq).1, (h.2 q hq).2.1]; have := hpn q hq; omega
    · rw [sd_pr_1, (h.2 q hq).1, (h.2 q hq).2.1]; have := hpn q hq; omega
    · rw [sd_pr_2, (h.2 q hq).2.2.1, (h.2 q hq).2.2.2]; have := hpn q hq; omega
    · rw [sd_pr_3, (h.2 q hq).2.2.1, (h.2 q hq).2.2.2]; have := hpn q hq; omega
end
section
/-! what is kept: m the lines that are there, fm and tt their ends, rm and cs rooms and costs, bl the balances -/
def sd_cap (m : Nat) (rm : Nat → Int) (k : Nat) : Int := if m.testBit k = true then rm k else 0
def sd_DB (m : Nat) (fm tt : Nat → Nat) (rm cs bl : Nat → Int) (a_from a_to a_rooms a_costs a_balances : Nat → Int32) : Prop :=
  m < 128 ∧ (∀ k, k < 7 → fm k < 5 ∧ tt k < 5) ∧ (∀ k, k < 7 → a_from k = nI (fm k) ∧ a_to k = nI (tt k)) ∧
  (∀ k, k < 7 → a_rooms k = sd_i (rm k) ∧ 0 ≤ rm k ∧ rm k ≤ 4) ∧ (∀ k, k < 7 → a_costs k = sd_i (cs k) ∧ -9 ≤ cs k ∧ cs k ≤ 9) ∧
  (∀ p, p < 5 → a_balances p = sd_i (bl p) ∧ -9 ≤ bl p ∧ bl p ≤ 9)
theorem sd_bit : ∀ m, m < 128 → ∀ j, j < 7 → ((nI m >>> (nI j &&& 31)) &&& 1) = if m.testBit j = true then 1 else 0 := by decide +kernel
theorem sd_ix (x : Int32) {n : Nat} (hn : n < 2147483648) : x < 0 ∨ nI n ≤ x ∨ ∃ j : Nat, j < n ∧ x = nI j := by
  by_cases h : x < 0
  · exact Or.inl h
  · obtain ⟨j, hj, rfl⟩ := nI_of h
    by_cases h2 : j < n
    · exact Or.inr (Or.inr ⟨j, h2, rfl⟩)
    · exact Or.inr (Or.inl ((nI_leI hn hj).mpr (by omega)))
section
variable {f_present : Int32} {f_arcs : Int32} {f_total : Int64} {a_from : Nat → Int32} {a_to : Nat → Int32} {a_rooms : Nat → Int32} {a_costs : Nat → Int32} {a_balances : Nat → Int32} {a_askedRoom : Nat → Int32} {a_askedWeight : Nat → Int64} {a_askedBalance : Nat → Int32} {a_arcFrom : Nat → Int32} {a_arcTo : Nat → Int32} {a_arcRoom : Nat → Int32} {a_arcWeight : Nat → Int64} {a_distance : Nat → Int64} {a_byArc : Nat → Int32}
theorem sx_has {post : Int32 → Prop} {m j : Nat} (hm : m < 128) (hj : j < 7) (h0 : m.testBit j = false → post 0) (h1 : m.testBit j = true → post 1) :
    wpX_has post (nI m, f_arcs, f_total, a_from, a_to, a_rooms, a_costs, a_balances, a_askedRoom, a_askedWeight, a_askedBalance, a_arcFrom, a_arcTo, a_arcRoom, a_arcWeight, a_distance, a_byArc) (nI j) := by
  refine br_f (nI_pos (by omega)) (br_f (nI_ge (b := 7) hj (by decide)) ?_)
  rw [sd_bit m hm j hj]
  by_cases e : m.testBit j = true
  · rw [if_pos e]; exact br_f (by decide) (h1 e)
  · rw [if_neg e]; exact br_t rfl (h0 (by cases h : m.testBit j with | false => rfl | true => exact absurd h e))
theorem sx_hasO {post : Int32 → Prop} {x : Int32} (hx : x < 0 ∨ nI 7 ≤ x) (h0 : post 0) : wpX_has post (f_present, f_arcs, f_total, a_from, a_to, a_rooms, a_costs, a_balances, a_askedRoom, a_askedWeight, a_askedBalance, a_arcFrom, a_arcTo, a_arcRoom, a_arcWeight, a_distance, a_byArc) x := by
  rcases hx with h | h
  · exact br_t h h0
  · refine br_f ?_ (br_t h h0)
    intro h2
    have h3 : (nI 7).toInt ≤ x.toInt := Int32.le_iff_toInt_le.mp h
    have h4 : x.toInt < (0 : Int32).toInt := Int32.lt_iff_toInt_lt.mp h2
    have e1 : (nI 7).toInt = 7 := by decide
    have e2 : (0 : Int32).toInt = 0 := by decide
    omega
theorem sx_ask55 {post : SX → Prop} {bl : Nat → Int} (hb : ∀ p, p < 5 → a_balances p = sd_i (bl p))
    (K : ∀ aB : Nat → Int32, (∀ p, p < 5 → aB p = sd_i (bl p)) → post (f_present, f_arcs, f_total, a_from, a_to, a_rooms, a_costs, a_balances, a_askedRoom, a_askedWeight, aB, a_arcFrom, a_arcTo, a_arcRoom, a_arcWeight, a_distance, a_byArc)) :
    ∀ n j aB, j ≤ 5 → 5 - j < n → (∀ p, p < j → aB p = sd_i (bl p)) → wX_ask_55 post f_present f_arcs f_total n (nI j) a_from a_to a_rooms a_costs a_balances a_askedRoom a_askedWeight aB a_arcFrom a_arcTo a_arcRoom a_arcWeight a_distance a_byArc := by
  intro n
  induction n with
  | zero => intro j aB _ h _; omega
  | succ n ih =>
    intro j aB hj hn I
    by_cases e : j = 5
    · subst e; exact br_t (by decide) (K aB I)
    · refine br_f (nI_ge (b := 5) (by omega) (by decide)) ?_
      refine ⟨vp_in_nI (by omega) (by decide), vp_in_nI (by omega) (by decide), ?_⟩
      intro a1 e1
      rw [sd_cl (by omega), hb j (by omega)] at e1
      subst e1
      intro x1 e1
      rw [nI_1] at e1
      subst e1
      refine ih (j + 1) _ (by omega) (by omega) ?_
      intro p hp
      by_cases z : p = j
      · subst z; exact sd_us
      · rw [sd_un z]; exact I p (by omega)
theorem sx_ask2 {post : SX → Prop} {m : Nat} {fm tt : Nat → Nat} {rm cs bl : Nat → Int} {F : Int} (hd : sd_DB m fm tt rm cs bl a_from a_to a_rooms a_costs a_balances)
    (K : ∀ (aR : Nat → Int32) (aW : Nat → Int64) (aB : Nat → Int32), (∀ k, k < 7 → aR k = sd_i (sd_cap m rm k)) → (∀ k, k < 7 → aW k = sd_l (cs k * F)) →
      (∀ p, p < 5 → aB p = sd_i (bl p)) → post (nI m, f_arcs, f_total, a_from, a_to, a_rooms, a_costs, a_balances, aR, aW, aB, a_arcFrom, a_arcTo, a_arcRoom, a_arcWeight, a_distance, a_byArc)) :
    ∀ n j aR aW, j ≤ 7 → 7 - j < n → (∀ k, k < j → aR k = sd_i (sd_cap m rm k)) → (∀ k, k < j → aW k = sd_l (cs k * F)) →
      wX_ask_2 post (sd_l F) (nI m) f_arcs f_total n (nI j) a_from a_to a_rooms a_costs a_balances aR aW a_askedBalance a_arcFrom a_arcTo a_arcRoom a_arcWeight a_distance a_byArc := by
  obtain ⟨hm, hf, hft, hrm, hcs, hbl⟩ := hd
  intro n
  induction n with
  | zero => intro j aR aW _ h _ _; omega
  | succ n ih =>
    intro j aR aW hj hn I1 I2
    by_cases e : j = 7
    · subst e
      exact br_t (by decide) ⟨6, sx_ask55 (fun p hp => (hbl p hp).1) (fun aB hB => K aR aW aB I1 I2 hB) 6 0 _ (by omega) (by omega) (fun p hp => absurd hp (Nat.not_lt_zero p))⟩
    · have hj7 : j < 7 := by omega
      have step : ∀ z : Int32, z = sd_i (sd_cap m rm j) → wX_ask_31 post (wX_ask_2 post (sd_l F) (nI m) f_arcs f_total n) (sd_l F) (nI j) z (nI j) (nI m) f_arcs f_total a_from a_to a_rooms a_costs a_balances aR aW a_askedBalance a_arcFrom a_arcTo a_arcRoom a_arcWeight a_distance a_byArc := by
        intro z hz
        unfold wX_ask_31
        refine ⟨vp_in_nI hj7 (by decide), ?_⟩
        intro a1 e1
        rw [sd_cl (by omega), hz] at e1
        subst e1
        refine ⟨vp_in_nI hj7 (by decide), vp_in_nI hj7 (by decide), ?_⟩
        intro a2 e2
        rw [sd_cl (by omega), (hcs j hj7).1, sd_il (by have := hcs j hj7; omega) (by have := hcs j hj7; omega), sd_lm] at e2
        subst e2
        intro x1 e1
        rw [nI_1] at e1
        subst e1
        refine ih (j + 1) _ _ (by omega) (by omega) ?_ ?_
        · intro p hp
          by_cases y : p = j
          · subst y; exact sd_us
          · rw [sd_un y]; exact I1 p (by omega)
        · intro p hp
          by_cases y : p = j
          · subst y; exact sd_uLs
          · rw [sd_uLn y]; exact I2 p (by omega)
      refine br_f (nI_ge (b := 7) hj7 (by decide)) (sx_has hm hj7 (fun h => ?_) (fun h => ?_))
      · refine br_t rfl (step 0 ?_)
        unfold sd_cap; rw [if_neg (by rw [h]; decide)]; rfl
      · refine br_f (by decide) ⟨vp_in_nI hj7 (by decide), step _ ?_⟩
        rw [sd_cl (by omega), (hrm j hj7).1]
        unfold sd_cap; rw [if_pos h]
theorem sx_ask {post : SX → Prop} {m : Nat} {fm tt : Nat → Nat} {rm cs bl : Nat → Int} {F : Int} (hd : sd_DB m fm tt rm cs bl a_from a_to a_rooms a_costs a_balances)
    (K : ∀ (aR : Nat → Int32) (aW : Nat → Int64) (aB : Nat → Int32), (∀ k, k < 7 → aR k = sd_i (sd_cap m rm k)) → (∀ k, k < 7 → aW k = sd_l (cs k * F)) →
      (∀ p, p < 5 → aB p = sd_i (bl p)) → post (nI m, f_arcs, f_total, a_from, a_to, a_rooms, a_costs, a_balances, aR, aW, aB, a_arcFrom, a_arcTo, a_arcRoom, a_arcWeight, a_distance, a_byArc)) :
    wpX_ask post (nI m, f_arcs, f_total, a_from, a_to, a_rooms, a_costs, a_balances, a_askedRoom, a_askedWeight, a_askedBalance, a_arcFrom, a_arcTo, a_arcRoom, a_arcWeight, a_distance, a_byArc) (sd_l F) :=
  ⟨8, sx_ask2 hd K 8 0 _ _ (by omega) (by omega) (fun p hp => absurd hp (Nat.not_lt_zero p)) (fun p hp => absurd hp (Nat.not_lt_zero p))⟩
end
end
section
/-! the arcs are laid out -/
theorem sd_ext {F : Nat → Int32} {a : Nat → Int32} {e : Nat} {v0 v1 : Int32} (h : ∀ i, i < e → a i = F i) (h0 : v0 = F e) (h1 : v1 = F (e + 1)) :
    ∀ i, i < e + 2 → upd (upd a e v0) (e + 1) v1 i = F i := by
  intro i hi
  by_cases z1 : i = e + 1
  · subst z1; rw [sd_us]; exact h1
  · rw [sd_un z1]
    by_cases z0 : i = e
    · subst z0; rw [sd_us]; exact h0
    · rw [sd_un z0]; exact h i (by omega)
theorem sd_extL {F : Nat → Int64} {a : Nat → Int64} {e : Nat} {v0 v1 : Int64} (h : ∀ i, i < e → a i = F i) (h0 : v0 = F e) (h1 : v1 = F (e + 1)) :
    ∀ i, i < e + 2 → vp_updL (vp_updL a e v0) (e + 1) v1 i = F i := by
  intro i hi
  by_cases z1 : i = e + 1
  · subst z1; rw [sd_uLs]; exact h1
  · rw [sd_uLn z1]
    by_cases z0 : i = e
    · subst z0; rw [sd_uLs]; exact h0
    · rw [sd_uLn z0]; exact h i (by omega)
/-- the rooms to be laid -/
def sd_RL (fm tt : Nat → Nat) (W c b : Nat → Int) (i : Nat) : Int :=
  if i < 14 then (if i % 2 = 0 then c (i / 2) - sd_x0 W c (i / 2) else sd_x0 W c (i / 2))
  else if i % 4 = 2 then sd_pos (b ((i - 14) / 4) - sd_ox fm tt (sd_x0 W c) ((i - 14) / 4))
  else if i % 4 = 0 then sd_neg (b ((i - 14) / 4) - sd_ox fm tt (sd_x0 W c) ((i - 14) / 4)) else 0
theorem sd_RL_e (fm tt : Nat → Nat) (W c b : Nat → Int) {k : Nat} (h : k < 7) : sd_RL fm tt W c b (2 * k) = c k - sd_x0 W c k := by
  have e : 2 * k / 2 = k := by omega
  unfold sd_RL; rw [if_pos (by omega), if_pos (by omega), e]
theorem sd_RL_o (fm tt : Nat → Nat) (W c b : Nat → Int) {k : Nat} (h : k < 7) : sd_RL fm tt W c b (2 * k + 1) = sd_x0 W c k := by
  have e : (2 * k + 1) / 2 = k := by omega
  unfold sd_RL; rw [if_pos (by omega), if_neg (by omega), e]
theorem sd_RL_0 (fm tt : Nat → Nat) (W c b : Nat → Int) (p : Nat) : sd_RL fm tt W c b (14 + 4 * p) = sd_pos (b p - sd_ox fm tt (sd_x0 W c) p) := by
  have e : (14 + 4 * p - 14) / 4 = p := by omega
  unfold sd_RL; rw [if_neg (by omega), if_pos (by omega), e]
theorem sd_RL_1 (fm tt : Nat → Nat) (W c b : Nat → Int) (p : Nat) : sd_RL fm tt W c b (15 + 4 * p) = 0 := by
  unfold sd_RL; rw [if_neg (by omega), if_neg (by omega), if_neg (by omega)]
theorem sd_RL_2 (fm tt : Nat → Nat) (W c b : Nat → Int) (p : Nat) : sd_RL fm tt W c b (16 + 4 * p) = sd_neg (b p - sd_ox fm tt (sd_x0 W c) p) := by
  have e : (16 + 4 * p - 14) / 4 = p := by omega
  unfold sd_RL; rw [if_neg (by omega), if_neg (by omega), if_pos (by omega), e]
theorem sd_RL_3 (fm tt : Nat → Nat) (W c b : Nat → Int) (p : Nat) : sd_RL fm tt W c b (17 + 4 * p) = 0 := by
  unfold sd_RL; rw [if_neg (by omega), if_neg (by omega), if_neg (by omega)]
theorem sd_RL_L0 (fm tt : Nat → Nat) (W c b : Nat → Int) : sd_L0 fm tt W c b (sd_RL fm tt W c b) :=
  ⟨fun _ hk => ⟨sd_RL_e fm tt W c b hk, sd_RL_o fm tt W c b hk⟩, fun p _ => ⟨sd_RL_0 fm tt W c b p, sd_RL_1 fm tt W c b p, sd_RL_2 fm tt W c b p, sd_RL_3 fm tt W c b p⟩⟩
/-- the net outflow of the first n lines -/
def sd_on (fm tt : Nat → Nat) (x : Nat → Int) (n p : Nat) : Int := sd_sm (fun k => (if fm k = p then x k else 0) - (if tt k = p then x k else 0)) n
theorem sd_on_7 (fm tt : Nat → Nat) (x : Nat → Int) (p : Nat) : sd_on fm tt x 7 p = sd_ox fm tt x p := rfl
theorem sd_on_s (fm tt : Nat → Nat) (x : Nat → Int) (n p : Nat) : sd_on fm tt x (n + 1) p = sd_on fm tt x n p + ((if fm n = p then x n else 0) - (if tt n = p then x n else 0)) := rfl
/-- arcs 0 .. e - 1 are laid -/
def sd_LA (fm tt : Nat → Nat) (W c b : Nat → Int) (e : Nat) (aF aT aR : Nat → Int32) (aW : Nat → Int64) : Prop :=
  (∀ i, i < e → aF i = nI (sd_AF fm tt i)) ∧ (∀ i, i < e → aT i = nI (sd_AT fm tt i)) ∧ (∀ i, i < e → aR i = sd_i (sd_RL fm tt W c b i)) ∧ ∀ i, i < e → aW i = sd_l (sd_AW W i)
theorem sd_2k : ∀ k, k < 7 → (2 : Int32) * nI k = nI (2 * k) ∧ (2 : Int32) * nI k + 1 = nI (2 * k + 1) := by decide +kernel
section
variable {f_present : Int32} {f_arcs : Int32} {f_total : Int64} {a_from : Nat → Int32} {a_to : Nat → Int32} {a_rooms : Nat → Int32} {a_costs : Nat → Int32} {a_balances : Nat → Int32} {a_askedRoom : Nat → Int32} {a_askedWeight : Nat → Int64} {a_askedBalance : Nat → Int32} {a_arcFrom : Nat → Int32} {a_arcTo : Nat → Int32} {a_arcRoom : Nat → Int32} {a_arcWeight : Nat → Int64} {a_distance : Nat → Int64} {a_byArc : Nat → Int32}
theorem sx_addArc {post : SX → Prop} {e a b : Nat} {room : Int32} {wt : Int64} (he : e + 1 < 34) (ha : a < 100) (hb : b < 100)
    (h : post (f_present, nI (e + 2), f_total, a_from, a_to, a_rooms, a_costs, a_balances, a_askedRoom, a_askedWeight, a_askedBalance, upd (upd a_arcFrom e (nI a)) (e + 1) (nI b), upd (upd a_arcTo e (nI b)) (e + 1) (nI a), upd (upd a_arcRoom e room) (e + 1) 0, vp_updL (vp_updL a_arcWeight e wt) (e + 1) (-wt), a_distance, a_byArc)) :
    wpX_addArc post (f_present, nI e, f_total, a_from, a_to, a_rooms, a_costs, a_balances, a_askedRoom, a_askedWeight, a_askedBalance, a_arcFrom, a_arcTo, a_arcRoom, a_arcWeight, a_distance, a_byArc) (nI a) (nI b) room wt := by
  have v0 : vp_in (nI e) 34 := vp_in_nI (by omega) (by decide)
  have v1 : vp_in (nI e + 1) 34 := by rw [nI_1]; exact vp_in_nI he (by decide)
  have c0 : (nI e).toNatClampNeg = e := sd_cl (by omega)
  have c1 : (nI e + 1).toNatClampNeg = e + 1 := by rw [nI_1]; exact sd_cl (by omega)
  unfold wpX_addArc
  dsimp only
  rw [c0, c1, sd_byte a ha, sd_byte b hb]
  refine ⟨v0, nm_e ⟨v0, nm_e ⟨v0, nm_e ⟨v0, nm_e ⟨v1, nm_e ⟨v1, nm_e ⟨v1, nm_e ⟨v1, nm_e (nm_r (e' := nI (e + 2)) ?_ h)⟩⟩⟩⟩⟩⟩⟩⟩
  exact nI_add e 2
theorem sx_lay153 {post : SX → Prop} {fm tt : Nat → Nat} {W c b : Nat → Int} {B' : Nat → Int} (hB : ∀ p, p < 5 → B' p = b p - sd_ox fm tt (sd_x0 W c) p)
    (hBb : ∀ p, p < 5 → -1000 ≤ B' p ∧ B' p ≤ 1000) (hab : ∀ p, p < 5 → a_askedBalance p = sd_i (B' p))
    (K : ∀ (aF aT aR : Nat → Int32) (aW : Nat → Int64), sd_LA fm tt W c b 34 aF aT aR aW → post (f_present, nI 34, f_total, a_from, a_to, a_rooms, a_costs, a_balances, a_askedRoom, a_askedWeight, a_askedBalance, aF, aT, aR, aW, a_distance, a_byArc)) :
    ∀ n p aF aT aR aW, p ≤ 5 → 5 - p < n → sd_LA fm tt W c b (14 + 4 * p) aF aT aR aW →
      wX_layOut_153 post n (nI p) f_present (nI (14 + 4 * p)) f_total a_from a_to a_rooms a_costs a_balances a_askedRoom a_askedWeight a_askedBalance aF aT aR aW a_distance a_byArc := by
  intro n
  induction n with
  | zero => intro p aF aT aR aW _ h _; omega
  | succ n ih =>
    intro p aF aT aR aW hp hn I
    by_cases e : p = 5
    · subst e; exact br_t (by decide) (K aF aT aR aW I)
    · have hp5 : p < 5 := by omega
      have hbb := hBb p hp5
      have hbe := hB p hp5
      refine br_f (nI_ge (b := 5) hp5 (by decide)) ⟨vp_in_nI hp5 (by decide), ?_⟩
      intro x2 e2
      rw [sd_cl (by omega), hab p hp5] at e2
      subst e2
      have step2 : ∀ z (aF1 aT1 aR1 : Nat → Int32) (aW1 : Nat → Int64), z = sd_i (sd_neg (B' p)) → sd_LA fm tt W c b (16 + 4 * p) aF1 aT1 aR1 aW1 →
          wX_layOut_195 post (wX_layOut_153 post n) (nI p) z 6 (nI p) f_present (nI (16 + 4 * p)) f_total a_from a_to a_rooms a_costs a_balances a_askedRoom a_askedWeight a_askedBalance aF1 aT1 aR1 aW1 a_distance a_byArc := by
        intro z aF1 aT1 aR1 aW1 hz I1
        unfold wX_layOut_195
        refine sx_addArc (b := 6) (by omega) (by omega) (by decide) ?_
        intro x1 e1
        rw [nI_1] at e1
        subst e1
        have q : 16 + 4 * p + 2 = 14 + 4 * (p + 1) := by omega
        have e1 : 16 + 4 * p + 1 = 17 + 4 * p := by omega
        rw [q]
        refine ih (p + 1) _ _ _ _ (by omega) (by omega) ?_
        rw [← q]
        refine ⟨sd_ext I1.1 ?_ ?_, sd_ext I1.2.1 ?_ ?_, sd_ext I1.2.2.1 ?_ ?_, sd_extL I1.2.2.2 ?_ ?_⟩
        · rw [sd_AF_2]
        · rw [e1, sd_AF_3]
        · rw [sd_AT_2]
        · rw [e1, sd_AT_3]
        · rw [sd_RL_2, ← hbe]; exact hz
        · rw [e1, sd_RL_3]; rfl
        · rw [sd_AW_h W (by omega)]; rfl
        · rw [sd_AW_h W (by omega)]; decide
      have step1 : ∀ z, z = sd_i (sd_pos (B' p)) → wX_layOut_177 post (wX_layOut_153 post n) (nI p) (sd_i (B' p)) z (nI p) 5 f_present (nI (14 + 4 * p)) f_total a_from a_to a_rooms a_costs a_balances a_askedRoom a_askedWeight a_askedBalance aF aT aR aW a_distance a_byArc := by
        intro z hz
        unfold wX_layOut_177
        refine sx_addArc (a := 5) (by omega) (by decide) (by omega) ?_
        have q : 14 + 4 * p + 2 = 16 + 4 * p := by omega
        have e1 : 14 + 4 * p + 1 = 15 + 4 * p := by omega
        have I1 : sd_LA fm tt W c b (14 + 4 * p + 2) (upd (upd aF (14 + 4 * p) (nI 5)) (14 + 4 * p + 1) (nI p)) (upd (upd aT (14 + 4 * p) (nI p)) (14 + 4 * p + 1) (nI 5))
            (upd (upd aR (14 + 4 * p) z) (14 + 4 * p + 1) 0) (vp_updL (vp_updL aW (14 + 4 * p) 0) (14 + 4 * p + 1) (-0)) := by
          refine ⟨sd_ext I.1 ?_ ?_, sd_ext I.2.1 ?_ ?_, sd_ext I.2.2.1 ?_ ?_, sd_extL I.2.2.2 ?_ ?_⟩
          · rw [sd_AF_0]
          · rw [e1, sd_AF_1]
          · rw [sd_AT_0]
          · rw [e1, sd_AT_1]
          · rw [sd_RL_0, ← hbe]; exact hz
          · rw [e1, sd_RL_1]; rfl
          · rw [sd_AW_h W (by omega)]; rfl
          · rw [sd_AW_h W (by omega)]; decide
        rw [q] at I1 ⊢
        refine sd_ble 0 (B' p) rfl rfl (fun h => step2 _ _ _ _ _ ?_ I1) (fun h => step2 _ _ _ _ _ ?_ I1)
        · unfold sd_neg; rw [if_pos h]; rfl
        · unfold sd_neg; rw [if_neg (by omega)]; exact sd_in _
      refine sd_ble (B' p) 0 rfl rfl (fun h => step1 _ ?_) (fun h => step1 _ ?_)
      · unfold sd_pos; rw [if_pos h]; rfl
      · unfold sd_pos; rw [if_neg (by omega)]
end
end
section
/-! the lines are laid out, those below nothing filled -/
theorem sd_ab_step {fm tt : Nat → Nat} {b x : Nat → Int} {k : Nat} (hf : fm k < 5 ∧ tt k < 5) {aB : Nat → Int32} {r : Int}
    (hx : x k = r) (h : ∀ p, p < 5 → aB p = sd_i (b p - sd_on fm tt x k p)) :
    ∀ p, p < 5 → upd (upd aB (fm k) (aB (fm k) - sd_i r)) (tt k) (upd aB (fm k) (aB (fm k) - sd_i r) (tt k) + sd_i r) p = sd_i (b p - sd_on fm tt x (k + 1) p) := by
  intro p hp
  have h1 : ∀ q, q < 5 → upd aB (fm k) (aB (fm k) - sd_i r) q = sd_i (b q - sd_on fm tt x k q - (if fm k = q then r else 0)) := by
    intro q hq
    by_cases e : q = fm k
    · rw [e, sd_us, h _ hf.1, sd_is, if_pos rfl]
    · rw [sd_un e, h q hq, if_neg (fun z => e z.symm), Int.sub_zero]
  rw [sd_on_s, hx]
  by_cases e : p = tt k
  · rw [e, sd_us, h1 _ hf.2, sd_ia, if_pos rfl]
    apply congrArg; omega
  · rw [sd_un e, h1 p hp, if_neg (show ¬ tt k = p from fun z => e z.symm)]
    apply congrArg; omega
section
variable {f_present : Int32} {f_arcs : Int32} {f_total : Int64} {a_from : Nat → Int32} {a_to : Nat → Int32} {a_rooms : Nat → Int32} {a_costs : Nat → Int32} {a_balances : Nat → Int32} {a_askedRoom : Nat → Int32} {a_askedWeight : Nat → Int64} {a_askedBalance : Nat → Int32} {a_arcFrom : Nat → Int32} {a_arcTo : Nat → Int32} {a_arcRoom : Nat → Int32} {a_arcWeight : Nat → Int64} {a_distance : Nat → Int64} {a_byArc : Nat → Int32}
theorem sx_lay12 {post : SX → Prop} {fm tt : Nat → Nat} {W c b : Nat → Int} (hf : ∀ k, k < 7 → fm k < 5 ∧ tt k < 5)
    (hft : ∀ k, k < 7 → a_from k = nI (fm k) ∧ a_to k = nI (tt k)) (haR : ∀ k, k < 7 → a_askedRoom k = sd_i (c k)) (haW : ∀ k, k < 7 → a_askedWeight k = sd_l (W k))
    (hc : ∀ k, k < 7 → 0 ≤ c k ∧ c k ≤ 127) (hW : ∀ k, k < 7 → -1048576 ≤ W k ∧ W k ≤ 1048576)
    (K : ∀ (aB aF aT aR : Nat → Int32) (aW : Nat → Int64), (∀ p, p < 5 → aB p = sd_i (b p - sd_ox fm tt (sd_x0 W c) p)) → sd_LA fm tt W c b 14 aF aT aR aW →
      ∃ n153 : Nat, wX_layOut_153 post n153 0 f_present (nI 14) (sd_l (sd_ct W (sd_x0 W c))) a_from a_to a_rooms a_costs a_balances a_askedRoom a_askedWeight aB aF aT aR aW a_distance a_byArc) :
    ∀ n k aB aF aT aR aW, k ≤ 7 → 7 - k < n → (∀ p, p < 5 → aB p = sd_i (b p - sd_on fm tt (sd_x0 W c) k p)) → sd_LA fm tt W c b (2 * k) aF aT aR aW →
      wX_layOut_12 post n (nI k) f_present (nI (2 * k)) (sd_l (sd_sm (fun j => W j * sd_x0 W c j) k)) a_from a_to a_rooms a_costs a_balances a_askedRoom a_askedWeight aB aF aT aR aW a_distance a_byArc := by
  intro n
  induction n with
  | zero => intro k aB aF aT aR aW _ h _ _; omega
  | succ n ih =>
    intro k aB aF aT aR aW hk hn I1 I
    by_cases e : k = 7
    · subst e; exact br_t (by decide) (K aB aF aT aR aW I1 I)
    · have hk7 : k < 7 := by omega
      have v7 : vp_in (nI k) 7 := vp_in_nI hk7 (by decide)
      have hck := hc k hk7
      have hWk := hW k hk7
      have hfk := hf k hk7
      have q1 : 2 * k + 2 = 2 * (k + 1) := by omega
      refine br_f (nI_ge (b := 7) hk7 (by decide)) ⟨v7, v7, v7, v7, ?_⟩
      rw [sd_cl (show k < 2147483648 by omega), (hft k hk7).1, (hft k hk7).2, haR k hk7, haW k hk7]
      refine sx_addArc (by omega) (by omega) (by omega) ?_
      have IF : ∀ i, i < 2 * k + 2 → upd (upd aF (2 * k) (nI (fm k))) (2 * k + 1) (nI (tt k)) i = nI (sd_AF fm tt i) :=
        sd_ext I.1 (by rw [sd_AF_e fm tt hk7]) (by rw [sd_AF_o fm tt hk7])
      have IT : ∀ i, i < 2 * k + 2 → upd (upd aT (2 * k) (nI (tt k))) (2 * k + 1) (nI (fm k)) i = nI (sd_AT fm tt i) :=
        sd_ext I.2.1 (by rw [sd_AT_e fm tt hk7]) (by rw [sd_AT_o fm tt hk7])
      have IW : ∀ i, i < 2 * k + 2 → vp_updL (vp_updL aW (2 * k) (sd_l (W k))) (2 * k + 1) (-sd_l (W k)) i = sd_l (sd_AW W i) :=
        sd_extL I.2.2.2 (by rw [sd_AW_e W hk7]) (by rw [sd_AW_o W hk7, sd_ln])
      refine ⟨v7, ?_⟩
      rw [haW k hk7]
      refine sd_Lle 0 (W k) rfl rfl (fun h => ?_) (fun h => ?_)
      · intro x1 e1
        rw [nI_1] at e1
        subst e1
        have x0 : sd_x0 W c k = 0 := if_neg (by omega)
        have et : sd_sm (fun j => W j * sd_x0 W c j) k = sd_sm (fun j => W j * sd_x0 W c j) (k + 1) := by
          show _ = sd_sm (fun j => W j * sd_x0 W c j) k + W k * sd_x0 W c k
          rw [x0]; omega
        rw [et, q1]
        refine ih (k + 1) _ _ _ _ _ (by omega) (by omega) ?_ ?_
        · intro p hp
          rw [I1 p hp, sd_on_s, x0]
          apply congrArg
          by_cases z1 : fm k = p <;> by_cases z2 : tt k = p <;> simp only [z1, z2, if_true, if_false] <;> omega
        · rw [← q1]
          refine ⟨IF, IT, sd_ext I.2.2.1 ?_ ?_, IW⟩
          · rw [sd_RL_e fm tt W c b hk7, x0, Int.sub_zero]
          · rw [sd_RL_o fm tt W c b hk7, x0]; rfl
      · have x0 : sd_x0 W c k = c k := if_pos h
        have d1 := (sd_2k k hk7).1
        have d2 := (sd_2k k hk7).2
        have vf : vp_in (nI (fm k)) 5 := vp_in_nI hfk.1 (by decide)
        have vt : vp_in (nI (tt k)) 5 := vp_in_nI hfk.2 (by decide)
        have cf : (nI (fm k)).toNatClampNeg = fm k := sd_cl (by omega)
        have ctt : (nI (tt k)).toNatClampNeg = tt k := sd_cl (by omega)
        rw [d2, d1, (hft k hk7).1, (hft k hk7).2, haR k hk7, cf, ctt, sd_cl (show 2 * k + 1 < 2147483648 by omega), sd_cl (show 2 * k < 2147483648 by omega)]
        refine ⟨v7, vp_in_nI (by omega) (by decide), nm_e ⟨vp_in_nI (by omega) (by decide), nm_e ⟨v7, v7, ?_⟩⟩⟩
        refine nm_r (e' := sd_l (sd_sm (fun j => W j * sd_x0 W c j) (k + 1))) ?_ ?_
        · rw [sd_il (by omega) (by omega), sd_lm, sd_la]
          show _ = sd_l (sd_sm (fun j => W j * sd_x0 W c j) k + W k * sd_x0 W c k)
          rw [x0, Int.mul_comm (W k)]
        · refine ⟨v7, vf, v7, vf, nm_e ⟨v7, vt, v7, vt, nm_e ?_⟩⟩
          intro x1 e1
          rw [nI_1] at e1
          subst e1
          rw [q1]
          refine ih (k + 1) _ _ _ _ _ (by omega) (by omega) (sd_ab_step hfk x0 I1) ?_
          rw [← q1]
          refine ⟨IF, IT, ?_, IW⟩
          intro i hi
          by_cases z0 : i = 2 * k
          · subst z0; rw [sd_us, sd_RL_e fm tt W c b hk7, x0, Int.sub_self]; rfl
          · rw [sd_un z0]
            by_cases z1 : i = 2 * k + 1
            · subst z1; rw [sd_us, sd_RL_o fm tt W c b hk7, x0]
            · rw [sd_un z1, sd_un z1, sd_un z0]; exact I.2.2.1 i (by omega)
theorem sx_layOut {post : SX → Prop} {fm tt : Nat → Nat} {W c b : Nat → Int} (hf : ∀ k, k < 7 → fm k < 5 ∧ tt k < 5)
    (hft : ∀ k, k < 7 → a_from k = nI (fm k) ∧ a_to k = nI (tt k)) (haR : ∀ k, k < 7 → a_askedRoom k = sd_i (c k)) (haW : ∀ k, k < 7 → a_askedWeight k = sd_l (W k))
    (haB : ∀ p, p < 5 → a_askedBalance p = sd_i (b p))
    (hc : ∀ k, k < 7 → 0 ≤ c k ∧ c k ≤ 127) (hW : ∀ k, k < 7 → -1048576 ≤ W k ∧ W k ≤ 1048576)
    (hbb : ∀ p, p < 5 → -1000 ≤ b p - sd_ox fm tt (sd_x0 W c) p ∧ b p - sd_ox fm tt (sd_x0 W c) p ≤ 1000)
    (K : ∀ (aB aF aT aR : Nat → Int32) (aW : Nat → Int64), (∀ p, p < 5 → aB p = sd_i (b p - sd_ox fm tt (sd_x0 W c) p)) → sd_LA fm tt W c b 34 aF aT aR aW →
      post (f_present, nI 34, sd_l (sd_ct W (sd_x0 W c)), a_from, a_to, a_rooms, a_costs, a_balances, a_askedRoom, a_askedWeight, aB, aF, aT, aR, aW, a_distance, a_byArc)) :
    wpX_layOut post (f_present, f_arcs, f_total, a_from, a_to, a_rooms, a_costs, a_balances, a_askedRoom, a_askedWeight, a_askedBalance, a_arcFrom, a_arcTo, a_arcRoom, a_arcWeight, a_distance, a_byArc) :=
  ⟨8, sx_lay12 (b := b) hf hft haR haW hc hW
    (fun aB aF aT aR aW hB hL => ⟨6, sx_lay153 (B' := fun p => b p - sd_ox fm tt (sd_x0 W c) p) (fun _ _ => rfl) hbb hB (fun aF' aT' aR' aW' hL' => K aB aF' aT' aR' aW' hB hL') 6 0 aF aT aR aW (by omega) (by omega) hL⟩)
    8 0 _ _ _ _ _ (by omega) (by omega)
    (fun p hp => by rw [haB p hp]; apply congrArg; show b p = b p - 0; omega)
    ⟨fun i hi => absurd hi (Nat.not_lt_zero i), fun i hi => absurd hi (Nat.not_lt_zero i), fun i hi => absurd hi (Nat.not_lt_zero i), fun i hi => absurd hi (Nat.not_lt_zero i)⟩⟩
end
end
section
/-! the cheapest ways are measured -/
/-- the arcs as they stand in the arrays -/
def sd_NA (fm tt : Nat → Nat) (W R : Nat → Int) (aF aT aR : Nat → Int32) (aW : Nat → Int64) : Prop :=
  (∀ i, i < 34 → aF i = nI (sd_AF fm tt i)) ∧ (∀ i, i < 34 → aT i = nI (sd_AT fm tt i)) ∧ (∀ i, i < 34 → aR i = sd_i (R i)) ∧ ∀ i, i < 34 → aW i = sd_l (sd_AW W i)
def sd_DA (D : Nat → Int) (B : Nat → Nat) (di : Nat → Int64) (ba : Nat → Int32) : Prop :=
  (∀ v, v < 7 → di v = sd_l (D v)) ∧ ∀ v, v < 7 → D v < 1152921504606846976 → v ≠ 5 → ba v = nI (B v)
def sd_MJ (fm tt : Nat → Nat) (W R π : Nat → Int) (r j : Nat) (x1 : Int32) (D : Nat → Int) (B : Nat → Nat) : Prop :=
  sd_BF (sd_AF fm tt) (sd_AT fm tt) (sd_AW W) R π (1048576 * ((34 * r + j : Nat) : Int)) D B ∧ sd_RI (sd_AF fm tt) (sd_AT fm tt) (sd_AW W) R r j D ∧
  ((x1 = 0 ∧ ∀ i, i < j → sd_sat (sd_AF fm tt) (sd_AT fm tt) (sd_AW W) R D i) ∨ x1 = 1)
theorem sd_AW_bd {W : Nat → Int} (hW : ∀ k, k < 7 → -1048576 ≤ W k ∧ W k ≤ 1048576) : ∀ i, i < 34 → -1048576 ≤ sd_AW W i ∧ sd_AW W i ≤ 1048576 := by
  intro i hi
  unfold sd_AW
  by_cases h : i < 14
  · have := hW (i / 2) (by omega)
    rw [if_pos h]
    by_cases e : i % 2 = 0
    · rw [if_pos e]; omega
    · rw [if_neg e]; omega
  · rw [if_neg h]; omega
/-- the arc j does nothing -/
theorem sd_MJ_skip {fm tt : Nat → Nat} {W R π : Nat → Int} {r j : Nat} {x1 : Int32} {D : Nat → Int} {B : Nat → Nat}
    (hW : ∀ k, k < 7 → -1048576 ≤ W k ∧ W k ≤ 1048576) (hr : r < 7) (I : sd_MJ fm tt W R π r j x1 D B)
    (h : R j ≤ 0 ∨ 1152921504606846976 ≤ D (sd_AF fm tt j) ∨ D (sd_AT fm tt j) ≤ D (sd_AF fm tt j) + sd_AW W j) : sd_MJ fm tt W R π r (j + 1) x1 D B := by
  obtain ⟨I1, I2, I3⟩ := I
  refine ⟨sd_BF_mono (by omega) I1, sd_RI_s I2 ?_, ?_⟩
  · intro hR c hp
    rcases h with h | h | h
    · omega
    · have h1 := I2.1 _ _ hp
      have h2 := sd_P_bd (by decide) (sd_AW_bd hW) hp
      omega
    · have h1 := I2.1 _ _ hp
      omega
  · rcases I3 with ⟨e, hs⟩ | e
    · refine Or.inl ⟨e, fun i hi => ?_⟩
      by_cases z : i = j
      · subst z
        intro hR hD
        rcases h with h | h | h
        · omega
        · omega
        · exact h
      · exact hs i (by omega)
    · exact Or.inr e
theorem sd_MJ_relax {fm tt : Nat → Nat} {W R π : Nat → Int} {r j : Nat} {x1 : Int32} {D : Nat → Int} {B : Nat → Nat} (hf : ∀ k, k < 7 → fm k < 5 ∧ tt k < 5)
    (hW : ∀ k, k < 7 → -1048576 ≤ W k ∧ W k ≤ 1048576) (hP : sd_Pot (sd_AF fm tt) (sd_AT fm tt) (sd_AW W) R π) (hr : r < 7) (hj : j < 34) (I : sd_MJ fm tt W R π r j x1 D B)
    (hR : 0 < R j) (hD : D (sd_AF fm tt j) < 1152921504606846976) (hlt : D (sd_AF fm tt j) + sd_AW W j < D (sd_AT fm tt j)) :
    sd_MJ fm tt W R π r (j + 1) 1 (sd_ud D (sd_AT fm tt j) (D (sd_AF fm tt j) + sd_AW W j)) (sd_ud B (sd_AT fm tt j) j) := by
  obtain ⟨I1, I2, I3⟩ := I
  refine ⟨?_, ?_, Or.inr rfl⟩
  · have h := sd_BF_relax (sd_net_N hf) hP I1 hj hR (sd_AW_bd hW j hj) (by omega) (by omega) hD hlt
    exact sd_BF_mono (by omega) h
  · refine sd_RI_s (sd_RI_le (D := D) ?_ I2) ?_
    · intro v
      by_cases e : v = sd_AT fm tt j
      · rw [e, sd_uds]; omega
      · rw [sd_udn e]; exact Int.le_refl _
    · intro _ c hp
      rw [sd_uds]
      have h1 := I2.1 _ _ hp
      omega
section
variable {f_present : Int32} {f_arcs : Int32} {f_total : Int64} {a_from : Nat → Int32} {a_to : Nat → Int32} {a_rooms : Nat → Int32} {a_costs : Nat → Int32} {a_balances : Nat → Int32} {a_askedRoom : Nat → Int32} {a_askedWeight : Nat → Int64} {a_askedBalance : Nat → Int32} {a_arcFrom : Nat → Int32} {a_arcTo : Nat → Int32} {a_arcRoom : Nat → Int32} {a_arcWeight : Nat → Int64} {a_distance : Nat → Int64} {a_byArc : Nat → Int32}
theorem sx_m50 {post : Int32 → SX → Prop} {J : Int32 → Int32 → (Nat → Int32) → (Nat → Int32) → (Nat → Int32) → (Nat → Int32) → (Nat → Int32) → (Nat → Int32) → (Nat → Int64) → (Nat → Int32) → (Nat → Int32) → (Nat → Int32) → (Nat → Int32) → (Nat → Int64) → (Nat → Int64) → (Nat → Int32) → Prop}
    {fm tt : Nat → Nat} {W R π : Nat → Int} {r : Nat} (hf : ∀ k, k < 7 → fm k < 5 ∧ tt k < 5)
    (hW : ∀ k, k < 7 → -1048576 ≤ W k ∧ W k ≤ 1048576) (hP : sd_Pot (sd_AF fm tt) (sd_AT fm tt) (sd_AW W) R π) (hr : r < 7)
    (hRb : ∀ i, i < 34 → -1000 ≤ R i ∧ R i ≤ 1000) (hA : sd_NA fm tt W R a_arcFrom a_arcTo a_arcRoom a_arcWeight)
    (K : ∀ x1 D B di ba, sd_MJ fm tt W R π r 34 x1 D B → sd_DA D B di ba → J x1 (nI (r + 1)) a_from a_to a_rooms a_costs a_balances a_askedRoom a_askedWeight a_askedBalance a_arcFrom a_arcTo a_arcRoom a_arcWeight di ba) :
    ∀ n j x1 D B di ba, j ≤ 34 → 34 - j < n → sd_MJ fm tt W R π r j x1 D B → sd_DA D B di ba →
      wX_measure_50 post J (nI r) f_present (nI 34) f_total n x1 (nI j) a_from a_to a_rooms a_costs a_balances a_askedRoom a_askedWeight a_askedBalance a_arcFrom a_arcTo a_arcRoom a_arcWeight di ba := by
  intro n
  induction n with
  | zero => intro j x1 D B di ba _ h _ _; omega
  | succ n ih =>
    intro j x1 D B di ba hj hn I IA
    by_cases e : j = 34
    · subst e
      refine br_t (Int32.le_refl _) ?_
      exact nm_r (nI_1 r) (K x1 D B di ba I IA)
    · have hj34 : j < 34 := by omega
      have v34 : vp_in (nI j) 34 := vp_in_nI hj34 (by decide)
      have haf := sd_AF_lt hf hj34
      have hat := sd_AT_lt hf hj34
      have vf : vp_in (nI (sd_AF fm tt j)) 7 := vp_in_nI haf (by decide)
      have vt : vp_in (nI (sd_AT fm tt j)) 7 := vp_in_nI hat (by decide)
      have cj : (nI j).toNatClampNeg = j := sd_cl (by omega)
      have cf : (nI (sd_AF fm tt j)).toNatClampNeg = sd_AF fm tt j := sd_cl (by omega)
      have ct : (nI (sd_AT fm tt j)).toNatClampNeg = sd_AT fm tt j := sd_cl (by omega)
      have skip : (R j ≤ 0 ∨ 1152921504606846976 ≤ D (sd_AF fm tt j) ∨ D (sd_AT fm tt j) ≤ D (sd_AF fm tt j) + sd_AW W j) →
          ∀ y, y = nI j + 1 → wX_measure_50 post J (nI r) f_present (nI 34) f_total n x1 y a_from a_to a_rooms a_costs a_balances a_askedRoom a_askedWeight a_askedBalance a_arcFrom a_arcTo a_arcRoom a_arcWeight di ba := by
        intro h y ey
        rw [nI_1] at ey
        subst ey
        exact ih (j + 1) x1 D B di ba (by omega) (by omega) (sd_MJ_skip hW hr I h) IA
      have bF := I.1.2.1 _ haf
      have bT := I.1.2.1 _ hat
      have bW := sd_AW_bd hW j hj34
      have bR := hRb j hj34
      have bd : ∀ z : Int, z = 1152921504606846976 ∨ (-(1048576 * ((34 * r + j : Nat) : Int)) ≤ z ∧ z ≤ 1048576 * ((34 * r + j : Nat) : Int)) → -1000000000 ≤ z ∧ z ≤ 1152921504606846976 := by
        intro z hz; omega
      have bF' := bd _ bF
      have bT' := bd _ bT
      refine br_f (nI_ge (b := 34) hj34 (by decide)) ⟨v34, ?_⟩
      rw [cj]
      refine nm_r (hA.1 j hj34) ⟨v34, nm_r (hA.2.1 j hj34) ⟨v34, ?_⟩⟩
      rw [cf, ct]
      refine sd_ble (R j) 0 (hA.2.2.1 j hj34) rfl (fun h => skip (Or.inl h)) (fun h0 => ⟨vf, ?_⟩) (by omega) (by omega) (by decide) (by decide)
      refine sd_Lle 1152921504606846976 (D (sd_AF fm tt j)) rfl (IA.1 _ haf) (fun h => skip (Or.inr (Or.inl h))) (fun h1 => ⟨vf, v34, vt, ?_⟩) (by decide) (by decide) (by omega) (by omega)
      have eW : di (sd_AF fm tt j) + a_arcWeight j = sd_l (D (sd_AF fm tt j) + sd_AW W j) := by rw [IA.1 _ haf, hA.2.2.2 j hj34, sd_la]
      refine sd_Lle (D (sd_AT fm tt j)) (D (sd_AF fm tt j) + sd_AW W j) (IA.1 _ hat) eW (fun h => skip (Or.inr (Or.inr h))) (fun h2 => ⟨vf, v34, vt, ?_⟩) (by omega) (by omega) (by omega) (by omega)
      rw [eW]
      refine nm_e ⟨vt, ?_⟩
      rw [sd_byte j (by omega)]
      refine nm_e ?_
      intro y ey
      rw [nI_1] at ey
      subst ey
      refine ih (j + 1) 1 _ _ _ _ (by omega) (by omega) (sd_MJ_relax hf hW hP hr hj34 I h0 h1 h2) ⟨?_, ?_⟩
      · exact sd_uL IA.1 rfl
      · intro v hv hrv hv5
        by_cases z : v = sd_AT fm tt j
        · subst z; rw [sd_us, sd_uds]
        · rw [sd_udn z] at hrv
          rw [sd_un z, sd_udn z]; exact IA.2 v hv hrv hv5
theorem sx_m36 {post : Int32 → SX → Prop}
    {fm tt : Nat → Nat} {W R π : Nat → Int} (hf : ∀ k, k < 7 → fm k < 5 ∧ tt k < 5)
    (hW : ∀ k, k < 7 → -1048576 ≤ W k ∧ W k ≤ 1048576) (hP : sd_Pot (sd_AF fm tt) (sd_AT fm tt) (sd_AW W) R π)
    (hRb : ∀ i, i < 34 → -1000 ≤ R i ∧ R i ≤ 1000) (hA : sd_NA fm tt W R a_arcFrom a_arcTo a_arcRoom a_arcWeight)
    (K : ∀ rr D B di ba, sd_BF (sd_AF fm tt) (sd_AT fm tt) (sd_AW W) R π 1000000000 D B → (∀ i, i < 34 → sd_sat (sd_AF fm tt) (sd_AT fm tt) (sd_AW W) R D i) → sd_DA D B di ba →
      (rr = 0 ∧ ¬ D 6 < 1152921504606846976 ∨ rr = 1 ∧ D 6 < 1152921504606846976) → post rr (f_present, nI 34, f_total, a_from, a_to, a_rooms, a_costs, a_balances, a_askedRoom, a_askedWeight, a_askedBalance, a_arcFrom, a_arcTo, a_arcRoom, a_arcWeight, di, ba)) :
    ∀ n r x1 D B di ba, r ≤ 7 → 7 - r < n → sd_BF (sd_AF fm tt) (sd_AT fm tt) (sd_AW W) R π (1048576 * ((34 * r : Nat) : Int)) D B → sd_RI (sd_AF fm tt) (sd_AT fm tt) (sd_AW W) R r 0 D →
      ((x1 = 0 ∧ ∀ i, i < 34 → sd_sat (sd_AF fm tt) (sd_AT fm tt) (sd_AW W) R D i) ∨ x1 = 1) → sd_DA D B di ba →
      wX_measure_36 post f_present (nI 34) f_total n x1 (nI r) a_from a_to a_rooms a_costs a_balances a_askedRoom a_askedWeight a_askedBalance a_arcFrom a_arcTo a_arcRoom a_arcWeight di ba := by
  intro n
  induction n with
  | zero => intro r x1 D B di ba _ h _ _ _ _; omega
  | succ n ih =>
    intro r x1 D B di ba hr hn I1 I2 I3 IA
    have fin : (∀ i, i < 34 → sd_sat (sd_AF fm tt) (sd_AT fm tt) (sd_AW W) R D i) → wX_measure_166 post f_present (nI 34) f_total a_from a_to a_rooms a_costs a_balances a_askedRoom a_askedWeight a_askedBalance a_arcFrom a_arcTo a_arcRoom a_arcWeight di ba := by
      intro hs
      have b6 := I1.2.1 6 (by decide)
      have F : sd_BF (sd_AF fm tt) (sd_AT fm tt) (sd_AW W) R π 1000000000 D B := sd_BF_mono (by omega) I1
      unfold wX_measure_166
      refine sd_Lle 1152921504606846976 (D 6) rfl (IA.1 6 (by decide)) (fun h => ?_) (fun h => ?_) (by decide) (by decide) (by omega) (by omega)
      · exact K 0 D B di ba F hs IA (Or.inl ⟨rfl, by omega⟩)
      · exact K 1 D B di ba F hs IA (Or.inr ⟨rfl, h⟩)
    by_cases e : r = 7
    · subst e
      exact br_t (by decide) (fin (sd_RI_7 (sd_net_N hf) I1 I2))
    · refine br_f (nI_ge (b := 7) (by omega) (by decide)) ?_
      rcases I3 with ⟨e0, hs⟩ | e1
      · exact br_t e0 (fin hs)
      · refine br_f (by rw [e1]; decide) ⟨35, ?_⟩
        refine sx_m50 hf hW hP (by omega) hRb hA (fun x1' D' B' di' ba' J JA => ?_) 35 0 0 D B di ba (by omega) (by omega) ⟨I1, I2, Or.inl ⟨rfl, fun i hi => absurd hi (Nat.not_lt_zero i)⟩⟩ IA
        exact ih (r + 1) x1' D' B' di' ba' (by omega) (by omega) (sd_BF_mono (by omega) J.1) (sd_RI_end J.2.1) J.2.2 JA
theorem sx_measure {post : Int32 → SX → Prop}
    {fm tt : Nat → Nat} {W R π : Nat → Int} (hf : ∀ k, k < 7 → fm k < 5 ∧ tt k < 5)
    (hW : ∀ k, k < 7 → -1048576 ≤ W k ∧ W k ≤ 1048576) (hP : sd_Pot (sd_AF fm tt) (sd_AT fm tt) (sd_AW W) R π)
    (hRb : ∀ i, i < 34 → -1000 ≤ R i ∧ R i ≤ 1000) (hA : sd_NA fm tt W R a_arcFrom a_arcTo a_arcRoom a_arcWeight)
    (K : ∀ rr D B di ba, sd_BF (sd_AF fm tt) (sd_AT fm tt) (sd_AW W) R π 1000000000 D B → (∀ i, i < 34 → sd_sat (sd_AF fm tt) (sd_AT fm tt) (sd_AW W) R D i) → sd_DA D B di ba →
      (rr = 0 ∧ ¬ D 6 < 1152921504606846976 ∨ rr = 1 ∧ D 6 < 1152921504606846976) → post rr (f_present, nI 34, f_total, a_from, a_to, a_rooms, a_costs, a_balances, a_askedRoom, a_askedWeight, a_askedBalance, a_arcFrom, a_arcTo, a_arcRoom, a_arcWeight, di, ba)) :
    wpX_measure post (f_present, nI 34, f_total, a_from, a_to, a_rooms, a_costs, a_balances, a_askedRoom, a_askedWeight, a_askedBalance, a_arcFrom, a_arcTo, a_arcRoom, a_arcWeight, a_distance, a_byArc) := by
  have D0 : ∀ v, v ≠ 5 → (if v = 5 then (0 : Int) else 1152921504606846976) = 1152921504606846976 := fun v h => if_neg h
  have go : ∀ n j di, j ≤ 7 → 7 - j < n → (∀ v, v < j → di v = sd_l (if v = 5 then 0 else 1152921504606846976)) →
      wX_measure_2 post f_present (nI 34) f_total n (nI j) a_from a_to a_rooms a_costs a_balances a_askedRoom a_askedWeight a_askedBalance a_arcFrom a_arcTo a_arcRoom a_arcWeight di a_byArc := by
    intro n
    induction n with
    | zero => intro j di _ h _; omega
    | succ n ih =>
      intro j di hj hn I
      by_cases e : j = 7
      · subst e
        refine br_t (by decide) ⟨8, ?_⟩
        refine sx_m36 hf hW hP hRb hA K 8 0 1 (fun v => if v = 5 then 0 else 1152921504606846976) (fun _ => 0) di _ (by omega) (by omega) ?_ ?_ (Or.inr rfl) ⟨I, fun v _ h h5 => ?_⟩
        · refine ⟨rfl, fun v hv => ?_, fun v hv h => ?_, fun v hv h h5 => ?_, fun v hv h => ?_⟩
          · by_cases z : v = 5
            · subst z; exact Or.inr ⟨by decide, by decide⟩
            · exact Or.inl (D0 v z)
          · by_cases z : v = 5
            · subst z; show π 5 - π 5 ≤ 0; omega
            · have h' : (if v = 5 then (0 : Int) else 1152921504606846976) < 1152921504606846976 := h
              rw [D0 v z] at h'; omega
          · have h' : (if v = 5 then (0 : Int) else 1152921504606846976) < 1152921504606846976 := h
            rw [D0 v h5] at h'; omega
          · by_cases z : v = 5
            · exact ⟨0, z⟩
            · have h' : (if v = 5 then (0 : Int) else 1152921504606846976) < 1152921504606846976 := h
              rw [D0 v z] at h'; omega
        · refine ⟨fun v c hp => ?_, fun i hi => absurd hi (Nat.not_lt_zero i)⟩
          rw [hp.1, hp.2]; decide
        · have h' : (if v = 5 then (0 : Int) else 1152921504606846976) < 1152921504606846976 := h
          rw [D0 v h5] at h'; omega
      · have hj7 : j < 7 := by omega
        have v7 : vp_in (nI j) 7 := vp_in_nI hj7 (by decide)
        refine br_f (nI_ge (b := 7) hj7 (by decide)) ?_
        rw [sd_cl (show j < 2147483648 by omega)]
        refine sd_neq j 5 rfl rfl (fun h => ?_) (fun h => ?_)
        · refine ⟨v7, nm_e (nm_r (nI_1 j) (ih (j + 1) _ (by omega) (by omega) ?_))⟩
          intro v hv
          by_cases z : v = j
          · subst z; rw [sd_uLs, if_pos h]; rfl
          · rw [sd_uLn z]; exact I v (by omega)
        · refine ⟨v7, nm_e (nm_r (nI_1 j) (ih (j + 1) _ (by omega) (by omega) ?_))⟩
          intro v hv
          by_cases z : v = j
          · subst z; rw [sd_uLs, if_neg h]; rfl
          · rw [sd_uLn z]; exact I v (by omega)
  exact ⟨8, go 8 0 _ (by omega) (by omega) (fun v hv => absurd hv (Nat.not_lt_zero v))⟩
end
end
section
/-! sending along the cheapest way -/
theorem sd_xor : ∀ i, i < 34 → nI i ^^^ 1 = nI (sd_pr i) := by decide +kernel
section
variable {f_present : Int32} {f_arcs : Int32} {f_total : Int64} {a_from : Nat → Int32} {a_to : Nat → Int32} {a_rooms : Nat → Int32} {a_costs : Nat → Int32} {a_balances : Nat → Int32} {a_askedRoom : Nat → Int32} {a_askedWeight : Nat → Int64} {a_askedBalance : Nat → Int32} {a_arcFrom : Nat → Int32} {a_arcTo : Nat → Int32} {a_arcRoom : Nat → Int32} {a_arcWeight : Nat → Int64} {a_distance : Nat → Int64} {a_byArc : Nat → Int32}
theorem sx_push52 {post : SX → Prop} {fm tt : Nat → Nat} {W R0 R1 π π' D : Nat → Int} {B : Nat → Nat} {T L a : Int} (hf : ∀ k, k < 7 → fm k < 5 ∧ tt k < 5)
    (ha : 1 ≤ a ∧ a ≤ 1048576) (hF : ∀ i, i < 34 → a_arcFrom i = nI (sd_AF fm tt i)) (F : sd_BF (sd_AF fm tt) (sd_AT fm tt) (sd_AW W) R0 π L D B)
    (hti : ∀ v, v < 7 → D v < 1152921504606846976 → v ≠ 5 → sd_AW W (B v) + π' (sd_AF fm tt (B v)) = π' v)
    (IA : sd_DA D B a_distance a_byArc)
    (K : ∀ R' aR, sd_MI (sd_AF fm tt) (sd_AT fm tt) (sd_AW W) π' D B R1 a R' 5 → (∀ i, i < 34 → aR i = sd_i (R' i)) → post (f_present, f_arcs, sd_l (T + a * D 6), a_from, a_to, a_rooms, a_costs, a_balances, a_askedRoom, a_askedWeight, a_askedBalance, a_arcFrom, a_arcTo, aR, a_arcWeight, a_distance, a_byArc)) :
    ∀ n m x R' aR, x < 7 → D x < 1152921504606846976 → sd_ch (sd_AF fm tt) B m x → m < n → sd_MI (sd_AF fm tt) (sd_AT fm tt) (sd_AW W) π' D B R1 a R' x →
      sd_al (sd_AF fm tt) B R' a m x → (∀ i, i < 34 → aR i = sd_i (R' i)) → wX_push_52 post (sd_i a) f_present f_arcs (sd_l T) n (nI x) a_from a_to a_rooms a_costs a_balances a_askedRoom a_askedWeight a_askedBalance a_arcFrom a_arcTo aR a_arcWeight a_distance a_byArc := by
  intro n
  induction n with
  | zero => intro m x R' aR _ _ _ h _ _ _; omega
  | succ n ih =>
    intro m x R' aR hx hr hc hm I hal hR
    by_cases e : x = 5
    · subst e
      refine br_t rfl (nm_r (e' := sd_l (T + a * D 6)) ?_ (K R' aR I hR))
      rw [IA.1 6 (by decide), sd_il (by omega) (by omega), sd_lm, sd_la]
    · cases m with
      | zero => exact absurd hc e
      | succ m =>
        obtain ⟨p1, p2, p3, p4, p5⟩ := F.2.2.2.1 x hx hr e
        have hB := IA.2 x hx hr e
        have v7 : vp_in (nI x) 7 := vp_in_nI hx (by decide)
        have v34 : vp_in (nI (B x)) 34 := vp_in_nI p1 (by decide)
        have hpr := sd_pr_lt p1
        have v34' : vp_in (nI (sd_pr (B x))) 34 := vp_in_nI hpr (by decide)
        have cB : (nI (B x)).toNatClampNeg = B x := sd_cl (by omega)
        have cP : (nI (sd_pr (B x))).toNatClampNeg = sd_pr (B x) := sd_cl (by omega)
        refine br_f (fun z => e ((nI_eq (b := 5) (by omega) (by decide)).mp z)) ⟨v7, ?_⟩
        rw [sd_cl (show x < 2147483648 by omega), hB]
        refine nm_e ?_
        rw [sd_xor (B x) p1, cB, cP, hF (B x) p1]
        refine ⟨v34, v34, nm_e ⟨v34', v34', nm_e ⟨v7, v34, nm_e ?_⟩⟩⟩
        refine ih m (sd_AF fm tt (B x)) (sd_mv R' (B x) a) _ (sd_AF_lt hf p1) p4 hc.2 (by omega) ?_ ?_ ?_
        · exact sd_MI_s hx hr e p1 p2 (sd_net_pr fm tt W) (hti x hx hr e) (by omega) hal.1 I
        · exact sd_al_s (sd_net_N hf) F (by omega) p2 hc m (sd_AF fm tt (B x)) (sd_AF_lt hf p1) p4 (Nat.le_refl m) hc.2 hal.2
        · unfold sd_mv
          refine sd_uI (sd_uI hR ?_) ?_
          · rw [hR _ p1, sd_is]
          · rw [sd_un (sd_pr_ne (B x)), hR _ hpr, sd_ia]
theorem sx_push6 {post : SX → Prop} {fm tt : Nat → Nat} {W R π D : Nat → Int} {B : Nat → Nat} {L : Int} {N : Nat} (hf : ∀ k, k < 7 → fm k < 5 ∧ tt k < 5)
    (hRb : ∀ i, i < 34 → -1000 ≤ R i ∧ R i ≤ 1000) (hA : sd_NA fm tt W R a_arcFrom a_arcTo a_arcRoom a_arcWeight) (F : sd_BF (sd_AF fm tt) (sd_AT fm tt) (sd_AW W) R π L D B)
    (IA : sd_DA D B a_distance a_byArc)
    (K : ∀ a, 1 ≤ a → a ≤ 1048576 → sd_al (sd_AF fm tt) B R a N 6 → ∃ n52 : Nat, wX_push_52 post (sd_i a) f_present f_arcs f_total n52 6 a_from a_to a_rooms a_costs a_balances a_askedRoom a_askedWeight a_askedBalance a_arcFrom a_arcTo a_arcRoom a_arcWeight a_distance a_byArc) :
    ∀ n m x a, x < 7 → D x < 1152921504606846976 → sd_ch (sd_AF fm tt) B m x → m < n → 1 ≤ a → a ≤ 1048576 →
      (∀ a', a' ≤ a → sd_al (sd_AF fm tt) B R a' m x → sd_al (sd_AF fm tt) B R a' N 6) → wX_push_6 post f_present f_arcs f_total a_from a_to a_rooms a_costs a_balances a_askedRoom a_askedWeight a_askedBalance a_arcFrom a_arcTo a_arcRoom a_arcWeight a_distance a_byArc n (sd_i a) (nI x) := by
  intro n
  induction n with
  | zero => intro m x a _ _ _ h _ _ _; omega
  | succ n ih =>
    intro m x a hx hr hc hm ha1 ha2 hac
    by_cases e : x = 5
    · subst e
      cases m with
      | zero => exact br_t rfl (K a ha1 ha2 (hac a (Int.le_refl a) trivial))
      | succ m => exact absurd rfl hc.1
    · cases m with
      | zero => exact absurd hc e
      | succ m =>
        obtain ⟨p1, p2, p3, p4, p5⟩ := F.2.2.2.1 x hx hr e
        have hB := IA.2 x hx hr e
        have v7 : vp_in (nI x) 7 := vp_in_nI hx (by decide)
        have v34 : vp_in (nI (B x)) 34 := vp_in_nI p1 (by decide)
        have cB : (nI (B x)).toNatClampNeg = B x := sd_cl (by omega)
        have cx : (nI x).toNatClampNeg = x := sd_cl (by omega)
        have bR := hRb _ p1
        have step : ∀ a1, 1 ≤ a1 → a1 ≤ a → a1 ≤ R (B x) → wX_push_33 post (wX_push_6 post f_present f_arcs f_total a_from a_to a_rooms a_costs a_balances a_askedRoom a_askedWeight a_askedBalance a_arcFrom a_arcTo a_arcRoom a_arcWeight a_distance a_byArc n) (nI x) (sd_i a1) f_present f_arcs f_total a_from a_to a_rooms a_costs a_balances a_askedRoom a_askedWeight a_askedBalance a_arcFrom a_arcTo a_arcRoom a_arcWeight a_distance a_byArc := by
          intro a1 h1 h2 h3
          unfold wX_push_33
          rw [cx, hB]
          refine ⟨v7, v34, ?_⟩
          rw [cB, hA.1 _ p1]
          refine nm_e (ih m _ a1 (sd_AF_lt hf p1) p4 hc.2 (by omega) h1 (by omega) ?_)
          intro a' ha' hal
          exact hac a' (by omega) ⟨by omega, hal⟩
        refine br_f (fun z => e ((nI_eq (b := 5) (by omega) (by decide)).mp z)) ⟨v7, ?_⟩
        rw [cx, hB, cB]
        refine ⟨v34, nm_r (hA.2.2.1 _ p1) ?_⟩
        exact sd_ble a (R (B x)) rfl rfl (fun h => step a ha1 (Int.le_refl a) h) (fun h => step (R (B x)) (by omega) (by omega) (Int.le_refl _)) (by omega) (by omega) (by omega) (by omega)
theorem sx_push {post : SX → Prop} {fm tt : Nat → Nat} {W c b R π D : Nat → Int} {B : Nat → Nat} {T : Int} {t : Nat} (hf : ∀ k, k < 7 → fm k < 5 ∧ tt k < 5)
    (hW : ∀ k, k < 7 → -1048576 ≤ W k ∧ W k ≤ 1048576)
    (I : sd_SI fm tt W c b R T t) (hA : sd_NA fm tt W R a_arcFrom a_arcTo a_arcRoom a_arcWeight) (hP : sd_Pot (sd_AF fm tt) (sd_AT fm tt) (sd_AW W) R π)
    (F : sd_BF (sd_AF fm tt) (sd_AT fm tt) (sd_AW W) R π 1000000000 D B) (hS : ∀ i, i < 34 → sd_sat (sd_AF fm tt) (sd_AT fm tt) (sd_AW W) R D i)
    (IA : sd_DA D B a_distance a_byArc) (h6 : D 6 < 1152921504606846976)
    (K : ∀ R' T' aR, sd_SI fm tt W c b R' T' (t + 1) → sd_NA fm tt W R' a_arcFrom a_arcTo aR a_arcWeight → post (f_present, f_arcs, sd_l T', a_from, a_to, a_rooms, a_costs, a_balances, a_askedRoom, a_askedWeight, a_askedBalance, a_arcFrom, a_arcTo, aR, a_arcWeight, a_distance, a_byArc)) :
    wpX_push post (f_present, f_arcs, sd_l T, a_from, a_to, a_rooms, a_costs, a_balances, a_askedRoom, a_askedWeight, a_askedBalance, a_arcFrom, a_arcTo, a_arcRoom, a_arcWeight, a_distance, a_byArc) := by
  have hRb : ∀ i, i < 34 → -1000 ≤ R i ∧ R i ≤ 1000 := by
    intro i hi
    have h1 := I.1 i hi
    have h2 := I.1 _ (sd_pr_lt hi)
    have h3 := I.2.2.2.2.2.2 i hi
    omega
  obtain ⟨π', hP', hπ'⟩ := sd_newpot (sd_net_N hf) hP (sd_AW_bd hW) (by decide) F hS
  obtain ⟨N, hN⟩ := F.2.2.2.2 6 (by decide) h6
  have hti : ∀ v, v < 7 → D v < 1152921504606846976 → v ≠ 5 → sd_AW W (B v) + π' (sd_AF fm tt (B v)) = π' v := by
    intro v hv hr h5
    obtain ⟨p1, p2, p3, p4, p5⟩ := F.2.2.2.1 v hv hr h5
    have h := hS (B v) p1 p3 p4
    rw [p2] at h
    rw [hπ' v hv hr, hπ' _ (sd_AF_lt hf p1) p4]; omega
  refine ⟨N + 1, sx_push6 hf hRb hA F IA (fun a ha1 ha2 hal => ⟨N + 1, ?_⟩) (N + 1) N 6 1048576 (by decide) h6 hN (by omega) (by decide) (by decide) (fun _ _ h => h)⟩
  refine sx_push52 hf ⟨ha1, ha2⟩ hA.1 F hti IA (fun R' aR J hR => ?_) (N + 1) N 6 R a_arcRoom (by decide) h6 hN (by omega) (sd_MI_0 I.1 hP') hal hA.2.2.1
  exact K R' _ aR (sd_SI_push hf I F hS ha1 J) ⟨hA.1, hA.2.1, hR, hA.2.2.2⟩
end
end
section
/-! the question is answered -/
/-- r: whether; T, x: the weight and the numbers found -/
def sd_SP (fm tt : Nat → Nat) (W c b : Nat → Int) (r : Int32) (T : Int) (x : Nat → Int) : Prop :=
  (r = 1 ∧ sd_Fe fm tt c b x ∧ T = sd_ct W x ∧ ∀ y, sd_Fe fm tt c b y → sd_ct W x ≤ sd_ct W y) ∨ (r = 0 ∧ sd_Ce fm tt c b)
theorem sd_14 : ∀ p, p < 5 → nI (14 + 4 * p) + 4 = nI (14 + 4 * (p + 1)) ∧ nI (14 + 4 * p) + 2 = nI (16 + 4 * p) := by decide +kernel
section
variable {f_present : Int32} {f_arcs : Int32} {f_total : Int64} {a_from : Nat → Int32} {a_to : Nat → Int32} {a_rooms : Nat → Int32} {a_costs : Nat → Int32} {a_balances : Nat → Int32} {a_askedRoom : Nat → Int32} {a_askedWeight : Nat → Int64} {a_askedBalance : Nat → Int32} {a_arcFrom : Nat → Int32} {a_arcTo : Nat → Int32} {a_arcRoom : Nat → Int32} {a_arcWeight : Nat → Int64} {a_distance : Nat → Int64} {a_byArc : Nat → Int32}
theorem sx_s67 {post : Int32 → SX → Prop} {R : Nat → Int} (hR : ∀ i, i < 34 → a_arcRoom i = sd_i (R i)) (hRb : ∀ i, i < 34 → -1000 ≤ R i ∧ R i ≤ 1000)
    (K : ∀ r, (r = 0 ∧ ((∃ p, p < 5 ∧ (R (14 + 4 * p) ≠ 0 ∨ R (16 + 4 * p) ≠ 0))) ∨ r = 1 ∧ ∀ p, p < 5 → R (14 + 4 * p) = 0 ∧ R (16 + 4 * p) = 0) → post r (f_present, nI 34, f_total, a_from, a_to, a_rooms, a_costs, a_balances, a_askedRoom, a_askedWeight, a_askedBalance, a_arcFrom, a_arcTo, a_arcRoom, a_arcWeight, a_distance, a_byArc)) :
    ∀ n p x2, p ≤ 5 → 5 - p < n → (x2 = 0 ∧ (∃ p, p < 5 ∧ (R (14 + 4 * p) ≠ 0 ∨ R (16 + 4 * p) ≠ 0)) ∨ x2 = 1 ∧ ∀ q, q < p → R (14 + 4 * q) = 0 ∧ R (16 + 4 * q) = 0) →
      wX_solve_67 post f_present (nI 34) f_total a_from a_to a_rooms a_costs a_balances a_askedRoom a_askedWeight a_askedBalance a_arcFrom a_arcTo a_arcRoom a_arcWeight a_distance a_byArc n x2 (nI (14 + 4 * p)) := by
  intro n
  induction n with
  | zero => intro p x2 _ h _; omega
  | succ n ih =>
    intro p x2 hp hn I
    by_cases e : p = 5
    · subst e
      refine br_t (Int32.le_refl _) ⟨?_, K x2 I⟩
      rcases I with ⟨e, _⟩ | ⟨e, _⟩ <;> rw [e] <;> rfl
    · have hp5 : p < 5 := by omega
      have c14 : (nI (14 + 4 * p)).toNatClampNeg = 14 + 4 * p := sd_cl (by omega)
      have c16 : (nI (16 + 4 * p)).toNatClampNeg = 16 + 4 * p := sd_cl (by omega)
      have b14 := hRb (14 + 4 * p) (by omega)
      have b16 := hRb (16 + 4 * p) (by omega)
      refine br_f (nI_ge (b := 34) (by omega) (by decide)) ?_
      rcases I with ⟨e0, hb⟩ | ⟨e1, hg⟩
      · exact br_t e0 (nm_r (sd_14 p hp5).1 (ih (p + 1) 0 (by omega) (by omega) (Or.inl ⟨rfl, hb⟩)))
      · refine br_f (by rw [e1]; decide) ⟨vp_in_nI (by omega) (by decide), ?_⟩
        rw [(sd_14 p hp5).1, (sd_14 p hp5).2, c14, c16]
        refine sd_beq (R (14 + 4 * p)) 0 (hR _ (by omega)) rfl (fun h => ⟨vp_in_nI (by omega) (by decide), ?_⟩) (fun h => ?_) (by omega) (by omega) (by decide) (by decide)
        · refine sd_beq (R (16 + 4 * p)) 0 (hR _ (by omega)) rfl (fun h' => ?_) (fun h' => ?_) (by omega) (by omega) (by decide) (by decide)
          · refine nm_e (ih (p + 1) 1 (by omega) (by omega) (Or.inr ⟨rfl, fun q hq => ?_⟩))
            by_cases z : q = p
            · subst z; exact ⟨h, h'⟩
            · exact hg q (by omega)
          · exact nm_e (ih (p + 1) 0 (by omega) (by omega) (Or.inl ⟨rfl, p, hp5, Or.inr h'⟩))
        · exact nm_e (ih (p + 1) 0 (by omega) (by omega) (Or.inl ⟨rfl, p, hp5, Or.inl h⟩))
theorem sx_s67' {post : Int32 → SX → Prop} {R : Nat → Int} (hR : ∀ i, i < 34 → a_arcRoom i = sd_i (R i)) (hRb : ∀ i, i < 34 → -1000 ≤ R i ∧ R i ≤ 1000)
    (K : post 0 (f_present, nI 34, f_total, a_from, a_to, a_rooms, a_costs, a_balances, a_askedRoom, a_askedWeight, a_askedBalance, a_arcFrom, a_arcTo, a_arcRoom, a_arcWeight, a_distance, a_byArc)) :
    ∀ n p, p ≤ 5 → 5 - p < n → wX_solve_67 post f_present (nI 34) f_total a_from a_to a_rooms a_costs a_balances a_askedRoom a_askedWeight a_askedBalance a_arcFrom a_arcTo a_arcRoom a_arcWeight a_distance a_byArc n 0 (nI (14 + 4 * p)) := by
  intro n
  induction n with
  | zero => intro p _ h; omega
  | succ n ih =>
    intro p hp hn
    by_cases e : p = 5
    · subst e
      exact br_t (Int32.le_refl _) ⟨rfl, K⟩
    · have hp5 : p < 5 := by omega
      exact br_f (nI_ge (b := 34) (by omega) (by decide)) (br_t rfl (nm_r (sd_14 p hp5).1 (ih (p + 1) (by omega) (by omega))))
theorem sx_s30 {post : Int32 → SX → Prop} {fm tt : Nat → Nat} {W c b : Nat → Int} {s : Int} (hf : ∀ k, k < 7 → fm k < 5 ∧ tt k < 5)
    (hW : ∀ k, k < 7 → -1048576 ≤ W k ∧ W k ≤ 1048576) (hs : s = sd_sm b 5) (hsb : -10000 ≤ s ∧ s ≤ 10000)
    (K : ∀ r T (R : Nat → Int) (aR : Nat → Int32) (di : Nat → Int64) (ba : Nat → Int32), sd_SP fm tt W c b r T (fun k => R (2 * k + 1)) → (∀ i, i < 34 → aR i = sd_i (R i)) →
      post r (f_present, nI 34, sd_l T, a_from, a_to, a_rooms, a_costs, a_balances, a_askedRoom, a_askedWeight, a_askedBalance, a_arcFrom, a_arcTo, aR, a_arcWeight, di, ba)) :
    ∀ n t T R aR di ba, t ≤ 128 → 128 - t < n → sd_SI fm tt W c b R T t → sd_NA fm tt W R a_arcFrom a_arcTo aR a_arcWeight →
      wX_solve_30 post (sd_i s) n (nI t) f_present (nI 34) (sd_l T) a_from a_to a_rooms a_costs a_balances a_askedRoom a_askedWeight a_askedBalance a_arcFrom a_arcTo aR a_arcWeight di ba := by
  intro n
  induction n with
  | zero => intro t T R aR di ba _ h _ _; omega
  | succ n ih =>
    intro t T R aR di ba ht hn I hA
    have h5 : sd_ps sd_cS R + t ≤ 127 := I.2.2.2.2.1
    have h0 : 0 ≤ sd_ps sd_cS R := by
      rw [sd_ps_S]
      exact sd_sm_nn fun p hp => I.1 _ (by omega)
    have hRb : ∀ i, i < 34 → -1000 ≤ R i ∧ R i ≤ 1000 := by
      intro i hi
      have h1 := I.1 i hi
      have h2 := I.1 _ (sd_pr_lt hi)
      have h3 := I.2.2.2.2.2.2 i hi
      omega
    refine br_f (nI_ge (b := 128) (by omega) (by decide)) ?_
    obtain ⟨π, hP⟩ := I.2.1
    refine sx_measure hf hW hP hRb hA (fun rr D B di' ba' F hS IA hrr => ?_)
    rcases hrr with ⟨er, h6⟩ | ⟨er, h6⟩
    · refine br_t er ?_
      unfold wX_solve_54
      refine sd_beq s 0 rfl rfl (fun z => ⟨6, ?_⟩) (fun z => ⟨6, ?_⟩) (by omega) (by omega) (by decide) (by decide)
      · refine sx_s67 hA.2.2.1 hRb (fun r hr => K r T R aR di' ba' ?_ hA.2.2.1) 6 0 1 (by omega) (by omega) (Or.inr ⟨rfl, fun q hq => absurd hq (Nat.not_lt_zero q)⟩)
        rcases hr with ⟨e, h⟩ | ⟨e, h⟩
        · exact Or.inr ⟨e, sd_end_cert hf I F hS (sd_AW_bd hW) (by decide) h6 (Or.inr h)⟩
        · obtain ⟨q1, q2, q3⟩ := sd_end_met hf I h
          exact Or.inl ⟨e, q1, q2, q3⟩
      · refine sx_s67' hA.2.2.1 hRb (K 0 T R aR di' ba' ?_ hA.2.2.1) 6 0 (by omega) (by omega)
        exact Or.inr ⟨rfl, Or.inl (by rw [← hs]; exact z)⟩
    · refine br_f (by rw [er]; decide) ?_
      refine sx_push hf hW I hA hP F hS IA h6 (fun R' T' aR' I' hA' => ?_)
      exact nm_r (nI_1 t) (ih (t + 1) T' R' aR' di' ba' (by omega) (by omega) I' hA')
end
section
variable {f_present : Int32} {f_arcs : Int32} {f_total : Int64} {a_from : Nat → Int32} {a_to : Nat → Int32} {a_rooms : Nat → Int32} {a_costs : Nat → Int32} {a_balances : Nat → Int32} {a_askedRoom : Nat → Int32} {a_askedWeight : Nat → Int64} {a_askedBalance : Nat → Int32} {a_arcFrom : Nat → Int32} {a_arcTo : Nat → Int32} {a_arcRoom : Nat → Int32} {a_arcWeight : Nat → Int64} {a_distance : Nat → Int64} {a_byArc : Nat → Int32}
theorem sx_solve {post : Int32 → SX → Prop} {fm tt : Nat → Nat} {W c b : Nat → Int} (hf : ∀ k, k < 7 → fm k < 5 ∧ tt k < 5)
    (hft : ∀ k, k < 7 → a_from k = nI (fm k) ∧ a_to k = nI (tt k)) (haR : ∀ k, k < 7 → a_askedRoom k = sd_i (c k)) (haW : ∀ k, k < 7 → a_askedWeight k = sd_l (W k))
    (haB : ∀ p, p < 5 → a_askedBalance p = sd_i (b p))
    (hc : ∀ k, k < 7 → 0 ≤ c k) (hW : ∀ k, k < 7 → -1048576 ≤ W k ∧ W k ≤ 1048576)
    (hb : ∀ p, p < 5 → -500 ≤ b p ∧ b p ≤ 500) (hs : sd_sm (fun p => sd_pos (b p)) 5 + sd_sm c 7 ≤ 127)
    (K : ∀ r T (R : Nat → Int) (aB aF aT aR : Nat → Int32) (aW di : Nat → Int64) (ba : Nat → Int32), sd_SP fm tt W c b r T (fun k => R (2 * k + 1)) → (∀ i, i < 34 → aR i = sd_i (R i)) →
      post r (f_present, nI 34, sd_l T, a_from, a_to, a_rooms, a_costs, a_balances, a_askedRoom, a_askedWeight, aB, aF, aT, aR, aW, di, ba)) :
    wpX_solve post (f_present, f_arcs, f_total, a_from, a_to, a_rooms, a_costs, a_balances, a_askedRoom, a_askedWeight, a_askedBalance, a_arcFrom, a_arcTo, a_arcRoom, a_arcWeight, a_distance, a_byArc) := by
  have hp0 : 0 ≤ sd_sm (fun p => sd_pos (b p)) 5 := sd_sm_nn fun p _ => (sd_pos_neg (b p)).2.1
  have hc' : ∀ k, k < 7 → 0 ≤ c k ∧ c k ≤ 127 := by
    intro k hk
    have h1 := sd_sm_one (f := c) (n := 7) hc k hk
    exact ⟨hc k hk, by omega⟩
  have hx : ∀ k, k < 7 → 0 ≤ sd_x0 W c k ∧ sd_x0 W c k ≤ c k := by
    intro k hk
    have := hc k hk
    unfold sd_x0
    by_cases e : W k < 0
    · rw [if_pos e]; omega
    · rw [if_neg e]; omega
  have hox : ∀ p, -127 ≤ sd_ox fm tt (sd_x0 W c) p ∧ sd_ox fm tt (sd_x0 W c) p ≤ 127 := by
    intro p
    have h1 := sd_ox_bd (fm := fm) (tt := tt) (x := sd_x0 W c) (fun k hk => (hx k hk).1) p
    have h2 : sd_sm (sd_x0 W c) 7 ≤ sd_sm c 7 := sd_sm_le fun k hk => (hx k hk).2
    omega
  have hI := sd_SI_0 hf hc hb hs (sd_RL_L0 fm tt W c b)
  unfold wpX_solve
  refine sx_layOut (b := b) hf hft haR haW haB hc' hW (fun p hp => by have := hox p; have := hb p hp; omega) (fun aB aF aT aR aW hB hL => ⟨6, ?_⟩)
  have go : ∀ n p, p ≤ 5 → 5 - p < n → wX_solve_8 post f_present (nI 34) (sd_l (sd_ct W (sd_x0 W c))) a_from a_to a_rooms a_costs a_balances a_askedRoom a_askedWeight aB aF aT aR aW a_distance a_byArc n
      (sd_i (sd_sm (fun q => b q - sd_ox fm tt (sd_x0 W c) q) p)) (nI p) := by
    intro n
    induction n with
    | zero => intro p _ h; omega
    | succ n ih =>
      intro p hp hn
      by_cases e : p = 5
      · subst e
        have es : sd_sm (fun q => b q - sd_ox fm tt (sd_x0 W c) q) 5 = sd_sm b 5 := by
          rw [sd_sm_sub, sd_ox_1 hf]; omega
        have hsb : -10000 ≤ sd_sm b 5 ∧ sd_sm b 5 ≤ 10000 := by
          have h0 := hb 0 (by decide)
          have h1 := hb 1 (by decide)
          have h2 := hb 2 (by decide)
          have h3 := hb 3 (by decide)
          have h4 := hb 4 (by decide)
          have e5 : sd_sm b 5 = 0 + b 0 + b 1 + b 2 + b 3 + b 4 := rfl
          omega
        rw [es]
        refine br_t (by decide) ⟨129, ?_⟩
        exact sx_s30 hf hW rfl hsb (fun r T R aR' di ba hSP hR => K r T R aB aF aT aR' aW di ba hSP hR) 129 0 _ _ _ _ _ (by omega) (by omega) hI ⟨hL.1, hL.2.1, hL.2.2.1, hL.2.2.2⟩
      · have hp5 : p < 5 := by omega
        refine br_f (nI_ge (b := 5) hp5 (by decide)) ⟨vp_in_nI hp5 (by decide), ?_⟩
        rw [sd_cl (show p < 2147483648 by omega), hB p hp5, sd_ia]
        exact nm_e (nm_r (nI_1 p) (ih (p + 1) (by omega) (by omega)))
  exact go 6 0 (by omega) (by omega)
end
end
section
/-! the component's questions, each from what is kept -/
def sd_TN (fm tt : Nat → Nat) (W c b : Nat → Int) (r : Int32) : Prop :=
  (∃ x, sd_Fe fm tt c b x ∧ r = sd_i (sd_ct W x) ∧ ∀ y, sd_Fe fm tt c b y → sd_ct W x ≤ sd_ct W y) ∨ (r = -100000 ∧ sd_Ce fm tt c b)
/-- number k of a cheapest shipment -/
def sd_NK (fm tt : Nat → Nat) (W c b : Nat → Int) (k : Nat) (r : Int32) : Prop :=
  (∃ x, sd_Fe fm tt c b x ∧ r = sd_i (x k) ∧ ∀ y, sd_Fe fm tt c b y → sd_ct W x ≤ sd_ct W y) ∨ (r = -1 ∧ sd_Ce fm tt c b)
def sd_PO (fm tt : Nat → Nat) (c b : Nat → Int) (r : Int32) : Prop :=
  (r = 1 ∧ ∃ x, sd_Fe fm tt c b x) ∨ (r = 0 ∧ sd_Ce fm tt c b)
theorem sd_hs {c b : Nat → Int} (P : Nat) (hc : ∀ k, k < 7 → c k ≤ 5) (hb : ∀ p, p < 5 → b p ≤ 13 ∨ (p = P ∧ b p ≤ 40)) : sd_sm (fun p => sd_pos (b p)) 5 + sd_sm c 7 ≤ 127 := by
  have h1 : sd_sm (fun p => sd_pos (b p)) 5 ≤ sd_sm (fun p => if p = P then 40 else 13) 5 := sd_sm_le fun p hp => by
    show sd_pos (b p) ≤ if p = P then 40 else 13
    have h := hb p hp
    unfold sd_pos
    by_cases z : b p ≤ 0
    · rw [if_pos z]
      by_cases y : p = P
      · rw [if_pos y]; decide
      · rw [if_neg y]; decide
    · rw [if_neg z]
      by_cases y : p = P
      · rw [if_pos y]; omega
      · rw [if_neg y]; omega
  have h2 : sd_sm (fun p => if p = P then 40 else 13) 5 ≤ 92 := by
    by_cases y : P < 5
    · have h := sd_sm_u (f := fun _ => 13) (g := fun p => if p = P then 40 else 13) y (fun i _ e => if_neg e)
      have h' : sd_sm (fun p => if p = P then 40 else 13) 5 = sd_sm (fun _ => 13) 5 + ((if P = P then 40 else 13) - 13) := h
      rw [if_pos rfl] at h'
      rw [h']; decide
    · have h : sd_sm (fun p => if p = P then 40 else 13) 5 = sd_sm (fun _ => 13) 5 := sd_sm_c fun p hp => if_neg (by omega)
      rw [h]; decide
  have h3 : sd_sm c 7 ≤ sd_sm (fun _ => 5) 7 := sd_sm_le hc
  have h4 : sd_sm (fun _ => 5) 7 = 35 := rfl
  omega
theorem sd_cap_b {m : Nat} {rm : Nat → Int} {N : Int} (h0 : 0 ≤ N) (h : ∀ k, k < 7 → 0 ≤ rm k ∧ rm k ≤ N) : ∀ k, k < 7 → 0 ≤ sd_cap m rm k ∧ sd_cap m rm k ≤ N := by
  intro k hk
  have := h k hk
  unfold sd_cap
  by_cases e : m.testBit k = true
  · rw [if_pos e]; omega
  · rw [if_neg e]; omega
section
variable {f_present : Int32} {f_arcs : Int32} {f_total : Int64} {a_from : Nat → Int32} {a_to : Nat → Int32} {a_rooms : Nat → Int32} {a_costs : Nat → Int32} {a_balances : Nat → Int32} {a_askedRoom : Nat → Int32} {a_askedWeight : Nat → Int64} {a_askedBalance : Nat → Int32} {a_arcFrom : Nat → Int32} {a_arcTo : Nat → Int32} {a_arcRoom : Nat → Int32} {a_arcWeight : Nat → Int64} {a_distance : Nat → Int64} {a_byArc : Nat → Int32}
theorem sx_num {post : Int32 → Prop} {R : Nat → Int} (hR : ∀ i, i < 34 → a_arcRoom i = sd_i (R i)) {k : Nat} (hk : k < 7) (h : post (sd_i (R (2 * k + 1)))) : wpX_numberOf post (f_present, f_arcs, f_total, a_from, a_to, a_rooms, a_costs, a_balances, a_askedRoom, a_askedWeight, a_askedBalance, a_arcFrom, a_arcTo, a_arcRoom, a_arcWeight, a_distance, a_byArc) (nI k) := by
  unfold wpX_numberOf
  dsimp only
  rw [(sd_2k k hk).2, sd_cl (show 2 * k + 1 < 2147483648 by omega), hR _ (by omega)]
  exact ⟨vp_in_nI (by omega) (by decide), h⟩
theorem sx_tot {post : Int32 → SX → Prop} {fm tt : Nat → Nat} {W c b : Nat → Int} (hf : ∀ k, k < 7 → fm k < 5 ∧ tt k < 5)
    (hft : ∀ k, k < 7 → a_from k = nI (fm k) ∧ a_to k = nI (tt k)) (haR : ∀ k, k < 7 → a_askedRoom k = sd_i (c k)) (haW : ∀ k, k < 7 → a_askedWeight k = sd_l (W k))
    (haB : ∀ p, p < 5 → a_askedBalance p = sd_i (b p))
    (hc : ∀ k, k < 7 → 0 ≤ c k) (hW : ∀ k, k < 7 → -1048576 ≤ W k ∧ W k ≤ 1048576)
    (hb : ∀ p, p < 5 → -500 ≤ b p ∧ b p ≤ 500) (hs : sd_sm (fun p => sd_pos (b p)) 5 + sd_sm c 7 ≤ 127)
    (K : ∀ r (s_arcs : Int32) (s_total : Int64) (s_askedRoom : Nat → Int32) (s_askedWeight : Nat → Int64) (s_askedBalance : Nat → Int32) (s_arcFrom : Nat → Int32) (s_arcTo : Nat → Int32) (s_arcRoom : Nat → Int32) (s_arcWeight : Nat → Int64) (s_distance : Nat → Int64) (s_byArc : Nat → Int32), sd_TN fm tt W c b r → post r (f_present, s_arcs, s_total, a_from, a_to, a_rooms, a_costs, a_balances, s_askedRoom, s_askedWeight, s_askedBalance, s_arcFrom, s_arcTo, s_arcRoom, s_arcWeight, s_distance, s_byArc)) : wpX_totalOrNone post (f_present, f_arcs, f_total, a_from, a_to, a_rooms, a_costs, a_balances, a_askedRoom, a_askedWeight, a_askedBalance, a_arcFrom, a_arcTo, a_arcRoom, a_arcWeight, a_distance, a_byArc) := by
  unfold wpX_totalOrNone
  refine sx_solve hf hft haR haW haB hc hW hb hs (fun r T R aB aF aT aR aW di ba hSP hR => ?_)
  rcases hSP with ⟨e, q1, q2, q3⟩ | ⟨e, q⟩
  · refine br_f (by rw [e]; decide) (K _ _ _ _ _ _ _ _ _ _ _ _ (Or.inl ⟨_, q1, ?_, q3⟩))
    rw [sd_li, q2]
  · exact br_t e (K _ _ _ _ _ _ _ _ _ _ _ _ (Or.inr ⟨rfl, q⟩))
theorem sx_poss {post : Int32 → SX → Prop} {fm tt : Nat → Nat} {W c b : Nat → Int} (hf : ∀ k, k < 7 → fm k < 5 ∧ tt k < 5)
    (hft : ∀ k, k < 7 → a_from k = nI (fm k) ∧ a_to k = nI (tt k)) (haR : ∀ k, k < 7 → a_askedRoom k = sd_i (c k)) (haW : ∀ k, k < 7 → a_askedWeight k = sd_l (W k))
    (haB : ∀ p, p < 5 → a_askedBalance p = sd_i (b p))
    (hc : ∀ k, k < 7 → 0 ≤ c k) (hW : ∀ k, k < 7 → -1048576 ≤ W k ∧ W k ≤ 1048576)
    (hb : ∀ p, p < 5 → -500 ≤ b p ∧ b p ≤ 500) (hs : sd_sm (fun p => sd_pos (b p)) 5 + sd_sm c 7 ≤ 127)
    (K : ∀ r (s_arcs : Int32) (s_total : Int64) (s_askedRoom : Nat → Int32) (s_askedWeight : Nat → Int64) (s_askedBalance : Nat → Int32) (s_arcFrom : Nat → Int32) (s_arcTo : Nat → Int32) (s_arcRoom : Nat → Int32) (s_arcWeight : Nat → Int64) (s_distance : Nat → Int64) (s_byArc : Nat → Int32), sd_PO fm tt c b r → narrow .boolean (.int r) = .int r → post r (f_present, s_arcs, s_total, a_from, a_to, a_rooms, a_costs, a_balances, s_askedRoom, s_askedWeight, s_askedBalance, s_arcFrom, s_arcTo, s_arcRoom, s_arcWeight, s_distance, s_byArc)) : wpX_solve post (f_present, f_arcs, f_total, a_from, a_to, a_rooms, a_costs, a_balances, a_askedRoom, a_askedWeight, a_askedBalance, a_arcFrom, a_arcTo, a_arcRoom, a_arcWeight, a_distance, a_byArc) := by
  refine sx_solve hf hft haR haW haB hc hW hb hs (fun r T R aB aF aT aR aW di ba hSP hR => ?_)
  rcases hSP with ⟨e, q1, q2, q3⟩ | ⟨e, q⟩
  · exact K _ _ _ _ _ _ _ _ _ _ _ _ (Or.inl ⟨e, _, q1⟩) (by rw [e]; rfl)
  · exact K _ _ _ _ _ _ _ _ _ _ _ _ (Or.inr ⟨e, q⟩) (by rw [e]; rfl)
theorem sx_possible {post : Int32 → SX → Prop} {m : Nat} {fm tt : Nat → Nat} {rm cs bl : Nat → Int} (hd : sd_DB m fm tt rm cs bl a_from a_to a_rooms a_costs a_balances)
    (K : ∀ r (s_arcs : Int32) (s_total : Int64) (s_askedRoom : Nat → Int32) (s_askedWeight : Nat → Int64) (s_askedBalance : Nat → Int32) (s_arcFrom : Nat → Int32) (s_arcTo : Nat → Int32) (s_arcRoom : Nat → Int32) (s_arcWeight : Nat → Int64) (s_distance : Nat → Int64) (s_byArc : Nat → Int32), sd_PO fm tt (sd_cap m rm) bl r → post r (nI m, s_arcs, s_total, a_from, a_to, a_rooms, a_costs, a_balances, s_askedRoom, s_askedWeight, s_askedBalance, s_arcFrom, s_arcTo, s_arcRoom, s_arcWeight, s_distance, s_byArc)) : wpX_possible post (nI m, f_arcs, f_total, a_from, a_to, a_rooms, a_costs, a_balances, a_askedRoom, a_askedWeight, a_askedBalance, a_arcFrom, a_arcTo, a_arcRoom, a_arcWeight, a_distance, a_byArc) := by
  unfold wpX_possible
  refine sx_ask (F := 1) hd (fun aR aW aB h1 h2 h3 => ?_)
  obtain ⟨hm, hf, hft, hrm, hcs, hbl⟩ := hd
  have hcap := sd_cap_b (m := m) (N := 4) (by decide) (fun k hk => (hrm k hk).2)
  refine sx_poss (W := fun k => cs k * 1) hf hft h1 h2 h3 (fun k hk => (hcap k hk).1) (fun k hk => ?_) (fun p hp => ?_) (sd_hs 0 (fun k hk => ?_) (fun p hp => ?_)) (fun r s_arcs s_total s_askedRoom s_askedWeight s_askedBalance s_arcFrom s_arcTo s_arcRoom s_arcWeight s_distance s_byArc h hn => ⟨hn, K r s_arcs s_total s_askedRoom s_askedWeight s_askedBalance s_arcFrom s_arcTo s_arcRoom s_arcWeight s_distance s_byArc h⟩)
  · have := hcs k hk; show -1048576 ≤ cs k * 1 ∧ cs k * 1 ≤ 1048576; omega
  · have := hbl p hp; omega
  · have := hcap k hk; omega
  · have := hbl p hp; omega
theorem sx_least {post : Int32 → SX → Prop} {m : Nat} {fm tt : Nat → Nat} {rm cs bl : Nat → Int} (hd : sd_DB m fm tt rm cs bl a_from a_to a_rooms a_costs a_balances)
    (K : ∀ r (s_arcs : Int32) (s_total : Int64) (s_askedRoom : Nat → Int32) (s_askedWeight : Nat → Int64) (s_askedBalance : Nat → Int32) (s_arcFrom : Nat → Int32) (s_arcTo : Nat → Int32) (s_arcRoom : Nat → Int32) (s_arcWeight : Nat → Int64) (s_distance : Nat → Int64) (s_byArc : Nat → Int32), sd_TN fm tt cs (sd_cap m rm) bl r → post r (nI m, s_arcs, s_total, a_from, a_to, a_rooms, a_costs, a_balances, s_askedRoom, s_askedWeight, s_askedBalance, s_arcFrom, s_arcTo, s_arcRoom, s_arcWeight, s_distance, s_byArc)) : wpX_least post (nI m, f_arcs, f_total, a_from, a_to, a_rooms, a_costs, a_balances, a_askedRoom, a_askedWeight, a_askedBalance, a_arcFrom, a_arcTo, a_arcRoom, a_arcWeight, a_distance, a_byArc) := by
  unfold wpX_least
  refine sx_ask (F := 1) hd (fun aR aW aB h1 h2 h3 => ?_)
  obtain ⟨hm, hf, hft, hrm, hcs, hbl⟩ := hd
  have hcap := sd_cap_b (m := m) (N := 4) (by decide) (fun k hk => (hrm k hk).2)
  refine sx_tot (W := cs) hf hft h1 (fun k hk => by rw [h2 k hk, Int.mul_one]) h3 (fun k hk => (hcap k hk).1) (fun k hk => ?_) (fun p hp => ?_) (sd_hs 0 (fun k hk => ?_) (fun p hp => ?_)) K
  · have := hcs k hk; omega
  · have := hbl p hp; omega
  · have := hcap k hk; omega
  · have := hbl p hp; omega
theorem sx_greatest {post : Int32 → SX → Prop} {m : Nat} {fm tt : Nat → Nat} {rm cs bl : Nat → Int} (hd : sd_DB m fm tt rm cs bl a_from a_to a_rooms a_costs a_balances)
    (K : ∀ r (s_arcs : Int32) (s_total : Int64) (s_askedRoom : Nat → Int32) (s_askedWeight : Nat → Int64) (s_askedBalance : Nat → Int32) (s_arcFrom : Nat → Int32) (s_arcTo : Nat → Int32) (s_arcRoom : Nat → Int32) (s_arcWeight : Nat → Int64) (s_distance : Nat → Int64) (s_byArc : Nat → Int32), ((∃ x, sd_Fe fm tt (sd_cap m rm) bl x ∧ r = sd_i (sd_ct cs x) ∧ ∀ y, sd_Fe fm tt (sd_cap m rm) bl y → sd_ct cs y ≤ sd_ct cs x) ∨ (r = -100000 ∧ sd_Ce fm tt (sd_cap m rm) bl)) → post r (nI m, s_arcs, s_total, a_from, a_to, a_rooms, a_costs, a_balances, s_askedRoom, s_askedWeight, s_askedBalance, s_arcFrom, s_arcTo, s_arcRoom, s_arcWeight, s_distance, s_byArc)) : wpX_greatest post (nI m, f_arcs, f_total, a_from, a_to, a_rooms, a_costs, a_balances, a_askedRoom, a_askedWeight, a_askedBalance, a_arcFrom, a_arcTo, a_arcRoom, a_arcWeight, a_distance, a_byArc) := by
  unfold wpX_greatest
  refine sx_ask (F := -1) hd (fun aR aW aB h1 h2 h3 => ?_)
  obtain ⟨hm, hf, hft, hrm, hcs, hbl⟩ := hd
  have hcap := sd_cap_b (m := m) (N := 4) (by decide) (fun k hk => (hrm k hk).2)
  refine sx_solve (W := fun k => cs k * -1) hf hft h1 h2 h3 (fun k hk => (hcap k hk).1) (fun k hk => ?_) (fun p hp => ?_) (sd_hs 0 (fun k hk => ?_) (fun p hp => ?_)) (fun r T R aB aF aT aR aW di ba hSP hR => ?_)
  · have := hcs k hk; show -1048576 ≤ cs k * -1 ∧ cs k * -1 ≤ 1048576; omega
  · have := hbl p hp; omega
  · have := hcap k hk; omega
  · have := hbl p hp; omega
  · have e : ∀ y, sd_ct (fun k => cs k * -1) y = -sd_ct cs y := by
      intro y
      have h := sd_sm_mul (-1) (fun k => cs k * y k) 7
      have h' : sd_ct (fun k => cs k * -1) y = sd_sm (fun k => -1 * (cs k * y k)) 7 := sd_sm_c fun k _ => by
        show cs k * -1 * y k = -1 * (cs k * y k)
        grind
      rw [h', h]; show -1 * sd_ct cs y = -sd_ct cs y; omega
    rcases hSP with ⟨e1, q1, q2, q3⟩ | ⟨e1, q⟩
    · refine br_f (by rw [e1]; decide) (K _ _ _ _ _ _ _ _ _ _ _ _ (Or.inl ⟨_, q1, ?_, fun y hy => ?_⟩))
      · rw [sd_ln, sd_li, q2, e]; apply congrArg; omega
      · have h := q3 y hy
        rw [e, e] at h; omega
    · exact br_t e1 (K _ _ _ _ _ _ _ _ _ _ _ _ (Or.inr ⟨rfl, q⟩))
end
end
section
/-! first and range -/
def sd_p4 (l : Nat) : Int := ((4 ^ (6 - l) : Nat) : Int)
theorem sd_sh4 : ∀ l, l < 7 → (1 : Int64) <<< (((2 : Int32) * (6 - nI l)).toInt64 &&& 63) = sd_l (sd_p4 l) := by decide +kernel
theorem sd_p4b : ∀ l, l < 7 → 1 ≤ sd_p4 l ∧ sd_p4 l ≤ 4096 := by decide
section
variable {f_present : Int32} {f_arcs : Int32} {f_total : Int64} {a_from : Nat → Int32} {a_to : Nat → Int32} {a_rooms : Nat → Int32} {a_costs : Nat → Int32} {a_balances : Nat → Int32} {a_askedRoom : Nat → Int32} {a_askedWeight : Nat → Int64} {a_askedBalance : Nat → Int32} {a_arcFrom : Nat → Int32} {a_arcTo : Nat → Int32} {a_arcRoom : Nat → Int32} {a_arcWeight : Nat → Int64} {a_distance : Nat → Int64} {a_byArc : Nat → Int32}
theorem sx_nk {post : Int32 → SX → Prop} {fm tt : Nat → Nat} {W c b : Nat → Int} {k : Nat} (hk : k < 7) (hf : ∀ k, k < 7 → fm k < 5 ∧ tt k < 5)
    (hft : ∀ k, k < 7 → a_from k = nI (fm k) ∧ a_to k = nI (tt k)) (haR : ∀ k, k < 7 → a_askedRoom k = sd_i (c k)) (haW : ∀ k, k < 7 → a_askedWeight k = sd_l (W k))
    (haB : ∀ p, p < 5 → a_askedBalance p = sd_i (b p))
    (hc : ∀ k, k < 7 → 0 ≤ c k) (hW : ∀ k, k < 7 → -1048576 ≤ W k ∧ W k ≤ 1048576)
    (hb : ∀ p, p < 5 → -500 ≤ b p ∧ b p ≤ 500) (hs : sd_sm (fun p => sd_pos (b p)) 5 + sd_sm c 7 ≤ 127)
    (K : ∀ r (s_arcs : Int32) (s_total : Int64) (s_askedRoom : Nat → Int32) (s_askedWeight : Nat → Int64) (s_askedBalance : Nat → Int32) (s_arcFrom : Nat → Int32) (s_arcTo : Nat → Int32) (s_arcRoom : Nat → Int32) (s_arcWeight : Nat → Int64) (s_distance : Nat → Int64) (s_byArc : Nat → Int32), sd_NK fm tt W c b k r → post r (f_present, s_arcs, s_total, a_from, a_to, a_rooms, a_costs, a_balances, s_askedRoom, s_askedWeight, s_askedBalance, s_arcFrom, s_arcTo, s_arcRoom, s_arcWeight, s_distance, s_byArc))
    (Q : Int32 → SX → Prop) (hQ0 : ∀ u, post (-1) u → Q 0 u) (hQ1 : ∀ u, wpX_numberOf (fun r => post r u) u (nI k) → Q 1 u) : wpX_solve Q (f_present, f_arcs, f_total, a_from, a_to, a_rooms, a_costs, a_balances, a_askedRoom, a_askedWeight, a_askedBalance, a_arcFrom, a_arcTo, a_arcRoom, a_arcWeight, a_distance, a_byArc) := by
  refine sx_solve hf hft haR haW haB hc hW hb hs (fun r T R aB aF aT aR aW di ba hSP hR => ?_)
  rcases hSP with ⟨e, q1, q2, q3⟩ | ⟨e, q⟩
  · subst e
    refine hQ1 _ (sx_num hR hk (K _ _ _ _ _ _ _ _ _ _ _ _ (Or.inl ⟨_, q1, rfl, q3⟩)))
  · subst e
    exact hQ0 _ (K _ _ _ _ _ _ _ _ _ _ _ _ (Or.inr ⟨rfl, q⟩))
theorem sx_f19 {post : Int32 → SX → Prop} {m k : Nat} {fm tt : Nat → Nat} {rm cs bl : Nat → Int} (hd : sd_DB m fm tt rm cs bl a_from a_to a_rooms a_costs a_balances) (hk : k < 7)
    (haR : ∀ k, k < 7 → a_askedRoom k = sd_i (sd_cap m rm k)) (haB : ∀ p, p < 5 → a_askedBalance p = sd_i (bl p))
    (K : ∀ r (s_arcs : Int32) (s_total : Int64) (s_askedRoom : Nat → Int32) (s_askedWeight : Nat → Int64) (s_askedBalance : Nat → Int32) (s_arcFrom : Nat → Int32) (s_arcTo : Nat → Int32) (s_arcRoom : Nat → Int32) (s_arcWeight : Nat → Int64) (s_distance : Nat → Int64) (s_byArc : Nat → Int32), sd_NK fm tt (fun l => cs l * 65536 + sd_p4 l) (sd_cap m rm) bl k r → post r (nI m, s_arcs, s_total, a_from, a_to, a_rooms, a_costs, a_balances, s_askedRoom, s_askedWeight, s_askedBalance, s_arcFrom, s_arcTo, s_arcRoom, s_arcWeight, s_distance, s_byArc)) :
    ∀ n j aW, j ≤ 7 → 7 - j < n → (∀ l, l < 7 → aW l = sd_l (cs l * 65536 + (if l < j then sd_p4 l else 0))) →
      wX_first_19 post (nI k) (nI m) f_arcs f_total n (nI j) a_from a_to a_rooms a_costs a_balances a_askedRoom aW a_askedBalance a_arcFrom a_arcTo a_arcRoom a_arcWeight a_distance a_byArc := by
  obtain ⟨hm, hf, hft, hrm, hcs, hbl⟩ := hd
  have hcap := sd_cap_b (m := m) (N := 4) (by decide) (fun k hk => (hrm k hk).2)
  intro n
  induction n with
  | zero => intro j aW _ h _; omega
  | succ n ih =>
    intro j aW hj hn I
    by_cases e : j = 7
    · subst e
      refine br_t (by decide) ?_
      refine sx_nk (W := fun l => cs l * 65536 + sd_p4 l) hk hf hft haR (fun l hl => by rw [I l hl, if_pos hl]) haB (fun k hk => (hcap k hk).1) (fun l hl => ?_) (fun p hp => ?_) (sd_hs 0 (fun k hk => ?_) (fun p hp => ?_)) K _ (fun u h => br_t rfl h) (fun u h => br_f (by decide) h)
      · have := hcs l hl; have := sd_p4b l hl; show -1048576 ≤ cs l * 65536 + sd_p4 l ∧ cs l * 65536 + sd_p4 l ≤ 1048576; omega
      · have := hbl p hp; omega
      · have := hcap k hk; omega
      · have := hbl p hp; omega
    · have hj7 : j < 7 := by omega
      refine br_f (nI_ge (b := 7) hj7 (by decide)) ⟨vp_in_nI hj7 (by decide), vp_in_nI hj7 (by decide), ?_⟩
      rw [sd_cl (show j < 2147483648 by omega), sd_sh4 j hj7]
      refine nm_e (nm_r (nI_1 j) (ih (j + 1) _ (by omega) (by omega) ?_))
      intro l hl
      by_cases z : l = j
      · subst z; rw [sd_uLs, I l hl, if_neg (Nat.lt_irrefl l), if_pos (Nat.lt_succ_self l), sd_la]; apply congrArg; omega
      · rw [sd_uLn z, I l hl]
        by_cases y : l < j
        · rw [if_pos y, if_pos (by omega)]
        · rw [if_neg y, if_neg (by omega)]
theorem sx_first {post : Int32 → SX → Prop} {m k : Nat} {fm tt : Nat → Nat} {rm cs bl : Nat → Int} (hd : sd_DB m fm tt rm cs bl a_from a_to a_rooms a_costs a_balances) (hk : k < 7)
    (K0 : m.testBit k = false → post (-1) (nI m, f_arcs, f_total, a_from, a_to, a_rooms, a_costs, a_balances, a_askedRoom, a_askedWeight, a_askedBalance, a_arcFrom, a_arcTo, a_arcRoom, a_arcWeight, a_distance, a_byArc))
    (K : m.testBit k = true → ∀ r (s_arcs : Int32) (s_total : Int64) (s_askedRoom : Nat → Int32) (s_askedWeight : Nat → Int64) (s_askedBalance : Nat → Int32) (s_arcFrom : Nat → Int32) (s_arcTo : Nat → Int32) (s_arcRoom : Nat → Int32) (s_arcWeight : Nat → Int64) (s_distance : Nat → Int64) (s_byArc : Nat → Int32), sd_NK fm tt (fun l => cs l * 65536 + sd_p4 l) (sd_cap m rm) bl k r → post r (nI m, s_arcs, s_total, a_from, a_to, a_rooms, a_costs, a_balances, s_askedRoom, s_askedWeight, s_askedBalance, s_arcFrom, s_arcTo, s_arcRoom, s_arcWeight, s_distance, s_byArc)) : wpX_first post (nI m, f_arcs, f_total, a_from, a_to, a_rooms, a_costs, a_balances, a_askedRoom, a_askedWeight, a_askedBalance, a_arcFrom, a_arcTo, a_arcRoom, a_arcWeight, a_distance, a_byArc) (nI k) := by
  unfold wpX_first
  refine sx_has hd.1 hk (fun h => br_t rfl (K0 h)) (fun h => br_f (by decide) ?_)
  refine sx_ask (F := 65536) hd (fun aR aW aB h1 h2 h3 => ⟨8, ?_⟩)
  refine sx_f19 hd hk h1 h3 (K h) 8 0 aW (by omega) (by omega) ?_
  intro l hl
  rw [h2 l hl, if_neg (Nat.not_lt_zero l), Int.add_zero]
/-- the weights of range -/
def sd_W2 (cs : Nat → Int) (k : Nat) (s : Int) (l : Nat) : Int := cs l * 64 + (if l = k then s else 0)
theorem sx_r44 {post : Int32 → SX → Prop} {m k : Nat} {fm tt : Nat → Nat} {rm cs bl : Nat → Int} (hd : sd_DB m fm tt rm cs bl a_from a_to a_rooms a_costs a_balances) (hk : k < 7)
    (haR : ∀ k, k < 7 → a_askedRoom k = sd_i (sd_cap m rm k)) (haB : ∀ p, p < 5 → a_askedBalance p = sd_i (bl p)) (haW : ∀ l, l < 7 → a_askedWeight l = sd_l (cs l * 64))
    {s : Int} (hs : s = 1 ∨ s = -1)
    (K : ∀ r (s_arcs : Int32) (s_total : Int64) (s_askedRoom : Nat → Int32) (s_askedWeight : Nat → Int64) (s_askedBalance : Nat → Int32) (s_arcFrom : Nat → Int32) (s_arcTo : Nat → Int32) (s_arcRoom : Nat → Int32) (s_arcWeight : Nat → Int64) (s_distance : Nat → Int64) (s_byArc : Nat → Int32), sd_NK fm tt (sd_W2 cs k s) (sd_cap m rm) bl k r → post r (nI m, s_arcs, s_total, a_from, a_to, a_rooms, a_costs, a_balances, s_askedRoom, s_askedWeight, s_askedBalance, s_arcFrom, s_arcTo, s_arcRoom, s_arcWeight, s_distance, s_byArc)) :
    wX_range_44 post (nI k) (sd_l s) (a_askedWeight k) (nI k) (nI m) f_arcs f_total a_from a_to a_rooms a_costs a_balances a_askedRoom a_askedWeight a_askedBalance a_arcFrom a_arcTo a_arcRoom a_arcWeight a_distance a_byArc := by
  obtain ⟨hm, hf, hft, hrm, hcs, hbl⟩ := hd
  have hcap := sd_cap_b (m := m) (N := 4) (by decide) (fun k hk => (hrm k hk).2)
  unfold wX_range_44
  rw [sd_cl (show k < 2147483648 by omega)]
  refine ⟨vp_in_nI hk (by decide), nm_e ?_⟩
  refine sx_nk (W := sd_W2 cs k s) hk hf hft haR (fun l hl => ?_) haB (fun k hk => (hcap k hk).1) (fun l hl => ?_) (fun p hp => ?_) (sd_hs 0 (fun k hk => ?_) (fun p hp => ?_)) K _ (fun u h => br_t rfl h) (fun u h => br_f (by decide) h)
  · unfold sd_W2
    by_cases z : l = k
    · rw [if_pos z, z, sd_uLs, haW k hk, sd_la]
    · rw [if_neg z, sd_uLn z, haW l hl, Int.add_zero]
  · have := hcs l hl
    unfold sd_W2
    by_cases z : l = k
    · rw [if_pos z]; omega
    · rw [if_neg z]; omega
  · have := hbl p hp; omega
  · have := hcap k hk; omega
  · have := hbl p hp; omega
theorem sx_range {post : Int32 → SX → Prop} {m k w : Nat} {fm tt : Nat → Nat} {rm cs bl : Nat → Int} (hd : sd_DB m fm tt rm cs bl a_from a_to a_rooms a_costs a_balances) (hk : k < 7) (hw : w < 2)
    (K0 : m.testBit k = false → post (-1) (nI m, f_arcs, f_total, a_from, a_to, a_rooms, a_costs, a_balances, a_askedRoom, a_askedWeight, a_askedBalance, a_arcFrom, a_arcTo, a_arcRoom, a_arcWeight, a_distance, a_byArc))
    (K : m.testBit k = true → ∀ r (s_arcs : Int32) (s_total : Int64) (s_askedRoom : Nat → Int32) (s_askedWeight : Nat → Int64) (s_askedBalance : Nat → Int32) (s_arcFrom : Nat → Int32) (s_arcTo : Nat → Int32) (s_arcRoom : Nat → Int32) (s_arcWeight : Nat → Int64) (s_distance : Nat → Int64) (s_byArc : Nat → Int32), sd_NK fm tt (sd_W2 cs k (if w = 0 then 1 else -1)) (sd_cap m rm) bl k r → post r (nI m, s_arcs, s_total, a_from, a_to, a_rooms, a_costs, a_balances, s_askedRoom, s_askedWeight, s_askedBalance, s_arcFrom, s_arcTo, s_arcRoom, s_arcWeight, s_distance, s_byArc)) : wpX_range post (nI m, f_arcs, f_total, a_from, a_to, a_rooms, a_costs, a_balances, a_askedRoom, a_askedWeight, a_askedBalance, a_arcFrom, a_arcTo, a_arcRoom, a_arcWeight, a_distance, a_byArc) (nI k) (nI w) := by
  unfold wpX_range
  refine sx_has hd.1 hk (fun h => br_t rfl (K0 h)) (fun h => br_f (by decide) (br_f (nI_pos (by omega)) (br_t (nI_le (b := 1) (by omega) (by decide)) ?_)))
  refine sx_ask (F := 64) hd (fun aR aW aB h1 h2 h3 => ⟨vp_in_nI hk (by decide), ?_⟩)
  rw [sd_cl (show k < 2147483648 by omega)]
  refine sd_neq w 0 rfl rfl (fun z => ?_) (fun z => ?_)
  · exact sx_r44 (s := 1) hd hk h1 h3 h2 (Or.inl rfl) (by rw [if_pos z] at K; exact K h)
  · rw [show (-1 : Int64) = sd_l (-1) from by decide]
    exact sx_r44 (s := -1) hd hk h1 h3 h2 (Or.inr rfl) (by rw [if_neg z] at K; exact K h)
end
end
section
/-! the other questions -/
theorem sd_ct_b {fm tt : Nat → Nat} {cs c b x : Nat → Int} (hcs : ∀ k, k < 7 → -9 ≤ cs k ∧ cs k ≤ 9) (hc : ∀ k, k < 7 → c k ≤ 5) (h : sd_Fe fm tt c b x) : -315 ≤ sd_ct cs x ∧ sd_ct cs x ≤ 315 := by
  have hk : ∀ k, k < 7 → -45 ≤ cs k * x k ∧ cs k * x k ≤ 45 := by
    intro k hk
    have h1 := h.1 k hk
    have h2 := hcs k hk
    have h3 := hc k hk
    have h4 : 0 ≤ x k ∧ x k ≤ 5 := ⟨h1.1, by omega⟩
    have h5 : x k = 0 ∨ x k = 1 ∨ x k = 2 ∨ x k = 3 ∨ x k = 4 ∨ x k = 5 := by omega
    rcases h5 with e | e | e | e | e | e <;> rw [e] <;> omega
  constructor
  · have e : sd_sm (fun _ => -45) 7 ≤ sd_ct cs x := sd_sm_le fun k h => (hk k h).1
    have e2 : sd_sm (fun _ => -45) 7 = -315 := rfl
    omega
  · have e : sd_ct cs x ≤ sd_sm (fun _ => 45) 7 := sd_sm_le fun k h => (hk k h).2
    have e2 : sd_sm (fun _ => 45) 7 = 315 := rfl
    omega
theorem sd_none : (-100000 : Int32) = sd_i (-100000) := by decide
section
variable {f_present : Int32} {f_arcs : Int32} {f_total : Int64} {a_from : Nat → Int32} {a_to : Nat → Int32} {a_rooms : Nat → Int32} {a_costs : Nat → Int32} {a_balances : Nat → Int32} {a_askedRoom : Nat → Int32} {a_askedWeight : Nat → Int64} {a_askedBalance : Nat → Int32} {a_arcFrom : Nat → Int32} {a_arcTo : Nat → Int32} {a_arcRoom : Nat → Int32} {a_arcWeight : Nat → Int64} {a_distance : Nat → Int64} {a_byArc : Nat → Int32}
theorem sx_possW {post : Int32 → SX → Prop} {m : Nat} {fm tt : Nat → Nat} {rm cs bl : Nat → Int} (hd : sd_DB m fm tt rm cs bl a_from a_to a_rooms a_costs a_balances)
    {p q n : Nat} (hp : p < 5) (hq : q < 5) (hpq : p ≠ q) (hn : n ≤ 23)
    (K : ∀ r (s_arcs : Int32) (s_total : Int64) (s_askedRoom : Nat → Int32) (s_askedWeight : Nat → Int64) (s_askedBalance : Nat → Int32) (s_arcFrom : Nat → Int32) (s_arcTo : Nat → Int32) (s_arcRoom : Nat → Int32) (s_arcWeight : Nat → Int64) (s_distance : Nat → Int64) (s_byArc : Nat → Int32), sd_PO fm tt (sd_cap m rm) (sd_sh bl p q n) r → post r (nI m, s_arcs, s_total, a_from, a_to, a_rooms, a_costs, a_balances, s_askedRoom, s_askedWeight, s_askedBalance, s_arcFrom, s_arcTo, s_arcRoom, s_arcWeight, s_distance, s_byArc)) : wpX_possibleWith post (nI m, f_arcs, f_total, a_from, a_to, a_rooms, a_costs, a_balances, a_askedRoom, a_askedWeight, a_askedBalance, a_arcFrom, a_arcTo, a_arcRoom, a_arcWeight, a_distance, a_byArc) (nI p) (nI q) (nI n) := by
  unfold wpX_possibleWith
  refine sx_ask (F := 1) hd (fun aR aW aB h1 h2 h3 => ?_)
  obtain ⟨hm, hf, hft, hrm, hcs, hbl⟩ := hd
  have hcap := sd_cap_b (m := m) (N := 4) (by decide) (fun k hk => (hrm k hk).2)
  have vp : vp_in (nI p) 5 := vp_in_nI hp (by decide)
  have vq : vp_in (nI q) 5 := vp_in_nI hq (by decide)
  rw [sd_cl (show p < 2147483648 by omega), sd_cl (show q < 2147483648 by omega)]
  refine ⟨vp, vp, nm_e ⟨vq, vq, nm_e ?_⟩⟩
  have hB : ∀ r, r < 5 → upd (upd aB p (aB p + nI n)) q (upd aB p (aB p + nI n) q - nI n) r = sd_i (sd_sh bl p q n r) := by
    unfold sd_sh
    refine sd_uI (sd_uI h3 ?_) ?_
    · rw [h3 p hp, sd_iN, sd_ia]
    · rw [sd_un (fun z => hpq z.symm), h3 q hq, sd_iN, sd_is]
  have hbb : ∀ r, r < 5 → -500 ≤ sd_sh bl p q n r ∧ sd_sh bl p q n r ≤ 500 ∧ (sd_sh bl p q n r ≤ 13 ∨ (r = p ∧ sd_sh bl p q n r ≤ 40)) := by
    intro r hr
    have h1 := hbl p hp
    have h2 := hbl q hq
    have h3 := hbl r hr
    unfold sd_sh
    by_cases z : r = q
    · rw [z, sd_uds]; omega
    · rw [sd_udn z]
      by_cases y : r = p
      · rw [y, sd_uds]; omega
      · rw [sd_udn y]; omega
  refine sx_poss (W := fun k => cs k * 1) hf hft h1 h2 hB (fun k hk => (hcap k hk).1) (fun k hk => ?_) (fun p hp => ?_) (sd_hs p (fun k hk => ?_) (fun p hp => ?_)) (fun r s_arcs s_total s_askedRoom s_askedWeight s_askedBalance s_arcFrom s_arcTo s_arcRoom s_arcWeight s_distance s_byArc h hn => ⟨hn, K r s_arcs s_total s_askedRoom s_askedWeight s_askedBalance s_arcFrom s_arcTo s_arcRoom s_arcWeight s_distance s_byArc h⟩)
  · have := hcs k hk; show -1048576 ≤ cs k * 1 ∧ cs k * 1 ≤ 1048576; omega
  · have := hbb p hp; omega
  · have := hcap k hk; omega
  · exact (hbb p hp).2.2
theorem sx_shifted {post : Int32 → SX → Prop} {m : Nat} {fm tt : Nat → Nat} {rm cs bl : Nat → Int} (hd : sd_DB m fm tt rm cs bl a_from a_to a_rooms a_costs a_balances)
    {p q : Nat} (hp : p < 5) (hq : q < 5) (hpq : p ≠ q)
    (K : ∀ r (s_arcs : Int32) (s_total : Int64) (s_askedRoom : Nat → Int32) (s_askedWeight : Nat → Int64) (s_askedBalance : Nat → Int32) (s_arcFrom : Nat → Int32) (s_arcTo : Nat → Int32) (s_arcRoom : Nat → Int32) (s_arcWeight : Nat → Int64) (s_distance : Nat → Int64) (s_byArc : Nat → Int32), sd_TN fm tt cs (sd_cap m rm) (sd_sh bl p q 1) r → post r (nI m, s_arcs, s_total, a_from, a_to, a_rooms, a_costs, a_balances, s_askedRoom, s_askedWeight, s_askedBalance, s_arcFrom, s_arcTo, s_arcRoom, s_arcWeight, s_distance, s_byArc)) : wpX_shifted post (nI m, f_arcs, f_total, a_from, a_to, a_rooms, a_costs, a_balances, a_askedRoom, a_askedWeight, a_askedBalance, a_arcFrom, a_arcTo, a_arcRoom, a_arcWeight, a_distance, a_byArc) (nI p) (nI q) := by
  unfold wpX_shifted
  refine br_f (nI_pos (by omega)) (br_f (nI_ge (b := 5) hp (by decide)) (br_f (by decide) (br_f (nI_pos (by omega)) (br_f (nI_ge (b := 5) hq (by decide)) (br_f (by decide) (br_f (fun z => hpq ((nI_eq (by omega) (by omega)).mp z)) ?_))))))
  refine sx_ask (F := 1) hd (fun aR aW aB h1 h2 h3 => ?_)
  obtain ⟨hm, hf, hft, hrm, hcs, hbl⟩ := hd
  have hcap := sd_cap_b (m := m) (N := 4) (by decide) (fun k hk => (hrm k hk).2)
  have vp : vp_in (nI p) 5 := vp_in_nI hp (by decide)
  have vq : vp_in (nI q) 5 := vp_in_nI hq (by decide)
  rw [sd_cl (show p < 2147483648 by omega), sd_cl (show q < 2147483648 by omega)]
  refine ⟨vp, vp, nm_e ⟨vq, vq, nm_e ?_⟩⟩
  have hB : ∀ r, r < 5 → upd (upd aB p (aB p + 1)) q (upd aB p (aB p + 1) q - 1) r = sd_i (sd_sh bl p q 1 r) := by
    unfold sd_sh
    refine sd_uI (sd_uI h3 ?_) ?_
    · rw [h3 p hp]; exact sd_ia _ 1
    · rw [sd_un (fun z => hpq z.symm), h3 q hq]; exact sd_is _ 1
  have hbb : ∀ r, r < 5 → -500 ≤ sd_sh bl p q 1 r ∧ sd_sh bl p q 1 r ≤ 13 := by
    intro r hr
    have h1 := hbl p hp
    have h2 := hbl q hq
    have h3 := hbl r hr
    unfold sd_sh
    by_cases z : r = q
    · rw [z, sd_uds]; omega
    · rw [sd_udn z]
      by_cases y : r = p
      · rw [y, sd_uds]; omega
      · rw [sd_udn y]; omega
  refine sx_tot (W := cs) hf hft h1 (fun k hk => by rw [h2 k hk, Int.mul_one]) hB (fun k hk => (hcap k hk).1) (fun k hk => ?_) (fun p hp => ?_) (sd_hs p (fun k hk => ?_) (fun p hp => ?_)) K
  · have := hcs k hk; omega
  · have := hbb p hp; omega
  · have := hcap k hk; omega
  · exact Or.inl (hbb p hp).2
theorem sx_sp30 {post : Int32 → SX → Prop} {m : Nat} {fm tt : Nat → Nat} {rm cs bl : Nat → Int} (hd : sd_DB m fm tt rm cs bl a_from a_to a_rooms a_costs a_balances)
    {p q : Nat} (hp : p < 5) (hq : q < 5) (hpq : p ≠ q)
    (K : ∀ n (s_arcs : Int32) (s_total : Int64) (s_askedRoom : Nat → Int32) (s_askedWeight : Nat → Int64) (s_askedBalance : Nat → Int32) (s_arcFrom : Nat → Int32) (s_arcTo : Nat → Int32) (s_arcRoom : Nat → Int32) (s_arcWeight : Nat → Int64) (s_distance : Nat → Int64) (s_byArc : Nat → Int32), n ≤ 22 → (n = 0 ∨ ∃ x, sd_Fe fm tt (sd_cap m rm) (sd_sh bl p q (n : Nat)) x) → (n = 22 ∨ sd_Ce fm tt (sd_cap m rm) (sd_sh bl p q ((n + 1 : Nat) : Int))) → post (nI n) (nI m, s_arcs, s_total, a_from, a_to, a_rooms, a_costs, a_balances, s_askedRoom, s_askedWeight, s_askedBalance, s_arcFrom, s_arcTo, s_arcRoom, s_arcWeight, s_distance, s_byArc)) :
    ∀ f n (s_arcs : Int32) (s_total : Int64) (s_askedRoom : Nat → Int32) (s_askedWeight : Nat → Int64) (s_askedBalance : Nat → Int32) (s_arcFrom : Nat → Int32) (s_arcTo : Nat → Int32) (s_arcRoom : Nat → Int32) (s_arcWeight : Nat → Int64) (s_distance : Nat → Int64) (s_byArc : Nat → Int32), n ≤ 22 → 22 - n < f → (n = 0 ∨ ∃ x, sd_Fe fm tt (sd_cap m rm) (sd_sh bl p q (n : Nat)) x) →
      wX_spare_30 post (nI p) (nI q) f (nI n) (nI m) s_arcs s_total a_from a_to a_rooms a_costs a_balances s_askedRoom s_askedWeight s_askedBalance s_arcFrom s_arcTo s_arcRoom s_arcWeight s_distance s_byArc := by
  intro f
  induction f with
  | zero => intro n s_arcs s_total s_askedRoom s_askedWeight s_askedBalance s_arcFrom s_arcTo s_arcRoom s_arcWeight s_distance s_byArc _ h _; omega
  | succ f ih =>
    intro n s_arcs s_total s_askedRoom s_askedWeight s_askedBalance s_arcFrom s_arcTo s_arcRoom s_arcWeight s_distance s_byArc hn hfu I
    by_cases e : n = 22
    · subst e
      exact br_t (by decide) (K 22 s_arcs s_total s_askedRoom s_askedWeight s_askedBalance s_arcFrom s_arcTo s_arcRoom s_arcWeight s_distance s_byArc (by omega) I (Or.inl rfl))
    · refine br_f (nI_ge (b := 22) (by omega) (by decide)) ?_
      rw [nI_1]
      refine sx_possW hd hp hq hpq (by omega) (fun r s_arcs s_total s_askedRoom s_askedWeight s_askedBalance s_arcFrom s_arcTo s_arcRoom s_arcWeight s_distance s_byArc h => ?_)
      rcases h with ⟨er, hx⟩ | ⟨er, hc⟩
      · refine br_f (by rw [er]; decide) (nm_e ?_)
        exact ih (n + 1) s_arcs s_total s_askedRoom s_askedWeight s_askedBalance s_arcFrom s_arcTo s_arcRoom s_arcWeight s_distance s_byArc (by omega) (by omega) (Or.inr hx)
      · exact br_t er (K n s_arcs s_total s_askedRoom s_askedWeight s_askedBalance s_arcFrom s_arcTo s_arcRoom s_arcWeight s_distance s_byArc (by omega) I (Or.inr hc))
theorem sx_spare {post : Int32 → SX → Prop} {m : Nat} {fm tt : Nat → Nat} {rm cs bl : Nat → Int} (hd : sd_DB m fm tt rm cs bl a_from a_to a_rooms a_costs a_balances)
    {p q : Nat} (hp : p < 5) (hq : q < 5) (hpq : p ≠ q)
    (K0 : ∀ (s_arcs : Int32) (s_total : Int64) (s_askedRoom : Nat → Int32) (s_askedWeight : Nat → Int64) (s_askedBalance : Nat → Int32) (s_arcFrom : Nat → Int32) (s_arcTo : Nat → Int32) (s_arcRoom : Nat → Int32) (s_arcWeight : Nat → Int64) (s_distance : Nat → Int64) (s_byArc : Nat → Int32), sd_Ce fm tt (sd_cap m rm) bl → post (-1) (nI m, s_arcs, s_total, a_from, a_to, a_rooms, a_costs, a_balances, s_askedRoom, s_askedWeight, s_askedBalance, s_arcFrom, s_arcTo, s_arcRoom, s_arcWeight, s_distance, s_byArc))
    (K : ∀ n (s_arcs : Int32) (s_total : Int64) (s_askedRoom : Nat → Int32) (s_askedWeight : Nat → Int64) (s_askedBalance : Nat → Int32) (s_arcFrom : Nat → Int32) (s_arcTo : Nat → Int32) (s_arcRoom : Nat → Int32) (s_arcWeight : Nat → Int64) (s_distance : Nat → Int64) (s_byArc : Nat → Int32), (∃ x, sd_Fe fm tt (sd_cap m rm) bl x) → n ≤ 22 → (n = 0 ∨ ∃ x, sd_Fe fm tt (sd_cap m rm) (sd_sh bl p q (n : Nat)) x) → (n = 22 ∨ sd_Ce fm tt (sd_cap m rm) (sd_sh bl p q ((n + 1 : Nat) : Int))) → post (nI n) (nI m, s_arcs, s_total, a_from, a_to, a_rooms, a_costs, a_balances, s_askedRoom, s_askedWeight, s_askedBalance, s_arcFrom, s_arcTo, s_arcRoom, s_arcWeight, s_distance, s_byArc)) :
    wpX_spare post (nI m, f_arcs, f_total, a_from, a_to, a_rooms, a_costs, a_balances, a_askedRoom, a_askedWeight, a_askedBalance, a_arcFrom, a_arcTo, a_arcRoom, a_arcWeight, a_distance, a_byArc) (nI p) (nI q) := by
  unfold wpX_spare
  refine br_f (nI_pos (by omega)) (br_f (nI_ge (b := 5) hp (by decide)) (br_f (by decide) (br_f (nI_pos (by omega)) (br_f (nI_ge (b := 5) hq (by decide)) (br_f (by decide) (br_f (fun z => hpq ((nI_eq (by omega) (by omega)).mp z)) ?_))))))
  refine sx_possible hd (fun r s_arcs s_total s_askedRoom s_askedWeight s_askedBalance s_arcFrom s_arcTo s_arcRoom s_arcWeight s_distance s_byArc h => ?_)
  rcases h with ⟨er, hx⟩ | ⟨er, hc⟩
  · refine br_f (by rw [er]; decide) ⟨23, ?_⟩
    exact sx_sp30 hd hp hq hpq (fun n s_arcs s_total s_askedRoom s_askedWeight s_askedBalance s_arcFrom s_arcTo s_arcRoom s_arcWeight s_distance s_byArc h1 h2 h3 => K n s_arcs s_total s_askedRoom s_askedWeight s_askedBalance s_arcFrom s_arcTo s_arcRoom s_arcWeight s_distance s_byArc hx h1 h2 h3) 23 0 s_arcs s_total s_askedRoom s_askedWeight s_askedBalance s_arcFrom s_arcTo s_arcRoom s_arcWeight s_distance s_byArc (by omega) (by omega) (Or.inl rfl)
  · exact br_t er (K0 s_arcs s_total s_askedRoom s_askedWeight s_askedBalance s_arcFrom s_arcTo s_arcRoom s_arcWeight s_distance s_byArc hc)
theorem sx_worth {post : Int32 → SX → Prop} {m k : Nat} {fm tt : Nat → Nat} {rm cs bl : Nat → Int} (hd : sd_DB m fm tt rm cs bl a_from a_to a_rooms a_costs a_balances) (hk : k < 7)
    (K0 : m.testBit k = false → post (-100000) (nI m, f_arcs, f_total, a_from, a_to, a_rooms, a_costs, a_balances, a_askedRoom, a_askedWeight, a_askedBalance, a_arcFrom, a_arcTo, a_arcRoom, a_arcWeight, a_distance, a_byArc))
    (K1 : ∀ (s_arcs : Int32) (s_total : Int64) (s_askedRoom : Nat → Int32) (s_askedWeight : Nat → Int64) (s_askedBalance : Nat → Int32) (s_arcFrom : Nat → Int32) (s_arcTo : Nat → Int32) (s_arcRoom : Nat → Int32) (s_arcWeight : Nat → Int64) (s_distance : Nat → Int64) (s_byArc : Nat → Int32), sd_Ce fm tt (sd_cap m rm) bl → post (-100000) (nI m, s_arcs, s_total, a_from, a_to, a_rooms, a_costs, a_balances, s_askedRoom, s_askedWeight, s_askedBalance, s_arcFrom, s_arcTo, s_arcRoom, s_arcWeight, s_distance, s_byArc))
    (K : m.testBit k = true → ∀ r r' (s_arcs : Int32) (s_total : Int64) (s_askedRoom : Nat → Int32) (s_askedWeight : Nat → Int64) (s_askedBalance : Nat → Int32) (s_arcFrom : Nat → Int32) (s_arcTo : Nat → Int32) (s_arcRoom : Nat → Int32) (s_arcWeight : Nat → Int64) (s_distance : Nat → Int64) (s_byArc : Nat → Int32), (∃ x, sd_Fe fm tt (sd_cap m rm) bl x) → sd_TN fm tt cs (sd_cap m rm) bl r → sd_TN fm tt cs (sd_ud (sd_cap m rm) k (sd_cap m rm k + 1)) bl r' → post (r - r') (nI m, s_arcs, s_total, a_from, a_to, a_rooms, a_costs, a_balances, s_askedRoom, s_askedWeight, s_askedBalance, s_arcFrom, s_arcTo, s_arcRoom, s_arcWeight, s_distance, s_byArc)) :
    wpX_worth post (nI m, f_arcs, f_total, a_from, a_to, a_rooms, a_costs, a_balances, a_askedRoom, a_askedWeight, a_askedBalance, a_arcFrom, a_arcTo, a_arcRoom, a_arcWeight, a_distance, a_byArc) (nI k) := by
  unfold wpX_worth
  refine sx_has hd.1 hk (fun h => br_t rfl (K0 h)) (fun h => br_f (by decide) ?_)
  refine sx_least hd (fun r s_arcs s_total s_askedRoom s_askedWeight s_askedBalance s_arcFrom s_arcTo s_arcRoom s_arcWeight s_distance s_byArc hr => ?_)
  have hd' := hd
  obtain ⟨hm, hf, hft, hrm, hcs, hbl⟩ := hd
  have hcap := sd_cap_b (m := m) (N := 4) (by decide) (fun k hk => (hrm k hk).2)
  by_cases hN : r = -100000
  · refine br_t hN (K1 s_arcs s_total s_askedRoom s_askedWeight s_askedBalance s_arcFrom s_arcTo s_arcRoom s_arcWeight s_distance s_byArc ?_)
    rcases hr with ⟨x, hx, e, _⟩ | ⟨_, hc⟩
    · exfalso
      have hb := sd_ct_b (fun k hk => (hcs k hk).2) (fun k hk => by have := hcap k hk; omega) hx
      rw [e, sd_none] at hN
      have := sd_iinj hN
      omega
    · exact hc
  · have hx : ∃ x, sd_Fe fm tt (sd_cap m rm) bl x := by
      rcases hr with ⟨x, hx, _⟩ | ⟨e, _⟩
      · exact ⟨x, hx⟩
      · exact absurd e hN
    refine br_f hN ?_
    refine sx_ask (F := 1) hd' (fun aR aW aB h1 h2 h3 => ?_)
    have v7 : vp_in (nI k) 7 := vp_in_nI hk (by decide)
    rw [sd_cl (show k < 2147483648 by omega)]
    refine ⟨v7, v7, nm_e ?_⟩
    have hc : ∀ j, j < 7 → 0 ≤ sd_ud (sd_cap m rm) k (sd_cap m rm k + 1) j ∧ sd_ud (sd_cap m rm) k (sd_cap m rm k + 1) j ≤ 5 := by
      intro j hj
      have h1 := hcap j hj
      have h2 := hcap k hk
      by_cases z : j = k
      · rw [z, sd_uds]; omega
      · rw [sd_udn z]; omega
    refine sx_tot (W := cs) (c := sd_ud (sd_cap m rm) k (sd_cap m rm k + 1)) hf hft (sd_uI h1 (by rw [h1 k hk]; exact sd_ia _ 1)) (fun k hk => by rw [h2 k hk, Int.mul_one]) h3 (fun k hk => (hc k hk).1) (fun k hk => ?_) (fun p hp => ?_) (sd_hs 0 (fun k hk => ?_) (fun p hp => ?_)) (fun r' s_arcs s_total s_askedRoom s_askedWeight s_askedBalance s_arcFrom s_arcTo s_arcRoom s_arcWeight s_distance s_byArc hr' => K h r r' s_arcs s_total s_askedRoom s_askedWeight s_askedBalance s_arcFrom s_arcTo s_arcRoom s_arcWeight s_distance s_byArc hx hr hr')
    · have := hcs k hk; omega
    · have := hbl p hp; omega
    · exact (hc k hk).2
    · have := hbl p hp; omega
theorem sx_leastWith {post : Int32 → SX → Prop} {m k : Nat} {z : Int} {fm tt : Nat → Nat} {rm cs bl : Nat → Int} (hd : sd_DB m fm tt rm cs bl a_from a_to a_rooms a_costs a_balances) (hk : k < 7)
    (hz : -2147483648 ≤ z ∧ z < 2147483648) (hne : m.testBit k = true → fm k ≠ tt k)
    (K0 : (m.testBit k = false ∨ z < 0 ∨ rm k < z) → post (-100000) (nI m, f_arcs, f_total, a_from, a_to, a_rooms, a_costs, a_balances, a_askedRoom, a_askedWeight, a_askedBalance, a_arcFrom, a_arcTo, a_arcRoom, a_arcWeight, a_distance, a_byArc))
    (K : m.testBit k = true → 0 ≤ z → z ≤ rm k → ∀ r (s_arcs : Int32) (s_total : Int64) (s_askedRoom : Nat → Int32) (s_askedWeight : Nat → Int64) (s_askedBalance : Nat → Int32) (s_arcFrom : Nat → Int32) (s_arcTo : Nat → Int32) (s_arcRoom : Nat → Int32) (s_arcWeight : Nat → Int64) (s_distance : Nat → Int64) (s_byArc : Nat → Int32), ((∃ x, sd_Fe fm tt (sd_ud (sd_cap m rm) k 0) (sd_sh bl (fm k) (tt k) (-z)) x ∧ r = sd_i (sd_ct cs x + z * cs k) ∧
      ∀ y, sd_Fe fm tt (sd_ud (sd_cap m rm) k 0) (sd_sh bl (fm k) (tt k) (-z)) y → sd_ct cs x ≤ sd_ct cs y) ∨ (r = -100000 ∧ sd_Ce fm tt (sd_ud (sd_cap m rm) k 0) (sd_sh bl (fm k) (tt k) (-z)))) → post r (nI m, s_arcs, s_total, a_from, a_to, a_rooms, a_costs, a_balances, s_askedRoom, s_askedWeight, s_askedBalance, s_arcFrom, s_arcTo, s_arcRoom, s_arcWeight, s_distance, s_byArc)) :
    wpX_leastWith post (nI m, f_arcs, f_total, a_from, a_to, a_rooms, a_costs, a_balances, a_askedRoom, a_askedWeight, a_askedBalance, a_arcFrom, a_arcTo, a_arcRoom, a_arcWeight, a_distance, a_byArc) (nI k) (sd_i z) := by
  unfold wpX_leastWith
  have v7 : vp_in (nI k) 7 := vp_in_nI hk (by decide)
  refine sx_has hd.1 hk (fun h => br_t rfl (K0 (Or.inl h))) (fun h => br_f (by decide) ?_)
  refine sd_blt z 0 rfl rfl (fun h0 => K0 (Or.inr (Or.inl h0))) (fun h0 => ⟨v7, ?_⟩) hz.1 hz.2 (by decide) (by decide)
  have hd' := hd
  obtain ⟨hm, hf, hft, hrm, hcs, hbl⟩ := hd
  have hcap := sd_cap_b (m := m) (N := 4) (by decide) (fun k hk => (hrm k hk).2)
  have ck : (nI k).toNatClampNeg = k := sd_cl (by omega)
  have hrk := hrm k hk
  have hfk := hf k hk
  have hnk := hne h
  rw [ck]
  refine sd_ble z (rm k) rfl hrk.1 (fun h1 => ?_) (fun h1 => K0 (Or.inr (Or.inr h1))) hz.1 hz.2 (by omega) (by omega)
  refine sx_ask (F := 1) hd' (fun aR aW aB g1 g2 g3 => ?_)
  have vf : vp_in (nI (fm k)) 5 := vp_in_nI hfk.1 (by decide)
  have vt : vp_in (nI (tt k)) 5 := vp_in_nI hfk.2 (by decide)
  have cf : (nI (fm k)).toNatClampNeg = fm k := sd_cl (by omega)
  have ctt : (nI (tt k)).toNatClampNeg = tt k := sd_cl (by omega)
  dsimp only
  rw [(hft k hk).1, (hft k hk).2, cf, ctt]
  refine ⟨v7, nm_e ⟨v7, vf, vf, nm_e ⟨v7, vt, vt, nm_e ?_⟩⟩⟩
  have hB : ∀ r, r < 5 → upd (upd aB (fm k) (aB (fm k) - sd_i z)) (tt k) (upd aB (fm k) (aB (fm k) - sd_i z) (tt k) + sd_i z) r = sd_i (sd_sh bl (fm k) (tt k) (-z) r) := by
    unfold sd_sh
    refine sd_uI (sd_uI g3 ?_) ?_
    · rw [g3 _ hfk.1, sd_is]; apply congrArg; omega
    · rw [sd_un (fun z => hnk z.symm), g3 _ hfk.2, sd_ia]; apply congrArg; omega
  have hbb : ∀ r, r < 5 → -500 ≤ sd_sh bl (fm k) (tt k) (-z) r ∧ sd_sh bl (fm k) (tt k) (-z) r ≤ 13 := by
    intro r hr
    have h1 := hbl _ hfk.1
    have h2 := hbl _ hfk.2
    have h3 := hbl r hr
    unfold sd_sh
    by_cases z : r = tt k
    · rw [z, sd_uds]; omega
    · rw [sd_udn z]
      by_cases y : r = fm k
      · rw [y, sd_uds]; omega
      · rw [sd_udn y]; omega
  have hc : ∀ j, j < 7 → 0 ≤ sd_ud (sd_cap m rm) k 0 j ∧ sd_ud (sd_cap m rm) k 0 j ≤ 5 := by
    intro j hj
    have h1 := hcap j hj
    by_cases z : j = k
    · rw [z, sd_uds]; omega
    · rw [sd_udn z]; omega
  refine sx_tot (W := cs) (c := sd_ud (sd_cap m rm) k 0) (b := sd_sh bl (fm k) (tt k) (-z)) hf hft (sd_uI g1 rfl) (fun k hk => by rw [g2 k hk, Int.mul_one]) hB (fun k hk => (hc k hk).1) (fun k hk => ?_) (fun p hp => ?_) (sd_hs 0 (fun k hk => ?_) (fun p hp => ?_)) (fun r s_arcs s_total s_askedRoom s_askedWeight s_askedBalance s_arcFrom s_arcTo s_arcRoom s_arcWeight s_distance s_byArc hr => ?_)
  · have := hcs k hk; omega
  · have := hbb p hp; omega
  · exact (hc k hk).2
  · exact Or.inl (hbb p hp).2
  · rcases hr with ⟨x, hx, e, ho⟩ | ⟨e, hce⟩
    · have hb := sd_ct_b (fun k hk => (hcs k hk).2) (fun k hk => (hc k hk).2) hx
      have hN : ¬ r = -100000 := by
        intro hN
        rw [e, sd_none] at hN
        have := sd_iinj hN
        omega
      refine br_f hN ⟨v7, K h h0 h1 _ s_arcs s_total s_askedRoom s_askedWeight s_askedBalance s_arcFrom s_arcTo s_arcRoom s_arcWeight s_distance s_byArc (Or.inl ⟨x, hx, ?_, ho⟩)⟩
      show r + sd_i z * a_costs k = _
      rw [e, (hcs k hk).1, sd_im, sd_ia]
    · exact br_t e (K h h0 h1 _ s_arcs s_total s_askedRoom s_askedWeight s_askedBalance s_arcFrom s_arcTo s_arcRoom s_arcWeight s_distance s_byArc (Or.inr ⟨rfl, hce⟩))
theorem sx_u11 {post : Int32 → SX → Prop} {m : Nat} {fm tt : Nat → Nat} {rm cs bl : Nat → Int} (hd : sd_DB m fm tt rm cs bl a_from a_to a_rooms a_costs a_balances)
    (K1 : ∀ (s_arcs : Int32) (s_total : Int64) (s_askedRoom : Nat → Int32) (s_askedWeight : Nat → Int64) (s_askedBalance : Nat → Int32) (s_arcFrom : Nat → Int32) (s_arcTo : Nat → Int32) (s_arcRoom : Nat → Int32) (s_arcWeight : Nat → Int64) (s_distance : Nat → Int64) (s_byArc : Nat → Int32), (∀ k, k < 7 → m.testBit k = true → ∃ w, sd_NK fm tt (sd_W2 cs k 1) (sd_cap m rm) bl k w ∧ sd_NK fm tt (sd_W2 cs k (-1)) (sd_cap m rm) bl k w) → post 1 (nI m, s_arcs, s_total, a_from, a_to, a_rooms, a_costs, a_balances, s_askedRoom, s_askedWeight, s_askedBalance, s_arcFrom, s_arcTo, s_arcRoom, s_arcWeight, s_distance, s_byArc))
    (K0 : ∀ (s_arcs : Int32) (s_total : Int64) (s_askedRoom : Nat → Int32) (s_askedWeight : Nat → Int64) (s_askedBalance : Nat → Int32) (s_arcFrom : Nat → Int32) (s_arcTo : Nat → Int32) (s_arcRoom : Nat → Int32) (s_arcWeight : Nat → Int64) (s_distance : Nat → Int64) (s_byArc : Nat → Int32), (∃ k, k < 7 ∧ m.testBit k = true ∧ ∃ w w', w ≠ w' ∧ sd_NK fm tt (sd_W2 cs k 1) (sd_cap m rm) bl k w ∧ sd_NK fm tt (sd_W2 cs k (-1)) (sd_cap m rm) bl k w') → post 0 (nI m, s_arcs, s_total, a_from, a_to, a_rooms, a_costs, a_balances, s_askedRoom, s_askedWeight, s_askedBalance, s_arcFrom, s_arcTo, s_arcRoom, s_arcWeight, s_distance, s_byArc)) :
    ∀ f j (s_arcs : Int32) (s_total : Int64) (s_askedRoom : Nat → Int32) (s_askedWeight : Nat → Int64) (s_askedBalance : Nat → Int32) (s_arcFrom : Nat → Int32) (s_arcTo : Nat → Int32) (s_arcRoom : Nat → Int32) (s_arcWeight : Nat → Int64) (s_distance : Nat → Int64) (s_byArc : Nat → Int32), j ≤ 7 → 7 - j < f → (∀ k, k < j → m.testBit k = true → ∃ w, sd_NK fm tt (sd_W2 cs k 1) (sd_cap m rm) bl k w ∧ sd_NK fm tt (sd_W2 cs k (-1)) (sd_cap m rm) bl k w) →
      wX_unique_11 post f (nI j) (nI m) s_arcs s_total a_from a_to a_rooms a_costs a_balances s_askedRoom s_askedWeight s_askedBalance s_arcFrom s_arcTo s_arcRoom s_arcWeight s_distance s_byArc := by
  intro f
  induction f with
  | zero => intro j s_arcs s_total s_askedRoom s_askedWeight s_askedBalance s_arcFrom s_arcTo s_arcRoom s_arcWeight s_distance s_byArc _ h _; omega
  | succ f ih =>
    intro j s_arcs s_total s_askedRoom s_askedWeight s_askedBalance s_arcFrom s_arcTo s_arcRoom s_arcWeight s_distance s_byArc hj hfu I
    by_cases e : j = 7
    · subst e
      exact br_t (by decide) (K1 s_arcs s_total s_askedRoom s_askedWeight s_askedBalance s_arcFrom s_arcTo s_arcRoom s_arcWeight s_distance s_byArc I)
    · have hj7 : j < 7 := by omega
      refine br_f (nI_ge (b := 7) hj7 (by decide)) ?_
      have next : ∀ (s_arcs : Int32) (s_total : Int64) (s_askedRoom : Nat → Int32) (s_askedWeight : Nat → Int64) (s_askedBalance : Nat → Int32) (s_arcFrom : Nat → Int32) (s_arcTo : Nat → Int32) (s_arcRoom : Nat → Int32) (s_arcWeight : Nat → Int64) (s_distance : Nat → Int64) (s_byArc : Nat → Int32), (m.testBit j = true → ∃ w, sd_NK fm tt (sd_W2 cs j 1) (sd_cap m rm) bl j w ∧ sd_NK fm tt (sd_W2 cs j (-1)) (sd_cap m rm) bl j w) →
          ∀ y, y = nI j + 1 → wX_unique_11 post f y (nI m) s_arcs s_total a_from a_to a_rooms a_costs a_balances s_askedRoom s_askedWeight s_askedBalance s_arcFrom s_arcTo s_arcRoom s_arcWeight s_distance s_byArc := by
        intro s_arcs s_total s_askedRoom s_askedWeight s_askedBalance s_arcFrom s_arcTo s_arcRoom s_arcWeight s_distance s_byArc h y ey
        rw [nI_1] at ey
        subst ey
        refine ih (j + 1) s_arcs s_total s_askedRoom s_askedWeight s_askedBalance s_arcFrom s_arcTo s_arcRoom s_arcWeight s_distance s_byArc (by omega) (by omega) ?_
        intro k hk hb
        by_cases z : k = j
        · subst z; exact h hb
        · exact I k (by omega) hb
      refine sx_range (w := 0) hd hj7 (by decide) (fun h => ?_) (fun h w s_arcs s_total s_askedRoom s_askedWeight s_askedBalance s_arcFrom s_arcTo s_arcRoom s_arcWeight s_distance s_byArc hw => ?_)
      · refine sx_range (w := 1) hd hj7 (by decide) (fun h' => ?_) (fun h' => absurd h' (by rw [h]; decide))
        exact br_t rfl (next _ _ _ _ _ _ _ _ _ _ _ (fun h' => absurd h' (by rw [h]; decide)))
      · refine sx_range (w := 1) hd hj7 (by decide) (fun h' => absurd h (by rw [h']; decide)) (fun h' w' s_arcs s_total s_askedRoom s_askedWeight s_askedBalance s_arcFrom s_arcTo s_arcRoom s_arcWeight s_distance s_byArc hw' => ?_)
        by_cases z : w = w'
        · exact br_t z (next _ _ _ _ _ _ _ _ _ _ _ (fun _ => ⟨w, hw, by rw [z]; exact hw'⟩))
        · exact br_f z (K0 s_arcs s_total s_askedRoom s_askedWeight s_askedBalance s_arcFrom s_arcTo s_arcRoom s_arcWeight s_distance s_byArc ⟨j, hj7, h, w, w', z, hw, hw'⟩)
theorem sx_unique {post : Int32 → SX → Prop} {m : Nat} {fm tt : Nat → Nat} {rm cs bl : Nat → Int} (hd : sd_DB m fm tt rm cs bl a_from a_to a_rooms a_costs a_balances)
    (KC : ∀ (s_arcs : Int32) (s_total : Int64) (s_askedRoom : Nat → Int32) (s_askedWeight : Nat → Int64) (s_askedBalance : Nat → Int32) (s_arcFrom : Nat → Int32) (s_arcTo : Nat → Int32) (s_arcRoom : Nat → Int32) (s_arcWeight : Nat → Int64) (s_distance : Nat → Int64) (s_byArc : Nat → Int32), sd_Ce fm tt (sd_cap m rm) bl → post 0 (nI m, s_arcs, s_total, a_from, a_to, a_rooms, a_costs, a_balances, s_askedRoom, s_askedWeight, s_askedBalance, s_arcFrom, s_arcTo, s_arcRoom, s_arcWeight, s_distance, s_byArc))
    (K1 : ∀ (s_arcs : Int32) (s_total : Int64) (s_askedRoom : Nat → Int32) (s_askedWeight : Nat → Int64) (s_askedBalance : Nat → Int32) (s_arcFrom : Nat → Int32) (s_arcTo : Nat → Int32) (s_arcRoom : Nat → Int32) (s_arcWeight : Nat → Int64) (s_distance : Nat → Int64) (s_byArc : Nat → Int32), (∃ x, sd_Fe fm tt (sd_cap m rm) bl x) → (∀ k, k < 7 → m.testBit k = true → ∃ w, sd_NK fm tt (sd_W2 cs k 1) (sd_cap m rm) bl k w ∧ sd_NK fm tt (sd_W2 cs k (-1)) (sd_cap m rm) bl k w) → post 1 (nI m, s_arcs, s_total, a_from, a_to, a_rooms, a_costs, a_balances, s_askedRoom, s_askedWeight, s_askedBalance, s_arcFrom, s_arcTo, s_arcRoom, s_arcWeight, s_distance, s_byArc))
    (K0 : ∀ (s_arcs : Int32) (s_total : Int64) (s_askedRoom : Nat → Int32) (s_askedWeight : Nat → Int64) (s_askedBalance : Nat → Int32) (s_arcFrom : Nat → Int32) (s_arcTo : Nat → Int32) (s_arcRoom : Nat → Int32) (s_arcWeight : Nat → Int64) (s_distance : Nat → Int64) (s_byArc : Nat → Int32), (∃ x, sd_Fe fm tt (sd_cap m rm) bl x) → (∃ k, k < 7 ∧ m.testBit k = true ∧ ∃ w w', w ≠ w' ∧ sd_NK fm tt (sd_W2 cs k 1) (sd_cap m rm) bl k w ∧ sd_NK fm tt (sd_W2 cs k (-1)) (sd_cap m rm) bl k w') → post 0 (nI m, s_arcs, s_total, a_from, a_to, a_rooms, a_costs, a_balances, s_askedRoom, s_askedWeight, s_askedBalance, s_arcFrom, s_arcTo, s_arcRoom, s_arcWeight, s_distance, s_byArc)) :
    wpX_unique post (nI m, f_arcs, f_total, a_from, a_to, a_rooms, a_costs, a_balances, a_askedRoom, a_askedWeight, a_askedBalance, a_arcFrom, a_arcTo, a_arcRoom, a_arcWeight, a_distance, a_byArc) := by
  unfold wpX_unique
  refine sx_possible hd (fun r s_arcs s_total s_askedRoom s_askedWeight s_askedBalance s_arcFrom s_arcTo s_arcRoom s_arcWeight s_distance s_byArc h => ?_)
  rcases h with ⟨er, hx⟩ | ⟨er, hc⟩
  · refine br_f (by rw [er]; decide) ⟨8, ?_⟩
    exact sx_u11 hd (fun s_arcs s_total s_askedRoom s_askedWeight s_askedBalance s_arcFrom s_arcTo s_arcRoom s_arcWeight s_distance s_byArc h => K1 s_arcs s_total s_askedRoom s_askedWeight s_askedBalance s_arcFrom s_arcTo s_arcRoom s_arcWeight s_distance s_byArc hx h) (fun s_arcs s_total s_askedRoom s_askedWeight s_askedBalance s_arcFrom s_arcTo s_arcRoom s_arcWeight s_distance s_byArc h => K0 s_arcs s_total s_askedRoom s_askedWeight s_askedBalance s_arcFrom s_arcTo s_arcRoom s_arcWeight s_distance s_byArc hx h) 8 0 s_arcs s_total s_askedRoom s_askedWeight s_askedBalance s_arcFrom s_arcTo s_arcRoom s_arcWeight s_distance s_byArc (by omega) (by omega) (fun k hk => absurd hk (Nat.not_lt_zero k))
  · exact br_t er (KC s_arcs s_total s_askedRoom s_askedWeight s_askedBalance s_arcFrom s_arcTo s_arcRoom s_arcWeight s_distance s_byArc hc)
end
end
section
/-! the dictionary order -/
def sd_lx (x y : Nat → Int) : Prop := ∃ k, k < 7 ∧ (∀ j, j < k → x j = y j) ∧ x k < y k
def sd_e7 (x y : Nat → Int) : Prop := ∀ k, k < 7 → x k = y k
def sd_Bx (c x : Nat → Int) : Prop := ∀ k, k < 7 → 0 ≤ x k ∧ x k ≤ c k
theorem sd_fst (x y : Nat → Int) : ∀ n, (∀ j, j < n → x j = y j) ∨ ∃ k, k < n ∧ (∀ j, j < k → x j = y j) ∧ x k ≠ y k
  | 0 => Or.inl fun j hj => absurd hj (Nat.not_lt_zero j)
  | n + 1 => by
    rcases sd_fst x y n with h | ⟨k, hk, h1, h2⟩
    · by_cases e : x n = y n
      · left
        intro j hj
        by_cases z : j = n
        · rw [z]; exact e
        · exact h j (by omega)
      · exact Or.inr ⟨n, Nat.lt_succ_self n, h, e⟩
    · exact Or.inr ⟨k, by omega, h1, h2⟩
theorem sd_tri (x y : Nat → Int) : sd_e7 x y ∨ sd_lx x y ∨ sd_lx y x := by
  rcases sd_fst x y 7 with h | ⟨k, hk, h1, h2⟩
  · exact Or.inl h
  · by_cases e : x k < y k
    · exact Or.inr (Or.inl ⟨k, hk, h1, e⟩)
    · exact Or.inr (Or.inr ⟨k, hk, fun j hj => (h1 j hj).symm, by omega⟩)
theorem sd_lx_ir (x y : Nat → Int) (h : sd_e7 x y) : ¬ sd_lx x y := by
  rintro ⟨k, hk, _, h2⟩
  have := h k hk
  omega
theorem sd_lx_as {x y : Nat → Int} (h : sd_lx x y) : ¬ sd_lx y x := by
  obtain ⟨k, hk, h1, h2⟩ := h
  rintro ⟨j, hj, g1, g2⟩
  by_cases e : k < j
  · have := g1 k e; omega
  · by_cases e2 : j < k
    · have := h1 j e2; omega
    · have e3 : j = k := by omega
      subst e3; omega
theorem sd_lx_c {x x' y y' : Nat → Int} (hx : sd_e7 x x') (hy : sd_e7 y y') (h : sd_lx x y) : sd_lx x' y' := by
  obtain ⟨k, hk, h1, h2⟩ := h
  refine ⟨k, hk, fun j hj => ?_, ?_⟩
  · rw [← hx j (by omega), ← hy j (by omega)]; exact h1 j hj
  · rw [← hx k hk, ← hy k hk]; exact h2
theorem sd_e7_s {x y : Nat → Int} (h : sd_e7 x y) : sd_e7 y x := fun k hk => (h k hk).symm
theorem sd_e7_t {x y z : Nat → Int} (h : sd_e7 x y) (g : sd_e7 y z) : sd_e7 x z := fun k hk => (h k hk).trans (g k hk)
/-- N' comes next after N -/
def sd_nx (c N N' : Nat → Int) : Prop :=
  ∃ k, k < 7 ∧ (∀ j, j < k → N' j = N j) ∧ N' k = N k + 1 ∧ N k < c k ∧ (∀ j, k < j → j < 7 → N' j = 0 ∧ N j = c j)
theorem sd_nx_Bx {c N N' : Nat → Int} (hc : ∀ k, k < 7 → 0 ≤ c k) (h : sd_nx c N N') (hB : sd_Bx c N) : sd_Bx c N' := by
  obtain ⟨k, hk, h1, h2, h3, h4⟩ := h
  intro j hj
  have hb := hB j hj
  by_cases e : j < k
  · rw [h1 j e]; exact hb
  · by_cases e2 : j = k
    · subst e2; rw [h2]; omega
    · have h5 := h4 j (by omega) hj
      have := hc j hj
      rw [h5.1]; omega
theorem sd_nx_lx {c N N' : Nat → Int} (h : sd_nx c N N') (x : Nat → Int) (hx : sd_Bx c x) : sd_lx x N' ↔ sd_lx x N ∨ sd_e7 x N := by
  obtain ⟨k, hk, h1, h2, h3, h4⟩ := h
  constructor
  · rintro ⟨i, hi, g1, g2⟩
    by_cases e : i < k
    · refine Or.inl ⟨i, hi, fun j hj => ?_, ?_⟩
      · rw [← h1 j (by omega)]; exact g1 j hj
      · rw [← h1 i e]; exact g2
    · by_cases e2 : i = k
      · subst e2
        rw [h2] at g2
        have g3 : ∀ j, j < i → x j = N j := fun j hj => by rw [← h1 j hj]; exact g1 j hj
        by_cases e3 : x i < N i
        · exact Or.inl ⟨i, hi, g3, e3⟩
        · rcases sd_tri x N with t | t | ⟨a, ha, t1, t2⟩
          · exact Or.inr t
          · exact Or.inl t
          · exfalso
            by_cases z1 : a < i
            · have := g3 a z1; omega
            · by_cases z2 : a = i
              · subst z2; omega
              · have h5 := h4 a (by omega) ha
                have h6 := hx a ha
                omega
      · exfalso
        have h5 := h4 i (by omega) hi
        have h6 := hx i hi
        rw [h5.1] at g2
        omega
  · rintro (⟨i, hi, g1, g2⟩ | g)
    · by_cases e : i < k
      · refine ⟨i, hi, fun j hj => ?_, ?_⟩
        · rw [h1 j (by omega)]; exact g1 j hj
        · rw [h1 i e]; exact g2
      · by_cases e2 : i = k
        · subst e2
          refine ⟨i, hi, fun j hj => ?_, by omega⟩
          rw [h1 j hj]; exact g1 j hj
        · refine ⟨k, hk, fun j hj => ?_, ?_⟩
          · rw [h1 j hj]; exact g1 j (by omega)
          · have := g1 k (by omega); omega
    · refine ⟨k, hk, fun j hj => ?_, ?_⟩
      · rw [h1 j hj]; exact g j (by omega)
      · have := g k hk; omega
theorem sd_nx_end {c N : Nat → Int} (h : ∀ k, k < 7 → N k = c k) (x : Nat → Int) (hx : sd_Bx c x) : sd_lx x N ∨ sd_e7 x N := by
  rcases sd_tri x N with t | t | ⟨a, ha, t1, t2⟩
  · exact Or.inr t
  · exact Or.inl t
  · have h1 := h a ha
    have h2 := hx a ha
    omega
/-- the place of N in the order -/
def sd_V5 (N : Nat → Int) : Int := 15625 * N 0 + 3125 * N 1 + 625 * N 2 + 125 * N 3 + 25 * N 4 + 5 * N 5 + N 6
theorem sd_V5_nx {c N N' : Nat → Int} (hc : ∀ k, k < 7 → c k ≤ 4) (h : sd_nx c N N') : sd_V5 N + 1 ≤ sd_V5 N' := by
  obtain ⟨k, hk, h1, h2, h3, h4⟩ := h
  unfold sd_V5
  have c0 := hc 0 (by decide)
  have c1 := hc 1 (by decide)
  have c2 := hc 2 (by decide)
  have c3 := hc 3 (by decide)
  have c4 := hc 4 (by decide)
  have c5 := hc 5 (by decide)
  have c6 := hc 6 (by decide)
  have hk' : k = 0 ∨ k = 1 ∨ k = 2 ∨ k = 3 ∨ k = 4 ∨ k = 5 ∨ k = 6 := by omega
  rcases hk' with e | e | e | e | e | e | e <;> subst e
  · have := h4 1 (by decide) (by decide); have := h4 2 (by decide) (by decide); have := h4 3 (by decide) (by decide)
    have := h4 4 (by decide) (by decide); have := h4 5 (by decide) (by decide); have := h4 6 (by decide) (by decide)
    omega
  · have := h1 0 (by decide); have := h4 2 (by decide) (by decide); have := h4 3 (by decide) (by decide)
    have := h4 4 (by decide) (by decide); have := h4 5 (by decide) (by decide); have := h4 6 (by decide) (by decide)
    omega
  · have := h1 0 (by decide); have := h1 1 (by decide); have := h4 3 (by decide) (by decide)
    have := h4 4 (by decide) (by decide); have := h4 5 (by decide) (by decide); have := h4 6 (by decide) (by decide)
    omega
  · have := h1 0 (by decide); have := h1 1 (by decide); have := h1 2 (by decide)
    have := h4 4 (by decide) (by decide); have := h4 5 (by decide) (by decide); have := h4 6 (by decide) (by decide)
    omega
  · have := h1 0 (by decide); have := h1 1 (by decide); have := h1 2 (by decide)
    have := h1 3 (by decide); have := h4 5 (by decide) (by decide); have := h4 6 (by decide) (by decide)
    omega
  · have := h1 0 (by decide); have := h1 1 (by decide); have := h1 2 (by decide)
    have := h1 3 (by decide); have := h1 4 (by decide); have := h4 6 (by decide) (by decide)
    omega
  · have := h1 0 (by decide); have := h1 1 (by decide); have := h1 2 (by decide)
    have := h1 3 (by decide); have := h1 4 (by decide); have := h1 5 (by decide)
    omega
theorem sd_V5_b {c N : Nat → Int} (hc : ∀ k, k < 7 → c k ≤ 4) (hB : sd_Bx c N) : 0 ≤ sd_V5 N ∧ sd_V5 N ≤ 78124 := by
  unfold sd_V5
  have c0 := hc 0 (by decide); have b0 := hB 0 (by decide)
  have c1 := hc 1 (by decide); have b1 := hB 1 (by decide)
  have c2 := hc 2 (by decide); have b2 := hB 2 (by decide)
  have c3 := hc 3 (by decide); have b3 := hB 3 (by decide)
  have c4 := hc 4 (by decide); have b4 := hB 4 (by decide)
  have c5 := hc 5 (by decide); have b5 := hB 5 (by decide)
  have c6 := hc 6 (by decide); have b6 := hB 6 (by decide)
  omega
end
section
/-! what is known of the shipments found: G says which have been found -/
def sd_OK (cs : Nat → Int) (G : (Nat → Int) → Prop) (lc mc wy : Int) (fs lo hi : Nat → Int) : Prop :=
  1 ≤ wy ∧ (G fs ∧ sd_ct cs fs = lc) ∧ (∀ x, G x → lc ≤ sd_ct cs x) ∧ (∀ x, G x → sd_ct cs x = lc → ¬ sd_lx x fs) ∧
  (∃ x, G x ∧ sd_ct cs x = mc) ∧ (∀ x, G x → sd_ct cs x ≤ mc) ∧
  (∀ k, k < 7 → (∃ x, G x ∧ sd_ct cs x = lc ∧ x k = lo k) ∧ (∃ x, G x ∧ sd_ct cs x = lc ∧ x k = hi k) ∧ ∀ x, G x → sd_ct cs x = lc → lo k ≤ x k ∧ x k ≤ hi k) ∧
  (wy = 1 → ∀ x, G x → sd_ct cs x = lc → sd_e7 x fs) ∧ (2 ≤ wy → ∃ x, G x ∧ sd_ct cs x = lc ∧ ¬ sd_e7 x fs)
def sd_NI (cs : Nat → Int) (G : (Nat → Int) → Prop) (lc mc wy : Int) (fs lo hi : Nat → Int) : Prop :=
  (wy = 0 ∧ lc = -100000 ∧ mc = -100000 ∧ ∀ x, ¬ G x) ∨ sd_OK cs G lc mc wy fs lo hi
theorem sd_NI_c {cs : Nat → Int} {G G' : (Nat → Int) → Prop} {lc mc wy : Int} {fs lo hi : Nat → Int} (h : ∀ x, G x ↔ G' x) (I : sd_NI cs G lc mc wy fs lo hi) : sd_NI cs G' lc mc wy fs lo hi := by
  have e : G = G' := funext fun x => propext (h x)
  rw [← e]; exact I
section
variable {cs : Nat → Int} {G G' : (Nat → Int) → Prop} {lc mc wy : Int} {fs lo hi N : Nat → Int}
/-- a better one -/
theorem sd_OK_better (hN : G' N) (hG : ∀ x, G' x → G x ∨ sd_e7 x N) (hg : ∀ x, G x → sd_ct cs N < sd_ct cs x) {mc' : Int}
    (hm1 : ∃ x, G' x ∧ sd_ct cs x = mc') (hm2 : ∀ x, G' x → sd_ct cs x ≤ mc') : sd_OK cs G' (sd_ct cs N) mc' 1 N N N := by
  have key : ∀ x, G' x → sd_ct cs x = sd_ct cs N → sd_e7 x N := by
    intro x hx he
    rcases hG x hx with h | h
    · have := hg x h; omega
    · exact h
  refine ⟨by decide, ⟨hN, rfl⟩, ?_, ?_, hm1, hm2, ?_, fun _ => key, fun h => absurd h (by decide)⟩
  · intro x hx
    rcases hG x hx with h | h
    · have := hg x h; omega
    · rw [sd_ct_c h]; exact Int.le_refl _
  · intro x hx he
    exact sd_lx_ir x N (key x hx he)
  · intro k hk
    refine ⟨⟨N, hN, rfl, rfl⟩, ⟨N, hN, rfl, rfl⟩, fun x hx he => ?_⟩
    have := key x hx he k hk
    omega
/-- an equal one, later in the order -/
theorem sd_OK_equal (I : sd_OK cs G lc mc wy fs lo hi) (hs : ∀ x, G x → G' x) (hN : G' N) (hG : ∀ x, G' x → G x ∨ sd_e7 x N) (hlx : ∀ x, G x → sd_lx x N) (hc : sd_ct cs N = lc)
    {lo' hi' : Nat → Int} (hlo : ∀ k, k < 7 → lo' k = if N k < lo k then N k else lo k) (hhi : ∀ k, k < 7 → hi' k = if hi k < N k then N k else hi k) :
    sd_OK cs G' lc mc (wy + 1) fs lo' hi' := by
  obtain ⟨i1, ⟨i2, i2'⟩, i3, i4, ⟨xm, i5, i5'⟩, i6, i7, i8, i9⟩ := I
  refine ⟨by omega, ⟨hs _ i2, i2'⟩, ?_, ?_, ⟨xm, hs _ i5, i5'⟩, ?_, ?_, fun h => by omega, fun _ => ⟨N, hN, hc, ?_⟩⟩
  · intro x hx
    rcases hG x hx with h | h
    · exact i3 x h
    · rw [sd_ct_c h, hc]; exact Int.le_refl _
  · intro x hx he
    rcases hG x hx with h | h
    · exact i4 x h he
    · intro z
      have h1 := hlx fs i2
      exact sd_lx_as h1 (sd_lx_c h (fun _ _ => rfl) z)
  · intro x hx
    rcases hG x hx with h | h
    · exact i6 x h
    · rw [sd_ct_c h, hc, ← i2']; exact i6 fs i2
  · intro k hk
    obtain ⟨⟨xl, a1, a2, a3⟩, ⟨xh, b1, b2, b3⟩, j⟩ := i7 k hk
    rw [hlo k hk, hhi k hk]
    refine ⟨?_, ?_, fun x hx he => ?_⟩
    · by_cases e : N k < lo k
      · rw [if_pos e]; exact ⟨N, hN, hc, rfl⟩
      · rw [if_neg e]; exact ⟨xl, hs _ a1, a2, a3⟩
    · by_cases e : hi k < N k
      · rw [if_pos e]; exact ⟨N, hN, hc, rfl⟩
      · rw [if_neg e]; exact ⟨xh, hs _ b1, b2, b3⟩
    · have hx' : (lo k ≤ x k ∧ x k ≤ hi k) ∨ x k = N k := by
        rcases hG x hx with h | h
        · exact Or.inl (j x h he)
        · exact Or.inr (h k hk)
      by_cases e : N k < lo k
      · rw [if_pos e]
        by_cases e2 : hi k < N k
        · rw [if_pos e2]; omega
        · rw [if_neg e2]; omega
      · rw [if_neg e]
        by_cases e2 : hi k < N k
        · rw [if_pos e2]; omega
        · rw [if_neg e2]; omega
  · intro z
    have h1 := hlx fs i2
    exact sd_lx_ir fs N (sd_e7_s z) h1
/-- a worse one -/
theorem sd_OK_worse (I : sd_OK cs G lc mc wy fs lo hi) (hs : ∀ x, G x → G' x) (hG : ∀ x, G' x → G x ∨ sd_e7 x N) (hc : lc < sd_ct cs N)
    {mc' : Int} (hm1 : ∃ x, G' x ∧ sd_ct cs x = mc') (hm2 : ∀ x, G' x → sd_ct cs x ≤ mc') : sd_OK cs G' lc mc' wy fs lo hi := by
  obtain ⟨i1, ⟨i2, i2'⟩, i3, i4, _, _, i7, i8, i9⟩ := I
  have key : ∀ x, G' x → sd_ct cs x = lc → G x := by
    intro x hx he
    rcases hG x hx with h | h
    · exact h
    · rw [sd_ct_c h] at he; omega
  refine ⟨i1, ⟨hs _ i2, i2'⟩, ?_, fun x hx he => i4 x (key x hx he) he, hm1, hm2, ?_, fun h x hx he => i8 h x (key x hx he) he, fun h => ?_⟩
  · intro x hx
    rcases hG x hx with h | h
    · exact i3 x h
    · rw [sd_ct_c h]; omega
  · intro k hk
    obtain ⟨⟨xl, a1, a2, a3⟩, ⟨xh, b1, b2, b3⟩, j⟩ := i7 k hk
    exact ⟨⟨xl, hs _ a1, a2, a3⟩, ⟨xh, hs _ b1, b2, b3⟩, fun x hx he => j x (key x hx he) he⟩
  · obtain ⟨x, h1, h2, h3⟩ := i9 h
    exact ⟨x, hs _ h1, h2, h3⟩
/-- the greatest cost -/
theorem sd_OK_most (I : sd_OK cs G lc mc wy fs lo hi) (hs : ∀ x, G x → G' x) (hN : G' N) (hG : ∀ x, G' x → G x ∨ sd_e7 x N) :
    (∃ x, G' x ∧ sd_ct cs x = if sd_ct cs N ≤ mc then mc else sd_ct cs N) ∧ ∀ x, G' x → sd_ct cs x ≤ if sd_ct cs N ≤ mc then mc else sd_ct cs N := by
  obtain ⟨_, _, _, _, ⟨xm, i5, i5'⟩, i6, _⟩ := I
  by_cases e : sd_ct cs N ≤ mc
  · rw [if_pos e]
    refine ⟨⟨xm, hs _ i5, i5'⟩, fun x hx => ?_⟩
    rcases hG x hx with h | h
    · exact i6 x h
    · rw [sd_ct_c h]; exact e
  · rw [if_neg e]
    refine ⟨⟨N, hN, rfl⟩, fun x hx => ?_⟩
    rcases hG x hx with h | h
    · have := i6 x h; omega
    · rw [sd_ct_c h]; exact Int.le_refl _
end
end
section
/-! the reference: the small passes -/
def sd_TH (m : Nat) (th : Nat → Int32) : Prop := ∀ k, k < 7 → th k = if m.testBit k = true then 1 else 0
def sd_okb (E : Nat → Int) (p q : Nat) (z : Int) (r : Nat) : Prop := E r = if r = p then z else if r = q then -z else 0
theorem sd_m1 (k : Nat) : nI k + (-1) = sd_i ((k : Int) - 1) := by
  rw [sd_iN, show (-1 : Int32) = sd_i (-1) from by decide, sd_ia]; apply congrArg; omega
section
variable {f_leastCost : Int32} {f_mostCost : Int32} {f_ways : Int32} {a_there : Nat → Int32} {a_as : Nat → Int32} {a_bs : Nat → Int32} {a_rooms : Nat → Int32} {a_costs : Nat → Int32} {a_balances : Nat → Int32} {a_nums : Nat → Int32} {a_extra : Nat → Int32} {a_firsts : Nat → Int32} {a_lows : Nat → Int32} {a_highs : Nat → Int32}
theorem sy_begin {post : SY → Prop} (K : ∀ nu, (∀ k, k < 7 → nu k = sd_i 0) → post (-100000, -100000, 0, a_there, a_as, a_bs, a_rooms, a_costs, a_balances, nu, a_extra, a_firsts, a_lows, a_highs)) : wpY_begin post (f_leastCost, f_mostCost, f_ways, a_there, a_as, a_bs, a_rooms, a_costs, a_balances, a_nums, a_extra, a_firsts, a_lows, a_highs) := by
  have go : ∀ n j nu, j ≤ 7 → 7 - j < n → (∀ k, k < j → nu k = sd_i 0) → wY_begin_2 post f_leastCost f_mostCost f_ways n (nI j) a_there a_as a_bs a_rooms a_costs a_balances nu a_extra a_firsts a_lows a_highs := by
    intro n
    induction n with
    | zero => intro j nu _ h _; omega
    | succ n ih =>
      intro j nu hj hn I
      by_cases e : j = 7
      · subst e; exact br_t (by decide) (K nu I)
      · have hj7 : j < 7 := by omega
        refine br_f (nI_ge (b := 7) hj7 (by decide)) ⟨vp_in_nI hj7 (by decide), ?_⟩
        rw [sd_cl (show j < 2147483648 by omega)]
        refine nm_e (nm_r (nI_1 j) (ih (j + 1) _ (by omega) (by omega) ?_))
        intro k hk
        by_cases z : k = j
        · subst z; rw [sd_us]; rfl
        · rw [sd_un z]; exact I k (by omega)
  exact ⟨8, go 8 0 _ (by omega) (by omega) (fun k hk => absurd hk (Nat.not_lt_zero k))⟩
theorem sy_adv {post : Int32 → SY → Prop} {m : Nat} {rm N : Nat → Int} (hth : sd_TH m a_there) (hrm : ∀ k, k < 7 → a_rooms k = sd_i (rm k) ∧ 0 ≤ rm k ∧ rm k ≤ 4)
    (hB : sd_Bx (sd_cap m rm) N) (hN : ∀ k, k < 7 → a_nums k = sd_i (N k))
    (K1 : ∀ nu N', sd_nx (sd_cap m rm) N N' → (∀ k, k < 7 → nu k = sd_i (N' k)) → post 1 (f_leastCost, f_mostCost, f_ways, a_there, a_as, a_bs, a_rooms, a_costs, a_balances, nu, a_extra, a_firsts, a_lows, a_highs))
    (K0 : ∀ nu, (∀ k, k < 7 → N k = sd_cap m rm k) → post 0 (f_leastCost, f_mostCost, f_ways, a_there, a_as, a_bs, a_rooms, a_costs, a_balances, nu, a_extra, a_firsts, a_lows, a_highs)) : wpY_advance post (f_leastCost, f_mostCost, f_ways, a_there, a_as, a_bs, a_rooms, a_costs, a_balances, a_nums, a_extra, a_firsts, a_lows, a_highs) := by
  have go : ∀ i n nu, i ≤ 7 → i < n → (∀ j, j < i → nu j = sd_i (N j)) → (∀ j, i ≤ j → j < 7 → nu j = sd_i 0 ∧ N j = sd_cap m rm j) →
      wY_advance_3 post f_leastCost f_mostCost f_ways n (sd_i ((i : Int) - 1)) a_there a_as a_bs a_rooms a_costs a_balances nu a_extra a_firsts a_lows a_highs := by
    intro i
    induction i with
    | zero =>
      intro n nu _ hn I1 I2
      cases n with
      | zero => omega
      | succ n => exact br_t (show sd_i (((0 : Nat) : Int) - 1) < 0 from by decide) (K0 nu (fun k hk => (I2 k (Nat.zero_le k) hk).2))
    | succ k ih =>
      intro n nu hk hn I1 I2
      cases n with
      | zero => omega
      | succ n =>
        have hk7 : k < 7 := by omega
        have e : sd_i (((k + 1 : Nat) : Int) - 1) = nI k := by rw [sd_iN]; apply congrArg; omega
        have v7 : vp_in (nI k) 7 := vp_in_nI hk7 (by decide)
        have hNk := hB k hk7
        have hr := hrm k hk7
        have next : N k = sd_cap m rm k → wY_advance_3 post f_leastCost f_mostCost f_ways n (nI k + -1) a_there a_as a_bs a_rooms a_costs a_balances (upd nu k 0) a_extra a_firsts a_lows a_highs := by
          intro hc
          rw [sd_m1]
          refine ih n _ (by omega) (by omega) ?_ ?_
          · intro j hj
            rw [sd_un (by omega)]; exact I1 j (by omega)
          · intro j hj hj7
            by_cases z : j = k
            · subst z; exact ⟨sd_us, hc⟩
            · rw [sd_un z]; exact I2 j (by omega) hj7
        rw [e]
        refine br_f (nI_pos (by omega)) ⟨v7, ?_⟩
        rw [sd_cl (show k < 2147483648 by omega), hth k hk7]
        unfold sd_cap at hNk next
        by_cases hb : m.testBit k = true
        · rw [if_pos hb] at hNk next ⊢
          refine br_f (by decide) ⟨v7, v7, ?_⟩
          refine sd_ble (rm k) (N k) hr.1 (I1 k (Nat.lt_succ_self k)) (fun h => ?_) (fun h => ?_)
          · exact ⟨v7, nm_e (nm_e (next (by omega)))⟩
          · refine ⟨v7, v7, nm_e (K1 _ (fun j => if j < k then N j else if j = k then N k + 1 else 0) ⟨k, hk7, ?_, ?_, ?_, ?_⟩ ?_)⟩
            · intro j hj; exact if_pos hj
            · show (if k < k then N k else if k = k then N k + 1 else 0) = N k + 1
              rw [if_neg (Nat.lt_irrefl k), if_pos rfl]
            · unfold sd_cap; rw [if_pos hb]; exact h
            · intro j hj hj7
              refine ⟨?_, (I2 j (by omega) hj7).2⟩
              show (if j < k then N j else if j = k then N k + 1 else 0) = 0
              rw [if_neg (by omega), if_neg (by omega)]
            · intro j hj
              by_cases z : j = k
              · subst z
                rw [sd_us, I1 j (Nat.lt_succ_self j), if_neg (Nat.lt_irrefl j), if_pos rfl]
                exact sd_ia _ 1
              · rw [sd_un z]
                by_cases y : j < k
                · rw [if_pos y]; exact I1 j (by omega)
                · rw [if_neg y, if_neg z]; exact (I2 j (by omega) hj).1
        · rw [if_neg hb] at hNk next ⊢
          exact br_t rfl ⟨v7, nm_e (nm_e (next (by omega)))⟩
  exact ⟨8, go 7 8 _ (by omega) (by omega) hN (fun j hj hj7 => absurd hj7 (by omega))⟩
theorem sy_weigh {post : SY → Prop} {fm tt : Nat → Nat} {bl N : Nat → Int} (hf : ∀ k, k < 7 → fm k < 5 ∧ tt k < 5)
    (hft : ∀ k, k < 7 → a_as k = nI (fm k) ∧ a_bs k = nI (tt k)) (hbl : ∀ p, p < 5 → a_balances p = sd_i (bl p))
    (hNb : ∀ k, k < 7 → 0 ≤ N k ∧ N k ≤ 4) (hN : ∀ k, k < 7 → a_nums k = sd_i (N k))
    (K : ∀ ex, (∀ p, p < 5 → ex p = sd_i (sd_ox fm tt N p - bl p)) → post (f_leastCost, f_mostCost, f_ways, a_there, a_as, a_bs, a_rooms, a_costs, a_balances, a_nums, ex, a_firsts, a_lows, a_highs)) : wpY_weigh post (f_leastCost, f_mostCost, f_ways, a_there, a_as, a_bs, a_rooms, a_costs, a_balances, a_nums, a_extra, a_firsts, a_lows, a_highs) := by
  have go2 : ∀ n j ex, j ≤ 7 → 7 - j < n → (∀ p, p < 5 → ex p = sd_i (sd_on fm tt N j p - bl p)) → wY_weigh_28 post f_leastCost f_mostCost f_ways n (nI j) a_there a_as a_bs a_rooms a_costs a_balances a_nums ex a_firsts a_lows a_highs := by
    intro n
    induction n with
    | zero => intro j ex _ h _; omega
    | succ n ih =>
      intro j ex hj hn I
      by_cases e : j = 7
      · subst e; exact br_t (by decide) (K ex I)
      · have hj7 : j < 7 := by omega
        have v7 : vp_in (nI j) 7 := vp_in_nI hj7 (by decide)
        have hfj := hf j hj7
        have hNj := hNb j hj7
        have vf : vp_in (nI (fm j)) 5 := vp_in_nI hfj.1 (by decide)
        have vt : vp_in (nI (tt j)) 5 := vp_in_nI hfj.2 (by decide)
        have cf : (nI (fm j)).toNatClampNeg = fm j := sd_cl (by omega)
        have ct : (nI (tt j)).toNatClampNeg = tt j := sd_cl (by omega)
        refine br_f (nI_ge (b := 7) hj7 (by decide)) ⟨v7, ?_⟩
        rw [sd_cl (show j < 2147483648 by omega), (hft j hj7).1, (hft j hj7).2, cf, ct, hN j hj7]
        refine sd_ble (N j) 0 rfl rfl (fun h => ?_) (fun h => ?_)
        · refine nm_r (nI_1 j) (ih (j + 1) _ (by omega) (by omega) ?_)
          intro p hp
          have e0 : N j = 0 := by omega
          rw [I p hp, sd_on_s, e0]
          apply congrArg
          by_cases z1 : fm j = p <;> by_cases z2 : tt j = p <;> simp only [z1, z2, if_true, if_false] <;> omega
        · refine ⟨v7, v7, vf, v7, vf, nm_e ⟨v7, v7, vt, v7, vt, nm_e (nm_r (nI_1 j) (ih (j + 1) _ (by omega) (by omega) ?_))⟩⟩
          intro p hp
          have h1 : ∀ q, q < 5 → upd ex (fm j) (ex (fm j) + sd_i (N j)) q = sd_i (sd_on fm tt N j q - bl q + (if fm j = q then N j else 0)) := by
            intro q hq
            by_cases e : q = fm j
            · rw [e, sd_us, I _ hfj.1, sd_ia, if_pos rfl]
            · rw [sd_un e, I q hq, if_neg (fun z => e z.symm), Int.add_zero]
          rw [sd_on_s]
          by_cases e : p = tt j
          · rw [e, sd_us, h1 _ hfj.2, sd_is, if_pos (show tt j = tt j from rfl)]
            apply congrArg; omega
          · rw [sd_un e, h1 p hp, if_neg (show ¬ tt j = p from fun z => e z.symm)]
            apply congrArg; omega
  have go1 : ∀ n j ex, j ≤ 5 → 5 - j < n → (∀ p, p < j → ex p = sd_i (-bl p)) → wY_weigh_2 post f_leastCost f_mostCost f_ways n (nI j) a_there a_as a_bs a_rooms a_costs a_balances a_nums ex a_firsts a_lows a_highs := by
    intro n
    induction n with
    | zero => intro j ex _ h _; omega
    | succ n ih =>
      intro j ex hj hn I
      by_cases e : j = 5
      · subst e
        refine br_t (by decide) ⟨8, go2 8 0 ex (by omega) (by omega) (fun p hp => ?_)⟩
        rw [I p hp]; apply congrArg; show -bl p = 0 - bl p; omega
      · have hj5 : j < 5 := by omega
        refine br_f (nI_ge (b := 5) hj5 (by decide)) ⟨vp_in_nI hj5 (by decide), vp_in_nI hj5 (by decide), ?_⟩
        rw [sd_cl (show j < 2147483648 by omega), hbl j hj5, sd_in]
        refine nm_e (nm_r (nI_1 j) (ih (j + 1) _ (by omega) (by omega) ?_))
        intro p hp
        by_cases z : p = j
        · subst z; exact sd_us
        · rw [sd_un z]; exact I p (by omega)
  exact ⟨6, go1 6 0 _ (by omega) (by omega) (fun k hk => absurd hk (Nat.not_lt_zero k))⟩
theorem sy_bal {post : Int32 → Prop} {E : Nat → Int} {p q : Nat} {z : Int} (hp : p < 5) (hq : q < 5) (hE : ∀ r, r < 5 → a_extra r = sd_i (E r)) (hEb : ∀ r, r < 5 → -1000 ≤ E r ∧ E r ≤ 1000)
    (hz : -1000 ≤ z ∧ z ≤ 1000) (K1 : (∀ r, r < 5 → sd_okb E p q z r) → post 1) (K0 : (¬ ∀ r, r < 5 → sd_okb E p q z r) → post 0) : wpY_balanced post (f_leastCost, f_mostCost, f_ways, a_there, a_as, a_bs, a_rooms, a_costs, a_balances, a_nums, a_extra, a_firsts, a_lows, a_highs) (nI p) (nI q) (sd_i z) := by
  have go : ∀ n j x4, j ≤ 5 → 5 - j < n → ((x4 = 1 ∧ ∀ r, r < j → sd_okb E p q z r) ∨ (x4 = 0 ∧ ¬ ∀ r, r < 5 → sd_okb E p q z r)) →
      wY_balanced_6 post (nI p) (nI q) (sd_i z) f_leastCost f_mostCost f_ways a_there a_as a_bs a_rooms a_costs a_balances a_nums a_extra a_firsts a_lows a_highs n x4 (nI j) := by
    intro n
    induction n with
    | zero => intro j x4 _ h _; omega
    | succ n ih =>
      intro j x4 hj hn I
      by_cases e : j = 5
      · subst e
        refine br_t (by decide) ?_
        rcases I with ⟨e, h⟩ | ⟨e, h⟩
        · rw [e]; exact ⟨rfl, K1 h⟩
        · rw [e]; exact ⟨rfl, K0 h⟩
      · have hj5 : j < 5 := by omega
        refine br_f (nI_ge (b := 5) hj5 (by decide)) ?_
        rcases I with ⟨e, h⟩ | ⟨e, h⟩
        · have step : ∀ w : Int, -1000 ≤ w → w ≤ 1000 → (w = if j = p then z else if j = q then -z else 0) →
              wY_balanced_46 post (wY_balanced_6 post (nI p) (nI q) (sd_i z) f_leastCost f_mostCost f_ways a_there a_as a_bs a_rooms a_costs a_balances a_nums a_extra a_firsts a_lows a_highs n) (nI p) (nI q) (sd_i z) (nI j) (sd_i w) (a_extra j) f_leastCost f_mostCost f_ways a_there a_as a_bs a_rooms a_costs a_balances a_nums a_extra a_firsts a_lows a_highs := by
            intro w w1 w2 hw
            have hb := hEb j hj5
            unfold wY_balanced_46
            refine sd_beq (E j) w (hE j hj5) rfl (fun hh => ?_) (fun hh => ?_)
            · refine nm_r (nI_1 j) (ih (j + 1) 1 (by omega) (by omega) (Or.inl ⟨rfl, fun r hr => ?_⟩))
              by_cases y : r = j
              · subst y; exact hh.trans hw
              · exact h r (by omega)
            · refine nm_r (nI_1 j) (ih (j + 1) 0 (by omega) (by omega) (Or.inr ⟨rfl, fun all => ?_⟩))
              exact hh ((all j hj5).trans hw.symm)
          refine br_f (by rw [e]; decide) ⟨vp_in_nI hj5 (by decide), ?_⟩
          rw [sd_cl (show j < 2147483648 by omega)]
          refine sd_neq j p rfl rfl (fun hjp => step z hz.1 hz.2 (by rw [if_pos hjp])) (fun hjp => ?_)
          refine sd_neq j q rfl rfl (fun hjq => ?_) (fun hjq => ?_)
          · rw [sd_in]; exact step (-z) (by omega) (by omega) (by rw [if_neg hjp, if_pos hjq])
          · exact step 0 (by decide) (by decide) (by rw [if_neg hjp, if_neg hjq])
        · exact br_t e (nm_r (nI_1 j) (ih (j + 1) 0 (by omega) (by omega) (Or.inr ⟨rfl, h⟩)))
  exact ⟨6, go 6 0 1 (by omega) (by omega) (Or.inl ⟨rfl, fun r hr => absurd hr (Nat.not_lt_zero r)⟩)⟩
theorem sy_cost {post : Int32 → Prop} {cs N : Nat → Int} (hcs : ∀ k, k < 7 → a_costs k = sd_i (cs k)) (hN : ∀ k, k < 7 → a_nums k = sd_i (N k)) (K : post (sd_i (sd_ct cs N))) : wpY_cost post (f_leastCost, f_mostCost, f_ways, a_there, a_as, a_bs, a_rooms, a_costs, a_balances, a_nums, a_extra, a_firsts, a_lows, a_highs) := by
  have go : ∀ n j, j ≤ 7 → 7 - j < n → wY_cost_4 post f_leastCost f_mostCost f_ways a_there a_as a_bs a_rooms a_costs a_balances a_nums a_extra a_firsts a_lows a_highs n (sd_i (sd_sm (fun k => cs k * N k) j)) (nI j) := by
    intro n
    induction n with
    | zero => intro j _ h; omega
    | succ n ih =>
      intro j hj hn
      by_cases e : j = 7
      · subst e; exact br_t (by decide) K
      · have hj7 : j < 7 := by omega
        refine br_f (nI_ge (b := 7) hj7 (by decide)) ⟨vp_in_nI hj7 (by decide), vp_in_nI hj7 (by decide), ?_⟩
        rw [sd_cl (show j < 2147483648 by omega), hcs j hj7, hN j hj7, sd_im, sd_ia]
        exact nm_e (nm_r (nI_1 j) (ih (j + 1) (by omega) (by omega)))
  exact ⟨8, go 8 0 (by omega) (by omega)⟩
end
end
section
/-! the reference notes a shipment -/
section
variable {f_leastCost : Int32} {f_mostCost : Int32} {f_ways : Int32} {a_there : Nat → Int32} {a_as : Nat → Int32} {a_bs : Nat → Int32} {a_rooms : Nat → Int32} {a_costs : Nat → Int32} {a_balances : Nat → Int32} {a_nums : Nat → Int32} {a_extra : Nat → Int32} {a_firsts : Nat → Int32} {a_lows : Nat → Int32} {a_highs : Nat → Int32}
theorem sy_n50 {post : SY → Prop} {N fs lo hi fF fL fH : Nat → Int} {c mc : Int} {x2 x3 lcF wyF : Int32}
    (hN : ∀ k, k < 7 → a_nums k = sd_i (N k)) (hc : -1000 ≤ c ∧ c ≤ 1000) (hmc : mc = -100000 ∨ (-1000 ≤ mc ∧ mc ≤ 1000))
    (hfl : (x2 = 1 ∧ lcF = sd_i c ∧ wyF = 1 ∧ ∀ k, k < 7 → fF k = N k ∧ fL k = N k ∧ fH k = N k) ∨
      (x2 = 0 ∧ x3 = 1 ∧ lcF = f_leastCost ∧ wyF = f_ways + 1 ∧ (∀ k, k < 7 → (0 ≤ N k ∧ N k ≤ 4) ∧ (0 ≤ lo k ∧ lo k ≤ 4) ∧ (0 ≤ hi k ∧ hi k ≤ 4)) ∧
        ∀ k, k < 7 → fF k = fs k ∧ (fL k = if N k < lo k then N k else lo k) ∧ (fH k = if hi k < N k then N k else hi k)) ∨
      (x2 = 0 ∧ x3 = 0 ∧ lcF = f_leastCost ∧ wyF = f_ways ∧ ∀ k, k < 7 → fF k = fs k ∧ fL k = lo k ∧ fH k = hi k))
    (K : ∀ fi lw hg, (∀ k, k < 7 → fi k = sd_i (fF k)) → (∀ k, k < 7 → lw k = sd_i (fL k)) → (∀ k, k < 7 → hg k = sd_i (fH k)) →
      post (lcF, sd_i (if mc = -100000 then c else if c ≤ mc then mc else c), wyF, a_there, a_as, a_bs, a_rooms, a_costs, a_balances, a_nums, a_extra, fi, lw, hg)) :
    ∀ n j fi lw hg, j ≤ 7 → 7 - j < n → (∀ k, k < j → fi k = sd_i (fF k)) → (∀ k, k < j → lw k = sd_i (fL k)) → (∀ k, k < j → hg k = sd_i (fH k)) →
      (∀ k, j ≤ k → k < 7 → fi k = sd_i (fs k) ∧ lw k = sd_i (lo k) ∧ hg k = sd_i (hi k) ∨ x2 = 1) →
      wY_note_50 post (sd_i c) x2 x3 f_leastCost (sd_i mc) f_ways n (nI j) a_there a_as a_bs a_rooms a_costs a_balances a_nums a_extra fi lw hg := by
  intro n
  induction n with
  | zero => intro j fi lw hg _ h _ _ _ _; omega
  | succ n ih =>
    intro j fi lw hg hj hn I1 I2 I3 I4
    by_cases e : j = 7
    · subst e
      have h231 : ∀ z M, z = lcF → wY_note_231 post x2 x3 z f_leastCost (sd_i M) f_ways a_there a_as a_bs a_rooms a_costs a_balances a_nums a_extra fi lw hg ∨ ¬ M = (if mc = -100000 then c else if c ≤ mc then mc else c) := by
        intro z M hz
        by_cases hM : M = (if mc = -100000 then c else if c ≤ mc then mc else c)
        · left
          unfold wY_note_231
          rw [hM, hz]
          rcases hfl with ⟨e2, _, ew, _⟩ | ⟨e2, e3, _, ew, _⟩ | ⟨e2, e3, _, ew, _⟩
          · have k := K fi lw hg I1 I2 I3
            rw [ew] at k
            exact br_f (by rw [e2]; decide) k
          · have k := K fi lw hg I1 I2 I3
            rw [ew] at k
            exact br_t e2 (br_f (by rw [e3]; decide) (nm_e k))
          · have k := K fi lw hg I1 I2 I3
            rw [ew] at k
            exact br_t e2 (br_t e3 k)
        · exact Or.inr hM
      have h215 : ∀ M, M = (if mc = -100000 then c else if c ≤ mc then mc else c) → wY_note_215 post (sd_i c) x2 x3 (sd_i M) f_leastCost (sd_i mc) f_ways a_there a_as a_bs a_rooms a_costs a_balances a_nums a_extra fi lw hg := by
        intro M hM
        unfold wY_note_215
        rcases hfl with ⟨e2, el, _⟩ | ⟨e2, _, el, _⟩ | ⟨e2, _, el, _⟩
        · refine br_f (by rw [e2]; decide) ?_
          rcases h231 (sd_i c) M el.symm with h | h
          · exact h
          · exact absurd hM h
        · refine br_t e2 ?_
          rcases h231 f_leastCost M el.symm with h | h
          · exact h
          · exact absurd hM h
        · refine br_t e2 ?_
          rcases h231 f_leastCost M el.symm with h | h
          · exact h
          · exact absurd hM h
      refine br_t (by decide) ?_
      refine sd_beq mc (-100000) rfl sd_none (fun h => ?_) (fun h => ?_) (by omega) (by omega) (by decide) (by decide)
      · exact h215 c (by rw [if_pos h])
      · refine sd_ble c mc rfl rfl (fun h' => ?_) (fun h' => ?_) (by omega) (by omega) (by omega) (by omega)
        · exact h215 mc (by rw [if_neg h, if_pos h'])
        · exact h215 c (by rw [if_neg h, if_neg (by omega)])
    · have hj7 : j < 7 := by omega
      have v7 : vp_in (nI j) 7 := vp_in_nI hj7 (by decide)
      have cj : (nI j).toNatClampNeg = j := sd_cl (by omega)
      have hNj := hN j hj7
      have hJ : ∀ x, x = sd_i (fH j) → ∀ y, y = nI j + 1 → wY_note_50 post (sd_i c) x2 x3 f_leastCost (sd_i mc) f_ways n y a_there a_as a_bs a_rooms a_costs a_balances a_nums a_extra (upd fi j (sd_i (fF j))) (upd lw j (sd_i (fL j))) (upd hg j x) := by
        intro x hx y hy
        rw [nI_1] at hy
        subst hx hy
        refine ih (j + 1) _ _ _ (by omega) (by omega) ?_ ?_ ?_ ?_
        · intro k hk
          by_cases z : k = j
          · subst z; exact sd_us
          · rw [sd_un z]; exact I1 k (by omega)
        · intro k hk
          by_cases z : k = j
          · subst z; exact sd_us
          · rw [sd_un z]; exact I2 k (by omega)
        · intro k hk
          by_cases z : k = j
          · subst z; exact sd_us
          · rw [sd_un z]; exact I3 k (by omega)
        · intro k hk hk7
          rw [sd_un (by omega), sd_un (by omega), sd_un (by omega)]
          exact I4 k (by omega) hk7
      have h133 : ∀ z, z = sd_i (fL j) → wY_note_133 post (wY_note_50 post (sd_i c) x2 x3 f_leastCost (sd_i mc) f_ways n) (sd_i c) x2 x3 (nI j) z (nI j) f_leastCost (sd_i mc) f_ways a_there a_as a_bs a_rooms a_costs a_balances a_nums a_extra (upd fi j (sd_i (fF j))) lw hg := by
        intro z hz
        unfold wY_note_133 wY_note_165
        rw [cj, hz, hNj]
        refine ⟨v7, nm_e ?_⟩
        rcases hfl with ⟨e2, _, _, hF⟩ | ⟨e2, e3, _, _, hb, hF⟩ | ⟨e2, e3, _, _, hF⟩
        · refine br_f (by rw [e2]; decide) ⟨v7, v7, nm_e (hJ _ ?_)⟩
          rw [(hF j hj7).2.2]
        · rcases I4 j (Nat.le_refl j) hj7 with ⟨i1, i2, i3⟩ | i
          · have hbj := hb j hj7
            rw [i3]
            refine br_t e2 (br_f (by rw [e3]; decide) ⟨v7, v7, ?_⟩)
            refine sd_ble (N j) (hi j) rfl rfl (fun h => ⟨v7, v7, nm_e (hJ _ ?_)⟩) (fun h => ⟨v7, v7, nm_e (hJ _ ?_)⟩)
            · rw [(hF j hj7).2.2, if_neg (by omega)]
            · rw [(hF j hj7).2.2, if_pos h]
          · rw [e2] at i; exact absurd i (by decide)
        · rcases I4 j (Nat.le_refl j) hj7 with ⟨i1, i2, i3⟩ | i
          · rw [i3]
            refine br_t e2 (br_t e3 ⟨v7, v7, nm_e (hJ _ ?_)⟩)
            rw [(hF j hj7).2.2]
          · rw [e2] at i; exact absurd i (by decide)
      have h84 : ∀ z, z = sd_i (fF j) → wY_note_84 post (wY_note_50 post (sd_i c) x2 x3 f_leastCost (sd_i mc) f_ways n) (sd_i c) x2 x3 (nI j) z (nI j) f_leastCost (sd_i mc) f_ways a_there a_as a_bs a_rooms a_costs a_balances a_nums a_extra fi lw hg := by
        intro z hz
        unfold wY_note_84 wY_note_116 wY_note_126
        rw [cj, hz, hNj]
        refine ⟨v7, nm_e ?_⟩
        rcases hfl with ⟨e2, _, _, hF⟩ | ⟨e2, e3, _, _, hb, hF⟩ | ⟨e2, e3, _, _, hF⟩
        · refine br_f (by rw [e2]; decide) ⟨v7, h133 _ ?_⟩
          rw [(hF j hj7).2.1]
        · rcases I4 j (Nat.le_refl j) hj7 with ⟨i1, i2, i3⟩ | i
          · have hbj := hb j hj7
            rw [i2]
            refine br_t e2 (br_f (by rw [e3]; decide) ⟨v7, v7, ?_⟩)
            refine sd_ble (lo j) (N j) rfl rfl (fun h => ⟨v7, h133 _ ?_⟩) (fun h => ⟨v7, h133 _ ?_⟩)
            · rw [(hF j hj7).2.1, if_neg (by omega)]
            · rw [(hF j hj7).2.1, if_pos h]
          · rw [e2] at i; exact absurd i (by decide)
        · rcases I4 j (Nat.le_refl j) hj7 with ⟨i1, i2, i3⟩ | i
          · rw [i2]
            refine br_t e2 (br_t e3 ⟨v7, h133 _ ?_⟩)
            rw [(hF j hj7).2.1]
          · rw [e2] at i; exact absurd i (by decide)
      refine br_f (nI_ge (b := 7) hj7 (by decide)) ?_
      rw [cj]
      rcases hfl with ⟨e2, _, _, hF⟩ | ⟨e2, e3, _, _, hb, hF⟩ | ⟨e2, e3, _, _, hF⟩
      · refine br_f (by rw [e2]; decide) ⟨v7, h84 _ ?_⟩
        rw [(hF j hj7).1]; exact hNj
      · rcases I4 j (Nat.le_refl j) hj7 with ⟨i1, i2, i3⟩ | i
        · refine br_t e2 ⟨v7, h84 _ ?_⟩
          rw [(hF j hj7).1]; exact i1
        · rw [e2] at i; exact absurd i (by decide)
      · rcases I4 j (Nat.le_refl j) hj7 with ⟨i1, i2, i3⟩ | i
        · refine br_t e2 ⟨v7, h84 _ ?_⟩
          rw [(hF j hj7).1]; exact i1
        · rw [e2] at i; exact absurd i (by decide)
theorem sy_note {post : SY → Prop} {cs N fs lo hi : Nat → Int} {G G' : (Nat → Int) → Prop} {lc mc wy : Int}
    (hcs : ∀ k, k < 7 → a_costs k = sd_i (cs k)) (hN : ∀ k, k < 7 → a_nums k = sd_i (N k)) (hNb : (∀ k, k < 7 → 0 ≤ N k ∧ N k ≤ 4) ∧ -1000 ≤ sd_ct cs N ∧ sd_ct cs N ≤ 1000)
    (hGb : ∀ x, G x → (∀ k, k < 7 → 0 ≤ x k ∧ x k ≤ 4) ∧ -1000 ≤ sd_ct cs x ∧ sd_ct cs x ≤ 1000) (hw : wy ≤ 100000)
    (I : sd_NI cs G lc mc wy fs lo hi) (hs : ∀ x, G x → G' x) (hGN : G' N) (hG : ∀ x, G' x → G x ∨ sd_e7 x N) (hlx : ∀ x, G x → sd_lx x N)
    (hfi : ∀ k, k < 7 → a_firsts k = sd_i (fs k)) (hlo : ∀ k, k < 7 → a_lows k = sd_i (lo k)) (hhi : ∀ k, k < 7 → a_highs k = sd_i (hi k))
    (K : ∀ lc' mc' wy' fs' lo' hi' fi lw hg, sd_NI cs G' lc' mc' wy' fs' lo' hi' → wy' ≤ wy + 1 → (∀ k, k < 7 → fi k = sd_i (fs' k)) → (∀ k, k < 7 → lw k = sd_i (lo' k)) → (∀ k, k < 7 → hg k = sd_i (hi' k)) →
      post (sd_i lc', sd_i mc', sd_i wy', a_there, a_as, a_bs, a_rooms, a_costs, a_balances, a_nums, a_extra, fi, lw, hg)) :
    wpY_note post (sd_i lc, sd_i mc, sd_i wy, a_there, a_as, a_bs, a_rooms, a_costs, a_balances, a_nums, a_extra, a_firsts, a_lows, a_highs) := by
  unfold wpY_note
  refine sy_cost hcs hN ?_
  have hcb := hNb.2
  have no : ∀ {P : Nat → Prop}, ∀ k, k < 0 → P k := fun k hk => absurd hk (Nat.not_lt_zero k)
  rcases I with ⟨i1, i2, i3, i4⟩ | I
  · subst i1 i2 i3
    refine br_t rfl ?_
    unfold wY_note_20 wY_note_25
    refine br_t (by decide) ⟨8, ?_⟩
    refine sy_n50 (x3 := 0) (lcF := sd_i (sd_ct cs N)) (wyF := 1) (fs := fs) (lo := lo) (hi := hi) (fF := N) (fL := N) (fH := N) hN hNb.2 (Or.inl rfl) (Or.inl ⟨rfl, rfl, rfl, fun k _ => ⟨rfl, rfl, rfl⟩⟩) (fun fi lw hg h1 h2 h3 => ?_) 8 0 _ _ _ (by omega) (by omega) no no no (fun k _ _ => Or.inr rfl)
    refine K (sd_ct cs N) (if (-100000 : Int) = -100000 then sd_ct cs N else if sd_ct cs N ≤ -100000 then -100000 else sd_ct cs N) 1 N N N fi lw hg ?_ (by omega) h1 h2 h3
    rw [if_pos rfl]
    refine Or.inr (sd_OK_better hGN hG (fun x hx => absurd hx (i4 x)) ⟨N, hGN, rfl⟩ (fun x hx => ?_))
    rcases hG x hx with h | h
    · exact absurd h (i4 x)
    · rw [sd_ct_c h]; exact Int.le_refl _
  · have I' := I
    obtain ⟨i1, ⟨i2, i2'⟩, j3, j4, ⟨xm, i5, i5'⟩, i6, i7, i8, i9⟩ := I
    have b1 := (hGb fs i2).2
    have b2 := (hGb xm i5).2
    rw [i2'] at b1
    rw [i5'] at b2
    have hmost := sd_OK_most I' hs hGN hG
    have emc : (if mc = -100000 then sd_ct cs N else if sd_ct cs N ≤ mc then mc else sd_ct cs N) = if sd_ct cs N ≤ mc then mc else sd_ct cs N := if_neg (by omega)
    refine sd_beq wy 0 rfl rfl (fun h => by omega) (fun h => ?_) (by omega) (by omega) (by decide) (by decide)
    refine sd_ble lc (sd_ct cs N) rfl rfl (fun h1 => ?_) (fun h1 => ?_) (by omega) (by omega) (by omega) (by omega)
    · unfold wY_note_25
      refine sd_ble wy 0 rfl rfl (fun h => by omega) (fun h => ?_) (by omega) (by omega) (by decide) (by decide)
      refine sd_beq (sd_ct cs N) lc rfl rfl (fun h2 => ⟨8, ?_⟩) (fun h2 => ⟨8, ?_⟩) (by omega) (by omega) (by omega) (by omega)
      · refine sy_n50 (x3 := 1) (lcF := sd_i lc) (wyF := sd_i (wy + 1)) (fs := fs) (lo := lo) (hi := hi) (fF := fs) (fL := fun k => if N k < lo k then N k else lo k) (fH := fun k => if hi k < N k then N k else hi k) hN hNb.2 (Or.inr (by omega))
          (Or.inr (Or.inl ⟨rfl, rfl, rfl, (sd_ia wy 1).symm, ?_, fun k _ => ⟨rfl, rfl, rfl⟩⟩)) (fun fi lw hg q1 q2 q3 => ?_) 8 0 _ _ _ (by omega) (by omega) no no no (fun k _ hk => Or.inl ⟨hfi k hk, hlo k hk, hhi k hk⟩)
        · intro k hk
          obtain ⟨⟨xl, a1, a2, a3⟩, ⟨xh, c1, c2, c3⟩, _⟩ := i7 k hk
          have d1 := (hGb xl a1).1 k hk
          have d2 := (hGb xh c1).1 k hk
          rw [a3] at d1
          rw [c3] at d2
          exact ⟨hNb.1 k hk, d1, d2⟩
        · refine K lc _ (wy + 1) fs _ _ fi lw hg ?_ (by omega) q1 q2 q3
          rw [emc]
          have hmc : (if sd_ct cs N ≤ mc then mc else sd_ct cs N) = mc := if_pos (by rw [h2, ← i2']; exact i6 fs i2)
          rw [hmc]
          exact Or.inr (sd_OK_equal I' hs hGN hG hlx h2 (fun k _ => rfl) (fun k _ => rfl))
      · refine sy_n50 (x3 := 0) (lcF := sd_i lc) (wyF := sd_i wy) (fs := fs) (lo := lo) (hi := hi) (fF := fs) (fL := lo) (fH := hi) hN hNb.2 (Or.inr (by omega))
          (Or.inr (Or.inr ⟨rfl, rfl, rfl, rfl, fun k _ => ⟨rfl, rfl, rfl⟩⟩)) (fun fi lw hg q1 q2 q3 => ?_) 8 0 _ _ _ (by omega) (by omega) no no no (fun k _ hk => Or.inl ⟨hfi k hk, hlo k hk, hhi k hk⟩)
        refine K lc _ wy fs lo hi fi lw hg ?_ (by omega) q1 q2 q3
        rw [emc]
        exact Or.inr (sd_OK_worse I' hs hG (by omega) hmost.1 hmost.2)
    · unfold wY_note_20 wY_note_25
      refine sd_ble wy 0 rfl rfl (fun h => by omega) (fun h => ?_) (by omega) (by omega) (by decide) (by decide)
      refine sd_beq (sd_ct cs N) lc rfl rfl (fun h2 => by omega) (fun h2 => ⟨8, ?_⟩) (by omega) (by omega) (by omega) (by omega)
      refine sy_n50 (x3 := 0) (lcF := sd_i (sd_ct cs N)) (wyF := 1) (fs := fs) (lo := lo) (hi := hi) (fF := N) (fL := N) (fH := N) hN hNb.2 (Or.inr (by omega)) (Or.inl ⟨rfl, rfl, rfl, fun k _ => ⟨rfl, rfl, rfl⟩⟩) (fun fi lw hg q1 q2 q3 => ?_) 8 0 _ _ _ (by omega) (by omega) no no no (fun k _ _ => Or.inr rfl)
      refine K (sd_ct cs N) _ 1 N N N fi lw hg ?_ (by omega) q1 q2 q3
      rw [emc]
      exact Or.inr (sd_OK_better hGN hG (fun x hx => by have := j3 x hx; omega) hmost.1 hmost.2)
end
end
section
/-! the reference's search -/
theorem sd_okb_sh {fm tt : Nat → Nat} {bl N : Nat → Int} {p q : Nat} {z : Int} (hpq : p ≠ q) :
    (∀ r, r < 5 → sd_okb (fun r => sd_ox fm tt N r - bl r) p q z r) ↔ ∀ r, r < 5 → sd_ox fm tt N r = sd_sh bl p q z r := by
  have key : ∀ r, sd_okb (fun r => sd_ox fm tt N r - bl r) p q z r ↔ sd_ox fm tt N r = sd_sh bl p q z r := by
    intro r
    show (sd_ox fm tt N r - bl r = if r = p then z else if r = q then -z else 0) ↔ _
    unfold sd_sh
    by_cases e : r = q
    · have e2 : ¬ r = p := fun y => hpq (y.symm.trans e)
      rw [if_neg e2, if_pos e, e, sd_uds]; omega
    · rw [sd_udn e]
      by_cases e2 : r = p
      · rw [if_pos e2, e2, sd_uds]; omega
      · rw [if_neg e2, if_neg e, sd_udn e2]; omega
  exact ⟨fun h r hr => (key r).mp (h r hr), fun h r hr => (key r).mpr (h r hr)⟩
theorem sd_sh_0 (bl : Nat → Int) (p q : Nat) : sd_sh bl p q 0 = bl := by
  funext r
  unfold sd_sh
  by_cases e : r = q
  · rw [e, sd_uds]; omega
  · rw [sd_udn e]
    by_cases e2 : r = p
    · rw [e2, sd_uds]; omega
    · rw [sd_udn e2]
/-- the further condition: number k is w, or none -/
def sd_HC (x4 x5 : Int32) (H : (Nat → Int) → Prop) : Prop :=
  (x4 = -1 ∧ ∀ x, H x) ∨ ∃ k w, k < 7 ∧ x4 = nI k ∧ x5 = sd_i w ∧ -2147483648 ≤ w ∧ w < 2147483648 ∧ ∀ x, H x ↔ x k = w
theorem sd_HC_c {x4 x5 : Int32} {H : (Nat → Int) → Prop} (h : sd_HC x4 x5 H) {x y : Nat → Int} (e : sd_e7 x y) (hx : H x) : H y := by
  rcases h with ⟨_, h⟩ | ⟨k, w, hk, _, _, _, _, h⟩
  · exact h y
  · rw [h] at hx ⊢
    rw [← e k hk]; exact hx
section
variable {f_leastCost : Int32} {f_mostCost : Int32} {f_ways : Int32} {a_there : Nat → Int32} {a_as : Nat → Int32} {a_bs : Nat → Int32} {a_rooms : Nat → Int32} {a_costs : Nat → Int32} {a_balances : Nat → Int32} {a_nums : Nat → Int32} {a_extra : Nat → Int32} {a_firsts : Nat → Int32} {a_lows : Nat → Int32} {a_highs : Nat → Int32}
theorem sy_s47 {post : SY → Prop} {J : Int32 → Int32 → Int32 → Int32 → (Nat → Int32) → (Nat → Int32) → (Nat → Int32) → (Nat → Int32) → (Nat → Int32) → (Nat → Int32) → (Nat → Int32) → (Nat → Int32) → (Nat → Int32) → (Nat → Int32) → (Nat → Int32) → Prop}
    {m : Nat} {fm tt : Nat → Nat} {rm cs b N fs lo hi : Nat → Int} {H : (Nat → Int) → Prop} {lc mc wy : Int} {x1 x2 x3 x4 x5 : Int32}
    (hth : sd_TH m a_there) (hrm : ∀ k, k < 7 → a_rooms k = sd_i (rm k) ∧ 0 ≤ rm k ∧ rm k ≤ 4)
    (hB : sd_Bx (sd_cap m rm) N) (hN : ∀ k, k < 7 → a_nums k = sd_i (N k))
    (I : sd_NI cs (fun x => sd_Fe fm tt (sd_cap m rm) b x ∧ H x ∧ (sd_lx x N ∨ sd_e7 x N)) lc mc wy fs lo hi)
    (K1 : ∀ nu N', sd_nx (sd_cap m rm) N N' → (∀ k, k < 7 → nu k = sd_i (N' k)) → sd_NI cs (fun x => sd_Fe fm tt (sd_cap m rm) b x ∧ H x ∧ sd_lx x N') lc mc wy fs lo hi → J 1 f_leastCost f_mostCost f_ways a_there a_as a_bs a_rooms a_costs a_balances nu a_extra a_firsts a_lows a_highs)
    (K0 : ∀ nu, sd_NI cs (fun x => sd_Fe fm tt (sd_cap m rm) b x ∧ H x) lc mc wy fs lo hi → J 0 f_leastCost f_mostCost f_ways a_there a_as a_bs a_rooms a_costs a_balances nu a_extra a_firsts a_lows a_highs) :
    wY_search_47 post J x1 x2 x3 x4 x5 f_leastCost f_mostCost f_ways a_there a_as a_bs a_rooms a_costs a_balances a_nums a_extra a_firsts a_lows a_highs := by
  unfold wY_search_47
  refine sy_adv hth hrm hB hN (fun nu N' hx hn => K1 nu N' hx hn ?_) (fun nu hx => K0 nu ?_)
  · refine sd_NI_c (fun x => ?_) I
    constructor
    · rintro ⟨h1, h2, h3⟩
      exact ⟨h1, h2, (sd_nx_lx hx x h1.1).mpr h3⟩
    · rintro ⟨h1, h2, h3⟩
      exact ⟨h1, h2, (sd_nx_lx hx x h1.1).mp h3⟩
  · refine sd_NI_c (fun x => ?_) I
    constructor
    · rintro ⟨h1, h2, h3⟩
      exact ⟨h1, h2⟩
    · rintro ⟨h1, h2⟩
      exact ⟨h1, h2, sd_nx_end hx x h1.1⟩
theorem sy_s7 {post : SY → Prop} {m : Nat} {fm tt : Nat → Nat} {rm cs bl : Nat → Int} (hd : sd_DB m fm tt rm cs bl a_as a_bs a_rooms a_costs a_balances) (hth : sd_TH m a_there)
    {p q : Nat} (hp : p < 5) (hq : q < 5) (hpq : p ≠ q) {z : Int} (hz : -1000 ≤ z ∧ z ≤ 1000) {x4 x5 : Int32} {H : (Nat → Int) → Prop} (hH : sd_HC x4 x5 H)
    (K : ∀ lc mc wy fs lo hi nu ex fi lw hg, sd_NI cs (fun x => sd_Fe fm tt (sd_cap m rm) (sd_sh bl p q z) x ∧ H x) lc mc wy fs lo hi → wy ≤ 78125 → (∀ k, k < 7 → fi k = sd_i (fs k)) → (∀ k, k < 7 → lw k = sd_i (lo k)) → (∀ k, k < 7 → hg k = sd_i (hi k)) →
      post (sd_i lc, sd_i mc, sd_i wy, a_there, a_as, a_bs, a_rooms, a_costs, a_balances, nu, ex, fi, lw, hg)) :
    ∀ (n : Nat) N lc mc wy fs lo hi nu ex fi lw hg, 78125 - sd_V5 N < (n : Int) → sd_Bx (sd_cap m rm) N → sd_NI cs (fun x => sd_Fe fm tt (sd_cap m rm) (sd_sh bl p q z) x ∧ H x ∧ sd_lx x N) lc mc wy fs lo hi → wy ≤ sd_V5 N →
      (∀ k, k < 7 → nu k = sd_i (N k)) → (∀ k, k < 7 → fi k = sd_i (fs k)) → (∀ k, k < 7 → lw k = sd_i (lo k)) → (∀ k, k < 7 → hg k = sd_i (hi k)) →
      wY_search_7 post (nI p) (nI q) (sd_i z) x4 x5 n 1 (sd_i lc) (sd_i mc) (sd_i wy) a_there a_as a_bs a_rooms a_costs a_balances nu ex fi lw hg := by
  obtain ⟨hm, hf, hft, hrm, hcs, hbl⟩ := hd
  have hcap := sd_cap_b (m := m) (N := 4) (by decide) (fun k hk => (hrm k hk).2)
  have hFb : ∀ x, sd_Fe fm tt (sd_cap m rm) (sd_sh bl p q z) x → (∀ k, k < 7 → 0 ≤ x k ∧ x k ≤ 4) ∧ -1000 ≤ sd_ct cs x ∧ sd_ct cs x ≤ 1000 := by
    intro x hx
    have h1 := sd_ct_b (fun k hk => (hcs k hk).2) (fun k hk => by have := hcap k hk; omega) hx
    refine ⟨fun k hk => ?_, by omega, by omega⟩
    have h2 := hx.1 k hk
    have h3 := hcap k hk
    omega
  intro n
  induction n with
  | zero =>
    intro N lc mc wy fs lo hi nu ex fi lw hg hn hB
    have := sd_V5_b (fun k hk => (hcap k hk).2) hB
    omega
  | succ n ih =>
    intro N lc mc wy fs lo hi nu ex fi lw hg hn hB I hw hnu hfi hlw hhg
    have hV := sd_V5_b (fun k hk => (hcap k hk).2) hB
    have hNb : ∀ k, k < 7 → 0 ≤ N k ∧ N k ≤ 4 := fun k hk => by
      have h2 := hB k hk
      have h3 := hcap k hk
      omega
    refine br_f (by decide) ?_
    refine sy_weigh hf hft (fun p hp => (hbl p hp).1) hNb hnu (fun ex' hex => ?_)
    have hEb : ∀ r, r < 5 → -1000 ≤ sd_ox fm tt N r - bl r ∧ sd_ox fm tt N r - bl r ≤ 1000 := by
      intro r hr
      have h1 := sd_ox_bd (fm := fm) (tt := tt) (fun k hk => (hNb k hk).1) r
      have h2 : sd_sm N 7 ≤ sd_sm (fun _ => 4) 7 := sd_sm_le fun k hk => (hNb k hk).2
      have h3 : sd_sm (fun _ => 4) 7 = 28 := rfl
      have h4 := hbl r hr
      omega
    have adv : ∀ lc mc wy fs lo hi fi lw hg, sd_NI cs (fun x => sd_Fe fm tt (sd_cap m rm) (sd_sh bl p q z) x ∧ H x ∧ (sd_lx x N ∨ sd_e7 x N)) lc mc wy fs lo hi → wy ≤ sd_V5 N + 1 →
        (∀ k, k < 7 → fi k = sd_i (fs k)) → (∀ k, k < 7 → lw k = sd_i (lo k)) → (∀ k, k < 7 → hg k = sd_i (hi k)) →
        wY_search_47 post (wY_search_7 post (nI p) (nI q) (sd_i z) x4 x5 n) (nI p) (nI q) (sd_i z) x4 x5 (sd_i lc) (sd_i mc) (sd_i wy) a_there a_as a_bs a_rooms a_costs a_balances nu ex' fi lw hg := by
      intro lc mc wy fs lo hi fi lw hg I hw hfi hlw hhg
      refine sy_s47 hth hrm hB hnu I (fun nu' N' hx hn' I' => ?_) (fun nu' I' => ?_)
      · have h1 := sd_V5_nx (fun k hk => (hcap k hk).2) hx
        exact ih N' lc mc wy fs lo hi nu' ex' fi lw hg (by omega) (sd_nx_Bx (fun k hk => (hcap k hk).1) hx hB) I' (by omega) hn' hfi hlw hhg
      · cases n with
        | zero => omega
        | succ n => exact br_t rfl (K lc mc wy fs lo hi nu' ex' fi lw hg I' (by omega) hfi hlw hhg)
    have skip : (¬ (sd_Fe fm tt (sd_cap m rm) (sd_sh bl p q z) N ∧ H N)) →
        wY_search_47 post (wY_search_7 post (nI p) (nI q) (sd_i z) x4 x5 n) (nI p) (nI q) (sd_i z) x4 x5 (sd_i lc) (sd_i mc) (sd_i wy) a_there a_as a_bs a_rooms a_costs a_balances nu ex' fi lw hg := by
      intro hno
      refine adv lc mc wy fs lo hi fi lw hg (sd_NI_c (fun x => ?_) I) (by omega) hfi hlw hhg
      constructor
      · rintro ⟨h1, h2, h3⟩
        exact ⟨h1, h2, Or.inl h3⟩
      · rintro ⟨h1, h2, h3 | h3⟩
        · exact ⟨h1, h2, h3⟩
        · exact absurd ⟨sd_Fe_c h3 h1, sd_HC_c hH h3 h2⟩ hno
    have take : sd_Fe fm tt (sd_cap m rm) (sd_sh bl p q z) N → H N →
        wY_search_43 post (wY_search_7 post (nI p) (nI q) (sd_i z) x4 x5 n) (nI p) (nI q) (sd_i z) x4 x5 (sd_i lc) (sd_i mc) (sd_i wy) a_there a_as a_bs a_rooms a_costs a_balances nu ex' fi lw hg := by
      intro h1 h2
      unfold wY_search_43
      refine sy_note (G' := fun x => sd_Fe fm tt (sd_cap m rm) (sd_sh bl p q z) x ∧ H x ∧ (sd_lx x N ∨ sd_e7 x N)) (fun k hk => (hcs k hk).1) hnu (hFb N h1) (fun x hx => hFb x hx.1) (by omega) I (fun x hx => ⟨hx.1, hx.2.1, Or.inl hx.2.2⟩) ⟨h1, h2, Or.inr fun k _ => rfl⟩ ?_ (fun x hx => hx.2.2) hfi hlw hhg ?_
      · rintro x ⟨g1, g2, g3 | g3⟩
        · exact Or.inl ⟨g1, g2, g3⟩
        · exact Or.inr g3
      · intro lc' mc' wy' fs' lo' hi' fi' lw' hg' I' hw' e1 e2 e3
        exact adv lc' mc' wy' fs' lo' hi' fi' lw' hg' I' (by omega) e1 e2 e3
    refine sy_bal (E := fun r => sd_ox fm tt N r - bl r) hp hq hex hEb hz (fun h => ?_) (fun h => ?_)
    · have hFe : sd_Fe fm tt (sd_cap m rm) (sd_sh bl p q z) N := ⟨hB, (sd_okb_sh hpq).mp h⟩
      refine br_f (by decide) ?_
      rcases hH with ⟨e4, hh⟩ | ⟨k, w, hk, e4, e5, w1, w2, hh⟩
      · exact br_t (by rw [e4]; decide) (take hFe (hh N))
      · have hNk := hNb k hk
        refine br_f (by rw [e4]; exact nI_pos (by omega)) ⟨by rw [e4]; exact vp_in_nI hk (by decide), ?_⟩
        refine sd_beq (N k) w (by rw [e4, sd_cl (show k < 2147483648 by omega)]; exact hnu k hk) e5 (fun y => take hFe ((hh N).mpr y)) (fun y => skip (fun g => y ((hh N).mp g.2))) (by omega) (by omega) w1 w2
    · refine br_t rfl (skip (fun g => h ((sd_okb_sh hpq).mpr g.1.2)))
theorem sy_search {post : SY → Prop} {m : Nat} {fm tt : Nat → Nat} {rm cs bl : Nat → Int} (hd : sd_DB m fm tt rm cs bl a_as a_bs a_rooms a_costs a_balances) (hth : sd_TH m a_there)
    {p q : Nat} (hp : p < 5) (hq : q < 5) (hpq : p ≠ q) {z : Int} (hz : -1000 ≤ z ∧ z ≤ 1000) {x4 x5 : Int32} {H : (Nat → Int) → Prop} (hH : sd_HC x4 x5 H)
    (K : ∀ lc mc wy fs lo hi nu ex fi lw hg, sd_NI cs (fun x => sd_Fe fm tt (sd_cap m rm) (sd_sh bl p q z) x ∧ H x) lc mc wy fs lo hi → wy ≤ 78125 → (∀ k, k < 7 → fi k = sd_i (fs k)) → (∀ k, k < 7 → lw k = sd_i (lo k)) → (∀ k, k < 7 → hg k = sd_i (hi k)) →
      post (sd_i lc, sd_i mc, sd_i wy, a_there, a_as, a_bs, a_rooms, a_costs, a_balances, nu, ex, fi, lw, hg)) :
    wpY_search post (f_leastCost, f_mostCost, f_ways, a_there, a_as, a_bs, a_rooms, a_costs, a_balances, a_nums, a_extra, a_firsts, a_lows, a_highs) (nI p) (nI q) (sd_i z) x4 x5 := by
  unfold wpY_search
  refine sy_begin (fun nu hnu => ⟨78126, ?_⟩)
  have hcap := sd_cap_b (m := m) (N := 4) (by decide) (fun k hk => (hd.2.2.2.1 k hk).2)
  rw [sd_none]
  have h := sy_s7 hd hth hp hq hpq hz hH K 78126 (fun _ => 0) (-100000) (-100000) 0 (fun k => (a_firsts k).toInt) (fun k => (a_lows k).toInt) (fun k => (a_highs k).toInt) nu a_extra a_firsts a_lows a_highs
    (by decide) (fun k hk => ⟨Int.le_refl 0, (hcap k hk).1⟩) (Or.inl ⟨rfl, rfl, rfl, fun x hx => ?_⟩) (by decide) hnu (fun k _ => (sd_io _).symm) (fun k _ => (sd_io _).symm) (fun k _ => (sd_io _).symm)
  · exact h
  · obtain ⟨h1, _, k, hk, _, h3⟩ := hx
    have := h1.1 k hk
    have h3' : x k < 0 := h3
    omega
end
end
section
/-! the reference's spare -/
section
variable {f_leastCost : Int32} {f_mostCost : Int32} {f_ways : Int32} {a_there : Nat → Int32} {a_as : Nat → Int32} {a_bs : Nat → Int32} {a_rooms : Nat → Int32} {a_costs : Nat → Int32} {a_balances : Nat → Int32} {a_nums : Nat → Int32} {a_extra : Nat → Int32} {a_firsts : Nat → Int32} {a_lows : Nat → Int32} {a_highs : Nat → Int32}
theorem sy_sp39 {post : Int32 → SY → Prop} {m : Nat} {fm tt : Nat → Nat} {rm cs bl : Nat → Int} (hd : sd_DB m fm tt rm cs bl a_as a_bs a_rooms a_costs a_balances) (hth : sd_TH m a_there)
    {p q : Nat} (hp : p < 5) (hq : q < 5) (hpq : p ≠ q)
    (K : ∀ M nu ex, 0 ≤ M → M ≤ 1000 → (∀ x e, 0 < e → sd_Fe fm tt (sd_cap m rm) (sd_sh bl p q e) x → e ≤ M) → (M = 0 ∨ ∃ x, sd_Fe fm tt (sd_cap m rm) (sd_sh bl p q M) x) → post (sd_i M) (f_leastCost, f_mostCost, f_ways, a_there, a_as, a_bs, a_rooms, a_costs, a_balances, nu, ex, a_firsts, a_lows, a_highs)) :
    ∀ (n : Nat) N M nu ex, 78125 - sd_V5 N < (n : Int) → sd_Bx (sd_cap m rm) N → 0 ≤ M → M ≤ 1000 →
      (∀ x e, 0 < e → sd_Fe fm tt (sd_cap m rm) (sd_sh bl p q e) x → sd_lx x N → e ≤ M) → (M = 0 ∨ ∃ x, sd_Fe fm tt (sd_cap m rm) (sd_sh bl p q M) x) →
      (∀ k, k < 7 → nu k = sd_i (N k)) → wY_spare_39 post (nI p) (nI q) n (sd_i M) 1 f_leastCost f_mostCost f_ways a_there a_as a_bs a_rooms a_costs a_balances nu ex a_firsts a_lows a_highs := by
  obtain ⟨hm, hf, hft, hrm, hcs, hbl⟩ := hd
  have hcap := sd_cap_b (m := m) (N := 4) (by decide) (fun k hk => (hrm k hk).2)
  intro n
  induction n with
  | zero =>
    intro N M nu ex hn hB
    have := sd_V5_b (fun k hk => (hcap k hk).2) hB
    omega
  | succ n ih =>
    intro N M nu ex hn hB hM0 hM1 I1 I2 hnu
    have hV := sd_V5_b (fun k hk => (hcap k hk).2) hB
    have hNb : ∀ k, k < 7 → 0 ≤ N k ∧ N k ≤ 4 := fun k hk => by
      have h2 := hB k hk
      have h3 := hcap k hk
      omega
    refine br_f (by decide) ?_
    refine sy_weigh hf hft (fun p hp => (hbl p hp).1) hNb hnu (fun ex' hex => ?_)
    have hEb : ∀ r, r < 5 → -1000 ≤ sd_ox fm tt N r - bl r ∧ sd_ox fm tt N r - bl r ≤ 1000 := by
      intro r hr
      have h1 := sd_ox_bd (fm := fm) (tt := tt) (fun k hk => (hNb k hk).1) r
      have h2 : sd_sm N 7 ≤ sd_sm (fun _ => 4) 7 := sd_sm_le fun k hk => (hNb k hk).2
      have h3 : sd_sm (fun _ => 4) 7 = 28 := rfl
      have h4 := hbl r hr
      omega
    have bp := hEb p hp
    have vp : vp_in (nI p) 5 := vp_in_nI hp (by decide)
    have adv : ∀ M', 0 ≤ M' → M' ≤ 1000 → M ≤ M' → (∀ e, 0 < e → sd_Fe fm tt (sd_cap m rm) (sd_sh bl p q e) N → e ≤ M') → (M' = 0 ∨ ∃ x, sd_Fe fm tt (sd_cap m rm) (sd_sh bl p q M') x) →
        wY_spare_83 post (wY_spare_39 post (nI p) (nI q) n) (nI p) (nI q) (sd_i M') f_leastCost f_mostCost f_ways a_there a_as a_bs a_rooms a_costs a_balances nu ex' a_firsts a_lows a_highs := by
      intro M' h0 h1 hMM hN hx
      have hall : ∀ x e, 0 < e → sd_Fe fm tt (sd_cap m rm) (sd_sh bl p q e) x → (sd_lx x N ∨ sd_e7 x N) → e ≤ M' := by
        intro x e he hFe hl
        rcases hl with hl | hl
        · have := I1 x e he hFe hl; omega
        · exact hN e he (sd_Fe_c hl hFe)
      unfold wY_spare_83
      refine sy_adv hth hrm hB hnu (fun nu' N' hx' hn' => ?_) (fun nu' hx' => ?_)
      · have h2 := sd_V5_nx (fun k hk => (hcap k hk).2) hx'
        exact ih N' M' nu' ex' (by omega) (sd_nx_Bx (fun k hk => (hcap k hk).1) hx' hB) h0 h1 (fun x e he hFe hl => hall x e he hFe ((sd_nx_lx hx' x hFe.1).mp hl)) hx hn'
      · cases n with
        | zero => omega
        | succ n => exact br_t rfl (K M' nu' ex' h0 h1 (fun x e he hFe => hall x e he hFe (sd_nx_end hx' x hFe.1)) hx)
    have hval : ∀ e, sd_Fe fm tt (sd_cap m rm) (sd_sh bl p q e) N → e = sd_ox fm tt N p - bl p := by
      intro e hFe
      have h1 := hFe.2 p hp
      have e1 : sd_sh bl p q e p = bl p + e := by
        show sd_ud (sd_ud bl p (bl p + e)) q (bl q - e) p = bl p + e
        rw [sd_udn hpq, sd_uds]
      rw [e1] at h1
      omega
    refine ⟨vp, ?_⟩
    rw [sd_cl (show p < 2147483648 by omega), hex p hp]
    refine sd_ble (sd_ox fm tt N p - bl p) M rfl rfl (fun h => ?_) (fun h => ⟨vp, ?_⟩) (by omega) (by omega) (by omega) (by omega)
    · unfold wY_spare_82
      exact adv M hM0 hM1 (Int.le_refl M) (fun e _ hFe => by rw [hval e hFe]; exact h) I2
    · refine sy_bal (E := fun r => sd_ox fm tt N r - bl r) hp hq hex hEb bp (fun h2 => ?_) (fun h2 => ?_)
      · refine br_f (by decide) ⟨vp, adv _ (by omega) (by omega) (by omega) (fun e _ hFe => by rw [hval e hFe]; exact Int.le_refl _) (Or.inr ⟨N, hB, (sd_okb_sh hpq).mp h2⟩)⟩
      · unfold wY_spare_82
        refine br_t rfl (adv M hM0 hM1 (Int.le_refl M) (fun e _ hFe => ?_) I2)
        exfalso
        have := hval e hFe
        subst this
        exact h2 ((sd_okb_sh hpq).mpr hFe.2)
end
end
section
/-! the relation -/
def sd_RF (m : Nat) (fm tt : Nat → Nat) (rm cs bl : Nat → Int) (a_from a_to a_rooms a_costs a_balances a_there : Nat → Int32) : Prop :=
  sd_DB m fm tt rm cs bl a_from a_to a_rooms a_costs a_balances ∧ sd_TH m a_there ∧ (∀ k, k < 7 → rm k ≤ 3) ∧ ∀ k, k < 7 → m.testBit k = true → fm k ≠ tt k
/-- the relation at the head of a turn: what is kept is the same; the set of lines is the mask of those that are there -/
def i_Rel (_ : Nat) (u : SX) (v : SY) : Prop :=
  match u, v with
  | (f_present, f_arcs, f_total, a_from, a_to, a_rooms, a_costs, a_balances, a_askedRoom, a_askedWeight, a_askedBalance, a_arcFrom, a_arcTo, a_arcRoom, a_arcWeight, a_distance, a_byArc), (_, _, _, b_there, b_as, b_bs, b_rooms, b_costs, b_balances, _, _, _, _, _) =>
    b_as = a_from ∧ b_bs = a_to ∧ b_rooms = a_rooms ∧ b_costs = a_costs ∧ b_balances = a_balances ∧
      ∃ m fm tt rm cs bl, f_present = nI m ∧ sd_RF m fm tt rm cs bl a_from a_to a_rooms a_costs a_balances b_there
theorem i_up {k : Nat} {u : SX} {v : SY} (h : i_Rel k u v) : i_Rel (k + 4) u v := h
theorem sd_el {P : SX → SY → Prop} {k : Nat} {u : SX} {v : SY}
    (h : ∀ m fm tt rm cs bl (a_from a_to a_rooms a_costs a_balances a_there : Nat → Int32) (s_arcs : Int32) (s_total : Int64) (s_askedRoom : Nat → Int32) (s_askedWeight : Nat → Int64) (s_askedBalance : Nat → Int32) (s_arcFrom : Nat → Int32) (s_arcTo : Nat → Int32) (s_arcRoom : Nat → Int32) (s_arcWeight : Nat → Int64) (s_distance : Nat → Int64) (s_byArc : Nat → Int32) (s_leastCost : Int32) (s_mostCost : Int32) (s_ways : Int32) (s_nums : Nat → Int32) (s_extra : Nat → Int32) (s_firsts : Nat → Int32) (s_lows : Nat → Int32) (s_highs : Nat → Int32), sd_RF m fm tt rm cs bl a_from a_to a_rooms a_costs a_balances a_there →
      P (nI m, s_arcs, s_total, a_from, a_to, a_rooms, a_costs, a_balances, s_askedRoom, s_askedWeight, s_askedBalance, s_arcFrom, s_arcTo, s_arcRoom, s_arcWeight, s_distance, s_byArc) (s_leastCost, s_mostCost, s_ways, a_there, a_from, a_to, a_rooms, a_costs, a_balances, s_nums, s_extra, s_firsts, s_lows, s_highs)) (I : i_Rel k u v) : P u v := by
  obtain ⟨f_present, f_arcs, f_total, a_from, a_to, a_rooms, a_costs, a_balances, a_askedRoom, a_askedWeight, a_askedBalance, a_arcFrom, a_arcTo, a_arcRoom, a_arcWeight, a_distance, a_byArc⟩ := u
  obtain ⟨f_leastCost, f_mostCost, f_ways, b_there, b_as, b_bs, b_rooms, b_costs, b_balances, b_nums, b_extra, b_firsts, b_lows, b_highs⟩ := v
  obtain ⟨e1, e2, e3, e4, e5, m, fm, tt, rm, cs, bl, e6, hr⟩ := I
  subst e1 e2 e3 e4 e5 e6
  exact h m fm tt rm cs bl _ _ _ _ _ _ _ _ _ _ _ _ _ _ _ _ _ _ _ _ _ _ _ _ _ hr
theorem sd_mk {m : Nat} {fm tt : Nat → Nat} {rm cs bl : Nat → Int} {a_from a_to a_rooms a_costs a_balances a_there : Nat → Int32} (k : Nat)
    (hr : sd_RF m fm tt rm cs bl a_from a_to a_rooms a_costs a_balances a_there) (s_arcs : Int32) (s_total : Int64) (s_askedRoom : Nat → Int32) (s_askedWeight : Nat → Int64) (s_askedBalance : Nat → Int32) (s_arcFrom : Nat → Int32) (s_arcTo : Nat → Int32) (s_arcRoom : Nat → Int32) (s_arcWeight : Nat → Int64) (s_distance : Nat → Int64) (s_byArc : Nat → Int32) (s_leastCost : Int32) (s_mostCost : Int32) (s_ways : Int32) (s_nums : Nat → Int32) (s_extra : Nat → Int32) (s_firsts : Nat → Int32) (s_lows : Nat → Int32) (s_highs : Nat → Int32) :
    i_Rel k (nI m, s_arcs, s_total, a_from, a_to, a_rooms, a_costs, a_balances, s_askedRoom, s_askedWeight, s_askedBalance, s_arcFrom, s_arcTo, s_arcRoom, s_arcWeight, s_distance, s_byArc) (s_leastCost, s_mostCost, s_ways, a_there, a_from, a_to, a_rooms, a_costs, a_balances, s_nums, s_extra, s_firsts, s_lows, s_highs) :=
  ⟨rfl, rfl, rfl, rfl, rfl, m, fm, tt, rm, cs, bl, rfl, hr⟩
theorem i_vc0 : wpX_init (fun u => wpY_init (fun v => i_Rel 0 u v)) := by
  refine ⟨rfl, rfl, rfl, rfl, rfl, 0, fun _ => 0, fun _ => 0, fun _ => 0, fun _ => 0, fun _ => 0, rfl, ⟨by decide, ?_, ?_, ?_, ?_, ?_⟩, ?_, ?_, ?_⟩
  · intro k _; exact ⟨show 0 < 5 from by decide, show 0 < 5 from by decide⟩
  · intro k _; exact ⟨rfl, rfl⟩
  · intro k _; exact ⟨rfl, show (0 : Int) ≤ 0 from by decide, show (0 : Int) ≤ 4 from by decide⟩
  · intro k _; exact ⟨rfl, show (-9 : Int) ≤ 0 from by decide, show (0 : Int) ≤ 9 from by decide⟩
  · intro k _; exact ⟨rfl, show (-9 : Int) ≤ 0 from by decide, show (0 : Int) ≤ 9 from by decide⟩
  · intro k _
    rw [if_neg (by rw [Nat.zero_testBit]; decide)]
  · intro k _; exact show (0 : Int) ≤ 3 from by decide
  · intro k _ h
    rw [Nat.zero_testBit] at h; exact absurd h (by decide)
/-- the tables of bits and of packed numbers -/
theorem sd_bor : ∀ m, m < 128 → ∀ k, k < 7 → nI m ||| ((1 : Int32) <<< (nI k &&& 31)) = nI (m ||| 2 ^ k) ∧ m ||| 2 ^ k < 128 := by decide +kernel
theorem sd_borT : ∀ m, m < 128 → ∀ k, k < 7 → ∀ j, j < 7 → (m ||| 2 ^ k).testBit j = (if j = k then true else m.testBit j) := by decide +kernel
theorem sd_band : ∀ m, m < 128 → ∀ k, k < 7 → nI m &&& (((1 : Int32) <<< (nI k &&& 31)) ^^^ (-1)) = nI (m &&& (127 ^^^ 2 ^ k)) ∧ m &&& (127 ^^^ 2 ^ k) < 128 := by decide +kernel
theorem sd_bandT : ∀ m, m < 128 → ∀ k, k < 7 → ∀ j, j < 7 → (m &&& (127 ^^^ 2 ^ k)).testBit j = (if j = k then false else m.testBit j) := by decide +kernel
theorem sd_pk1 : ∀ w, w < 76 → (nI w &&& 3).toInt8.toInt32.toInt8.toInt32 = sd_i ((w : Int) % 4) ∧ nI w - nI w / 4 * 4 = sd_i ((w : Int) % 4) := by decide +kernel
theorem sd_pk2 : ∀ w, w < 76 → ((nI w >>> ((2 : Int32) &&& 31)) - 9).toInt8.toInt32.toInt8.toInt32 = sd_i ((w : Int) / 4 - 9) ∧ nI w / 4 - 9 = sd_i ((w : Int) / 4 - 9) := by decide +kernel
theorem sd_bal : ∀ w : Nat, w < 19 → (sd_i ((w : Int) - 9)).toInt8.toInt32.toInt8.toInt32 = sd_i ((w : Int) - 9) := by decide +kernel
theorem sd_noRange {x : Int32} {n : Nat} (hn : n < 2147483648) (h : nI n ≤ x) : ¬ x < 0 := by
  intro h2
  have h3 : (nI n).toInt ≤ x.toInt := Int32.le_iff_toInt_le.mp h
  have h4 : x.toInt < (0 : Int32).toInt := Int32.lt_iff_toInt_lt.mp h2
  have e1 : (nI n).toInt = n := nI_toInt hn
  have e2 : (0 : Int32).toInt = 0 := by decide
  omega
/-- a new line, or a changed one -/
theorem sd_RF_put {m : Nat} {fm tt : Nat → Nat} {rm cs bl : Nat → Int} {a_from a_to a_rooms a_costs a_balances a_there : Nat → Int32}
    (hr : sd_RF m fm tt rm cs bl a_from a_to a_rooms a_costs a_balances a_there) {k w : Nat} (hk : k < 7) (hw : w < 76) :
    sd_RF m fm tt (sd_ud rm k ((w : Int) % 4)) (sd_ud cs k ((w : Int) / 4 - 9)) bl a_from a_to (upd a_rooms k (sd_i ((w : Int) % 4))) (upd a_costs k (sd_i ((w : Int) / 4 - 9))) a_balances a_there := by
  obtain ⟨⟨d1, d2, d3, d4, d5, d6⟩, h2, h3, h4⟩ := hr
  refine ⟨⟨d1, d2, d3, ?_, ?_, d6⟩, h2, ?_, h4⟩
  · intro j hj
    refine ⟨sd_uI (fun i hi => (d4 i hi).1) rfl j hj, ?_⟩
    by_cases e : j = k
    · rw [e, sd_uds]; omega
    · rw [sd_udn e]; exact (d4 j hj).2
  · intro j hj
    refine ⟨sd_uI (fun i hi => (d5 i hi).1) rfl j hj, ?_⟩
    by_cases e : j = k
    · rw [e, sd_uds]; omega
    · rw [sd_udn e]; exact (d5 j hj).2
  · intro j hj
    by_cases e : j = k
    · rw [e, sd_uds]; omega
    · rw [sd_udn e]; exact h3 j hj
theorem sd_RF_add {m : Nat} {fm tt : Nat → Nat} {rm cs bl : Nat → Int} {a_from a_to a_rooms a_costs a_balances a_there : Nat → Int32}
    (hr : sd_RF m fm tt rm cs bl a_from a_to a_rooms a_costs a_balances a_there) {k a b : Nat} (hk : k < 7) (ha : a < 5) (hb : b < 5) (hab : a ≠ b) :
    sd_RF (m ||| 2 ^ k) (sd_ud fm k a) (sd_ud tt k b) rm cs bl (upd a_from k (nI a)) (upd a_to k (nI b)) a_rooms a_costs a_balances (upd a_there k 1) := by
  obtain ⟨⟨d1, d2, d3, d4, d5, d6⟩, h2, h3, h4⟩ := hr
  refine ⟨⟨(sd_bor m d1 k hk).2, ?_, ?_, d4, d5, d6⟩, ?_, h3, ?_⟩
  · intro j hj
    by_cases e : j = k
    · rw [e, sd_uds, sd_uds]; exact ⟨ha, hb⟩
    · rw [sd_udn e, sd_udn e]; exact d2 j hj
  · intro j hj
    exact ⟨sd_uN (fun i hi => (d3 i hi).1) rfl j hj, sd_uN (fun i hi => (d3 i hi).2) rfl j hj⟩
  · intro j hj
    rw [sd_borT m d1 k hk j hj]
    by_cases e : j = k
    · rw [e, sd_us, if_pos rfl, if_pos rfl]
    · rw [sd_un e, if_neg e]; exact h2 j hj
  · intro j hj hbit
    rw [sd_borT m d1 k hk j hj] at hbit
    by_cases e : j = k
    · rw [e, sd_uds, sd_uds]; exact hab
    · rw [sd_udn e, sd_udn e]
      rw [if_neg e] at hbit
      exact h4 j hj hbit
theorem sd_RF_rem {m : Nat} {fm tt : Nat → Nat} {rm cs bl : Nat → Int} {a_from a_to a_rooms a_costs a_balances a_there : Nat → Int32}
    (hr : sd_RF m fm tt rm cs bl a_from a_to a_rooms a_costs a_balances a_there) {k : Nat} (hk : k < 7) :
    sd_RF (m &&& (127 ^^^ 2 ^ k)) fm tt rm cs bl a_from a_to a_rooms a_costs a_balances (upd a_there k 0) := by
  obtain ⟨⟨d1, d2, d3, d4, d5, d6⟩, h2, h3, h4⟩ := hr
  refine ⟨⟨(sd_band m d1 k hk).2, d2, d3, d4, d5, d6⟩, ?_, h3, ?_⟩
  · intro j hj
    rw [sd_bandT m d1 k hk j hj]
    by_cases e : j = k
    · rw [e, sd_us, if_pos rfl, if_neg (by decide)]
    · rw [sd_un e, if_neg e]; exact h2 j hj
  · intro j hj hbit
    rw [sd_bandT m d1 k hk j hj] at hbit
    by_cases e : j = k
    · rw [if_pos e] at hbit; exact absurd hbit (by decide)
    · rw [if_neg e] at hbit
      exact h4 j hj hbit
theorem sd_RF_bal {m : Nat} {fm tt : Nat → Nat} {rm cs bl : Nat → Int} {a_from a_to a_rooms a_costs a_balances a_there : Nat → Int32}
    (hr : sd_RF m fm tt rm cs bl a_from a_to a_rooms a_costs a_balances a_there) {p : Nat} {z : Int} (hz : -9 ≤ z ∧ z ≤ 9) :
    sd_RF m fm tt rm cs (sd_ud bl p z) a_from a_to a_rooms a_costs (upd a_balances p (sd_i z)) a_there := by
  obtain ⟨⟨d1, d2, d3, d4, d5, d6⟩, h2, h3, h4⟩ := hr
  refine ⟨⟨d1, d2, d3, d4, d5, ?_⟩, h2, h3, h4⟩
  intro j hj
  refine ⟨sd_uI (fun i hi => (d6 i hi).1) rfl j hj, ?_⟩
  by_cases e : j = p
  · rw [e, sd_uds]; exact hz
  · rw [sd_udn e]; exact (d6 j hj).2
end
section
/-! the calls that change or tell the network -/
theorem sd_lt_nI {x : Int32} {a b : Nat} (hb : b = a + 1) (hs : b < 2147483648) : nI a < x ↔ nI b ≤ x := by
  rw [Int32.lt_iff_toInt_lt, Int32.le_iff_toInt_le, nI_toInt (show a < 2 ^ 31 by omega), nI_toInt (show b < 2 ^ 31 by omega)]
  omega
def sd_bad (n : Nat) (x : Int32) : Prop := x < 0 ∨ nI n ≤ x
theorem sd_bad_no {n j : Nat} (hj : j < n) (hn : n < 2147483648) : ¬ sd_bad n (nI j) := by
  rintro (h | h)
  · exact nI_pos (show j < 2 ^ 31 by omega) h
  · have := (nI_leI (show n < 2 ^ 31 by omega) (show j < 2 ^ 31 by omega)).mp h
    omega
theorem sx_place {post : Int32 → Prop} {x : Int32} (h0 : sd_bad 5 x → post 0) (h1 : ∀ j, j < 5 → x = nI j → post 1) : wpX_isPlace post x := by
  rcases sd_ix x (n := 5) (by decide) with h | h | ⟨j, hj, e⟩
  · exact br_t h (h0 (Or.inl h))
  · exact br_f (sd_noRange (by decide) h) (br_t h (h0 (Or.inr h)))
  · exact br_f (by rw [e]; exact nI_pos (by omega)) (br_f (by rw [e]; exact nI_ge (b := 5) hj (by decide)) (h1 j hj e))
theorem sx_packed {post : Int32 → Prop} {x : Int32} (h0 : sd_bad 76 x → post 0) (h1 : ∀ w, w < 76 → x = nI w → post 1) : wpX_isPacked post x := by
  rcases sd_ix x (n := 76) (by decide) with h | h | ⟨j, hj, e⟩
  · exact br_t h (h0 (Or.inl h))
  · exact br_f (sd_noRange (by decide) h) (br_t ((sd_lt_nI (a := 75) rfl (by decide)).mpr h) (h0 (Or.inr h)))
  · exact br_f (by rw [e]; exact nI_pos (by omega)) (br_f (by rw [e]; exact nI_nlt (a := 75) (by omega) (by decide)) (h1 j hj e))
section
variable {f_present : Int32} {f_arcs : Int32} {f_total : Int64} {a_from : Nat → Int32} {a_to : Nat → Int32} {a_rooms : Nat → Int32} {a_costs : Nat → Int32} {a_balances : Nat → Int32} {a_askedRoom : Nat → Int32} {a_askedWeight : Nat → Int64} {a_askedBalance : Nat → Int32} {a_arcFrom : Nat → Int32} {a_arcTo : Nat → Int32} {a_arcRoom : Nat → Int32} {a_arcWeight : Nat → Int64} {a_distance : Nat → Int64} {a_byArc : Nat → Int32}
theorem sx_write {post : SX → Prop} {k w : Nat} (hk : k < 7) (hw : w < 76) (h : post (f_present, f_arcs, f_total, a_from, a_to, upd a_rooms k (sd_i ((w : Int) % 4)), upd a_costs k (sd_i ((w : Int) / 4 - 9)), a_balances, a_askedRoom, a_askedWeight, a_askedBalance, a_arcFrom, a_arcTo, a_arcRoom, a_arcWeight, a_distance, a_byArc)) :
    wpX_write post (f_present, f_arcs, f_total, a_from, a_to, a_rooms, a_costs, a_balances, a_askedRoom, a_askedWeight, a_askedBalance, a_arcFrom, a_arcTo, a_arcRoom, a_arcWeight, a_distance, a_byArc) (nI k) (nI w) := by
  have v7 : vp_in (nI k) 7 := vp_in_nI hk (by decide)
  unfold wpX_write
  dsimp only
  rw [sd_cl (show k < 2147483648 by omega), vp_nar_byte, vp_nar_byte, (sd_pk1 w hw).1, (sd_pk2 w hw).1]
  exact ⟨v7, nm_e ⟨v7, nm_e h⟩⟩
theorem sx_add {post : Int32 → SX → Prop} {m : Nat} (hm : m < 128) {v1 v2 v3 : Int32}
    (KB : (v1 = v2 ∨ sd_bad 5 v1 ∨ sd_bad 5 v2 ∨ sd_bad 76 v3) → post (-1) (nI m, f_arcs, f_total, a_from, a_to, a_rooms, a_costs, a_balances, a_askedRoom, a_askedWeight, a_askedBalance, a_arcFrom, a_arcTo, a_arcRoom, a_arcWeight, a_distance, a_byArc))
    (KF : ∀ a b w, a < 5 → b < 5 → w < 76 → a ≠ b → v1 = nI a → v2 = nI b → v3 = nI w → (∀ i, i < 7 → m.testBit i = true) → post (-2) (nI m, f_arcs, f_total, a_from, a_to, a_rooms, a_costs, a_balances, a_askedRoom, a_askedWeight, a_askedBalance, a_arcFrom, a_arcTo, a_arcRoom, a_arcWeight, a_distance, a_byArc))
    (K : ∀ a b w k, a < 5 → b < 5 → w < 76 → a ≠ b → v1 = nI a → v2 = nI b → v3 = nI w → k < 7 → m.testBit k = false → (∀ i, i < k → m.testBit i = true) →
      post (nI k) (nI (m ||| 2 ^ k), f_arcs, f_total, upd a_from k (nI a), upd a_to k (nI b), upd a_rooms k (sd_i ((w : Int) % 4)), upd a_costs k (sd_i ((w : Int) / 4 - 9)), a_balances, a_askedRoom, a_askedWeight, a_askedBalance, a_arcFrom, a_arcTo, a_arcRoom, a_arcWeight, a_distance, a_byArc)) :
    wpX_add post (nI m, f_arcs, f_total, a_from, a_to, a_rooms, a_costs, a_balances, a_askedRoom, a_askedWeight, a_askedBalance, a_arcFrom, a_arcTo, a_arcRoom, a_arcWeight, a_distance, a_byArc) v1 v2 v3 := by
  unfold wpX_add
  refine br_c (fun h => KB (Or.inl h)) (fun h12 => ?_)
  refine sx_place (fun h => br_t rfl (KB (Or.inr (Or.inl h)))) (fun a ha e1 => br_f (by decide) ?_)
  refine sx_place (fun h => br_t rfl (KB (Or.inr (Or.inr (Or.inl h))))) (fun b hb e2 => br_f (by decide) ?_)
  refine sx_packed (fun h => br_t rfl (KB (Or.inr (Or.inr (Or.inr h))))) (fun w hw e3 => br_f (by decide) ⟨8, ?_⟩)
  have hab : a ≠ b := fun z => h12 (by rw [e1, e2, z])
  subst e1 e2 e3
  have go : ∀ n j, j ≤ 7 → 7 - j < n → (∀ i, i < j → m.testBit i = true) → wX_add_31 post (nI a) (nI b) (nI w) (nI m) f_arcs f_total a_from a_to a_rooms a_costs a_balances a_askedRoom a_askedWeight a_askedBalance a_arcFrom a_arcTo a_arcRoom a_arcWeight a_distance a_byArc n (nI j) := by
    intro n
    induction n with
    | zero => intro j _ h; omega
    | succ n ih =>
      intro j hj hn I
      by_cases e : j = 7
      · subst e
        exact br_t (by decide) (KF a b w ha hb hw hab rfl rfl rfl I)
      · have hj7 : j < 7 := by omega
        have v7 : vp_in (nI j) 7 := vp_in_nI hj7 (by decide)
        refine br_f (nI_ge (b := 7) hj7 (by decide)) (sx_has hm hj7 (fun h => br_t rfl ?_) (fun h => br_f (by decide) ?_))
        · rw [(sd_bor m hm j hj7).1, sd_cl (show j < 2147483648 by omega), sd_byte a (by omega), sd_byte b (by omega)]
          refine nm_e ⟨v7, nm_e ⟨v7, nm_e ?_⟩⟩
          exact sx_write hj7 hw (K a b w j ha hb hw hab rfl rfl rfl hj7 h I)
        · refine nm_r (nI_1 j) (ih (j + 1) (by omega) (by omega) ?_)
          intro i hi
          by_cases z : i = j
          · subst z; exact h
          · exact I i (by omega)
  exact go 8 0 (by omega) (by omega) (fun i hi => absurd hi (Nat.not_lt_zero i))
theorem sx_hasB {post : Int32 → Prop} {m : Nat} (hm : m < 128) {x : Int32} (hb : sd_bad 7 x → post 0) (h0 : ∀ j, j < 7 → x = nI j → m.testBit j = false → post 0) (h1 : ∀ j, j < 7 → x = nI j → m.testBit j = true → post 1) :
    wpX_has post (nI m, f_arcs, f_total, a_from, a_to, a_rooms, a_costs, a_balances, a_askedRoom, a_askedWeight, a_askedBalance, a_arcFrom, a_arcTo, a_arcRoom, a_arcWeight, a_distance, a_byArc) x := by
  rcases sd_ix x (n := 7) (by decide) with h | h | ⟨j, hj, e⟩
  · exact sx_hasO (Or.inl h) (hb (Or.inl h))
  · exact sx_hasO (Or.inr h) (hb (Or.inr h))
  · subst e
    exact sx_has hm hj (h0 j hj rfl) (h1 j hj rfl)
end
section
variable {f_leastCost : Int32} {f_mostCost : Int32} {f_ways : Int32} {a_there : Nat → Int32} {a_as : Nat → Int32} {a_bs : Nat → Int32} {a_rooms : Nat → Int32} {a_costs : Nat → Int32} {a_balances : Nat → Int32} {a_nums : Nat → Int32} {a_extra : Nat → Int32} {a_firsts : Nat → Int32} {a_lows : Nat → Int32} {a_highs : Nat → Int32}
theorem sy_place {post : Int32 → Prop} {x : Int32} (h0 : sd_bad 5 x → post 0) (h1 : ∀ j, j < 5 → x = nI j → post 1) : wpY_place post (f_leastCost, f_mostCost, f_ways, a_there, a_as, a_bs, a_rooms, a_costs, a_balances, a_nums, a_extra, a_firsts, a_lows, a_highs) x := by
  rcases sd_ix x (n := 5) (by decide) with h | h | ⟨j, hj, e⟩
  · exact br_t h (h0 (Or.inl h))
  · exact br_f (sd_noRange (by decide) h) (br_t ((sd_lt_nI (a := 4) rfl (by decide)).mpr h) (h0 (Or.inr h)))
  · exact br_f (by rw [e]; exact nI_pos (by omega)) (br_f (by rw [e]; exact nI_nlt (a := 4) (by omega) (by decide)) (h1 j hj e))
theorem sy_is {post : Int32 → Prop} {m : Nat} (hth : sd_TH m a_there) {x : Int32} (hb : sd_bad 7 x → post 0) (h0 : ∀ j, j < 7 → x = nI j → m.testBit j = false → post 0) (h1 : ∀ j, j < 7 → x = nI j → m.testBit j = true → post 1) :
    wpY_is post (f_leastCost, f_mostCost, f_ways, a_there, a_as, a_bs, a_rooms, a_costs, a_balances, a_nums, a_extra, a_firsts, a_lows, a_highs) x := by
  rcases sd_ix x (n := 7) (by decide) with h | h | ⟨j, hj, e⟩
  · exact br_t h (hb (Or.inl h))
  · exact br_f (sd_noRange (by decide) h) (br_t ((sd_lt_nI (a := 6) rfl (by decide)).mpr h) (hb (Or.inr h)))
  · subst e
    refine br_f (nI_pos (by omega)) (br_f (nI_nlt (a := 6) (by omega) (by decide)) ⟨vp_in_nI hj (by decide), ?_⟩)
    rw [sd_cl (show j < 2147483648 by omega), hth j hj]
    by_cases z : m.testBit j = true
    · rw [if_pos z]; exact br_f (by decide) (h1 j hj rfl z)
    · rw [if_neg z]; exact br_t rfl (h0 j hj rfl (by cases y : m.testBit j with | false => rfl | true => exact absurd y z))
theorem sy_give {post : SY → Prop} {k w : Nat} (hk : k < 7) (hw : w < 76) (h : post (f_leastCost, f_mostCost, f_ways, a_there, a_as, a_bs, upd a_rooms k (sd_i ((w : Int) % 4)), upd a_costs k (sd_i ((w : Int) / 4 - 9)), a_balances, a_nums, a_extra, a_firsts, a_lows, a_highs)) :
    wpY_give post (f_leastCost, f_mostCost, f_ways, a_there, a_as, a_bs, a_rooms, a_costs, a_balances, a_nums, a_extra, a_firsts, a_lows, a_highs) (nI k) (nI w) := by
  have v7 : vp_in (nI k) 7 := vp_in_nI hk (by decide)
  unfold wpY_give
  dsimp only
  rw [sd_cl (show k < 2147483648 by omega), (sd_pk1 w hw).2, (sd_pk2 w hw).2]
  exact ⟨by decide, v7, nm_e ⟨by decide, v7, nm_e h⟩⟩
theorem sy_addB {post : Int32 → SY → Prop} {v1 v2 v3 : Int32} (hb : v1 = v2 ∨ sd_bad 5 v1 ∨ sd_bad 5 v2 ∨ sd_bad 76 v3) (K : post (-1) (f_leastCost, f_mostCost, f_ways, a_there, a_as, a_bs, a_rooms, a_costs, a_balances, a_nums, a_extra, a_firsts, a_lows, a_highs)) : wpY_add post (f_leastCost, f_mostCost, f_ways, a_there, a_as, a_bs, a_rooms, a_costs, a_balances, a_nums, a_extra, a_firsts, a_lows, a_highs) v1 v2 v3 := by
  unfold wpY_add
  refine br_c (fun _ => K) (fun h12 => ?_)
  refine sy_place (fun h => br_t rfl K) (fun a ha e1 => br_f (by decide) ?_)
  refine sy_place (fun h => br_t rfl K) (fun b hb' e2 => br_f (by decide) ?_)
  subst e1 e2
  rcases hb with h | h | h | h
  · exact absurd h h12
  · exact absurd h (sd_bad_no ha (by decide))
  · exact absurd h (sd_bad_no hb' (by decide))
  · rcases h with h | h
    · exact br_t h K
    · refine br_f (sd_noRange (by decide) h) (br_f ?_ K)
      intro z
      have z1 := Int32.le_iff_toInt_le.mp z
      have z2 := Int32.le_iff_toInt_le.mp h
      rw [show (nI 76).toInt = 76 from by decide] at z2
      rw [show (75 : Int32).toInt = 75 from by decide] at z1
      omega
theorem sy_add {post : Int32 → SY → Prop} {m a b w : Nat} (hth : sd_TH m a_there) (ha : a < 5) (hb : b < 5) (hw : w < 76) (hab : a ≠ b)
    (KF : (∀ i, i < 7 → m.testBit i = true) → post (-2) (f_leastCost, f_mostCost, f_ways, a_there, a_as, a_bs, a_rooms, a_costs, a_balances, a_nums, a_extra, a_firsts, a_lows, a_highs))
    (K : ∀ k, k < 7 → m.testBit k = false → (∀ i, i < k → m.testBit i = true) →
      post (nI k) (f_leastCost, f_mostCost, f_ways, upd a_there k 1, upd a_as k (nI a), upd a_bs k (nI b), upd a_rooms k (sd_i ((w : Int) % 4)), upd a_costs k (sd_i ((w : Int) / 4 - 9)), a_balances, a_nums, a_extra, a_firsts, a_lows, a_highs)) :
    wpY_add post (f_leastCost, f_mostCost, f_ways, a_there, a_as, a_bs, a_rooms, a_costs, a_balances, a_nums, a_extra, a_firsts, a_lows, a_highs) (nI a) (nI b) (nI w) := by
  unfold wpY_add
  refine br_f (fun z => hab ((nI_eq (by omega) (by omega)).mp z)) ?_
  refine sy_place (fun h => absurd h (sd_bad_no ha (by decide))) (fun _ _ _ => br_f (by decide) ?_)
  refine sy_place (fun h => absurd h (sd_bad_no hb (by decide))) (fun _ _ _ => br_f (by decide) ?_)
  refine br_f (nI_pos (by omega)) (br_t (nI_le (b := 75) (by omega) (by decide)) ⟨8, ?_⟩)
  have go : ∀ n j, j ≤ 7 → 7 - j < n → (∀ i, i < j → m.testBit i = true) → wY_add_36 post (nI a) (nI b) (nI w) f_leastCost f_mostCost f_ways a_there a_as a_bs a_rooms a_costs a_balances a_nums a_extra a_firsts a_lows a_highs n (nI j) := by
    intro n
    induction n with
    | zero => intro j _ h; omega
    | succ n ih =>
      intro j hj hn I
      by_cases e : j = 7
      · subst e
        exact br_t (by decide) (KF I)
      · have hj7 : j < 7 := by omega
        have v7 : vp_in (nI j) 7 := vp_in_nI hj7 (by decide)
        refine br_f (nI_ge (b := 7) hj7 (by decide)) ⟨v7, ?_⟩
        rw [sd_cl (show j < 2147483648 by omega), hth j hj7]
        by_cases z : m.testBit j = true
        · rw [if_pos z]
          refine br_f (by decide) (nm_r (nI_1 j) (ih (j + 1) (by omega) (by omega) ?_))
          intro i hi
          by_cases y : i = j
          · subst y; exact z
          · exact I i (by omega)
        · rw [if_neg z]
          refine br_t rfl ⟨v7, nm_r (e' := upd a_there j 1) rfl ⟨v7, nm_e ⟨v7, nm_e ?_⟩⟩⟩
          exact sy_give hj7 hw (K j hj7 (by cases y : m.testBit j with | false => rfl | true => exact absurd y z) I)
  exact go 8 0 (by omega) (by omega) (fun i hi => absurd hi (Nat.not_lt_zero i))
theorem sd_ln0 : ∀ m, m < 128 → ∀ j, j < 7 → nI (m % 2 ^ j) ||| ((1 : Int32) <<< (nI j &&& 31)) = nI (m % 2 ^ j ||| 2 ^ j) ∧ (m.testBit j = true → m % 2 ^ j ||| 2 ^ j = m % 2 ^ (j + 1)) ∧ (m.testBit j = false → m % 2 ^ j = m % 2 ^ (j + 1)) := by decide +kernel
theorem sy_lines {post : Int32 → Prop} {m : Nat} (hm : m < 128) (hth : sd_TH m a_there) (K : post (nI m)) : wpY_lines post (f_leastCost, f_mostCost, f_ways, a_there, a_as, a_bs, a_rooms, a_costs, a_balances, a_nums, a_extra, a_firsts, a_lows, a_highs) := by
  have go : ∀ n j, j ≤ 7 → 7 - j < n → wY_lines_4 post f_leastCost f_mostCost f_ways a_there a_as a_bs a_rooms a_costs a_balances a_nums a_extra a_firsts a_lows a_highs n (nI (m % 2 ^ j)) (nI j) := by
    intro n
    induction n with
    | zero => intro j _ h; omega
    | succ n ih =>
      intro j hj hn
      by_cases e : j = 7
      · subst e
        rw [Nat.mod_eq_of_lt (show m < 2 ^ 7 from hm)]
        exact br_t (by decide) K
      · have hj7 : j < 7 := by omega
        have v7 : vp_in (nI j) 7 := vp_in_nI hj7 (by decide)
        have ht := sd_ln0 m hm j hj7
        refine br_f (nI_ge (b := 7) hj7 (by decide)) ⟨v7, ?_⟩
        rw [sd_cl (show j < 2147483648 by omega), hth j hj7]
        by_cases z : m.testBit j = true
        · rw [if_pos z, ht.1, ht.2.1 z]
          exact br_f (by decide) (nm_e (nm_r (nI_1 j) (ih (j + 1) (by omega) (by omega))))
        · have z' : m.testBit j = false := by cases y : m.testBit j with | false => rfl | true => exact absurd y z
          rw [if_neg z, ht.2.2 z']
          exact br_t rfl (nm_r (nI_1 j) (ih (j + 1) (by omega) (by omega)))
  have h := go 8 0 (by omega) (by omega)
  rw [Nat.pow_zero, Nat.mod_one] at h
  exact ⟨8, h⟩
end
end
section
/-! the plain laws: what the component finds is what the reference knows -/
theorem sd_ct_add (W V x : Nat → Int) : sd_ct (fun l => W l + V l) x = sd_ct W x + sd_ct V x := by
  unfold sd_ct
  rw [← sd_sm_add]
  exact sd_sm_c fun k _ => Int.add_mul _ _ _
theorem sd_ct_mul (W x : Nat → Int) (c : Int) : sd_ct (fun l => W l * c) x = c * sd_ct W x := by
  unfold sd_ct
  rw [← sd_sm_mul]
  exact sd_sm_c fun k _ => by
    show W k * c * x k = c * (W k * x k)
    rw [Int.mul_comm (W k) c, Int.mul_assoc]
theorem sd_ct_one (x : Nat → Int) {k : Nat} (hk : k < 7) (s : Int) : sd_ct (fun l => if l = k then s else 0) x = s * x k := by
  unfold sd_ct
  have h := sd_sm_u (f := fun _ => 0) (g := fun l => (if l = k then s else 0) * x l) hk (fun i _ e => by
    show (if i = k then s else 0) * x i = 0
    rw [if_neg e, Int.zero_mul])
  rw [h, sd_sm_0]
  show 0 + ((if k = k then s else 0) * x k - 0) = s * x k
  rw [if_pos rfl]; omega
theorem sd_ct_W2 (cs x : Nat → Int) {k : Nat} (hk : k < 7) (s : Int) : sd_ct (sd_W2 cs k s) x = 64 * sd_ct cs x + s * x k := by
  have h : sd_ct (sd_W2 cs k s) x = sd_ct (fun l => cs l * 64 + (if l = k then s else 0)) x := rfl
  rw [h, sd_ct_add (fun l => cs l * 64), sd_ct_mul, sd_ct_one x hk]
theorem sd_ct_p4 (x : Nat → Int) : sd_ct sd_p4 x = 4096 * x 0 + 1024 * x 1 + 256 * x 2 + 64 * x 3 + 16 * x 4 + 4 * x 5 + x 6 := by
  have h : sd_ct sd_p4 x = 0 + 4096 * x 0 + 1024 * x 1 + 256 * x 2 + 64 * x 3 + 16 * x 4 + 4 * x 5 + 1 * x 6 := rfl
  rw [h]; omega
theorem sd_ct_W1 (cs x : Nat → Int) : sd_ct (fun l => cs l * 65536 + sd_p4 l) x = 65536 * sd_ct cs x + sd_ct sd_p4 x := by
  rw [sd_ct_add (fun l => cs l * 65536), sd_ct_mul]
theorem sd_p4_b {x : Nat → Int} (h : ∀ k, k < 7 → 0 ≤ x k ∧ x k ≤ 3) : 0 ≤ sd_ct sd_p4 x ∧ sd_ct sd_p4 x ≤ 16383 := by
  rw [sd_ct_p4]
  have b0 := h 0 (by decide); have b1 := h 1 (by decide); have b2 := h 2 (by decide); have b3 := h 3 (by decide)
  have b4 := h 4 (by decide); have b5 := h 5 (by decide); have b6 := h 6 (by decide)
  omega
theorem sd_p4_lx {x y : Nat → Int} (hx : ∀ k, k < 7 → 0 ≤ x k ∧ x k ≤ 3) (hy : ∀ k, k < 7 → 0 ≤ y k ∧ y k ≤ 3) (h : sd_lx x y) : sd_ct sd_p4 x < sd_ct sd_p4 y := by
  obtain ⟨k, hk, h1, h2⟩ := h
  rw [sd_ct_p4, sd_ct_p4]
  have b0 := hx 0 (by decide); have b1 := hx 1 (by decide); have b2 := hx 2 (by decide); have b3 := hx 3 (by decide)
  have b4 := hx 4 (by decide); have b5 := hx 5 (by decide); have b6 := hx 6 (by decide)
  have a0 := hy 0 (by decide); have a1 := hy 1 (by decide); have a2 := hy 2 (by decide); have a3 := hy 3 (by decide)
  have a4 := hy 4 (by decide); have a5 := hy 5 (by decide); have a6 := hy 6 (by decide)
  have hk' : k = 0 ∨ k = 1 ∨ k = 2 ∨ k = 3 ∨ k = 4 ∨ k = 5 ∨ k = 6 := by omega
  rcases hk' with e | e | e | e | e | e | e <;> subst e
  · omega
  · have := h1 0 (by decide); omega
  · have := h1 0 (by decide); have := h1 1 (by decide); omega
  · have := h1 0 (by decide); have := h1 1 (by decide); have := h1 2 (by decide); omega
  · have := h1 0 (by decide); have := h1 1 (by decide); have := h1 2 (by decide); have := h1 3 (by decide); omega
  · have := h1 0 (by decide); have := h1 1 (by decide); have := h1 2 (by decide); have := h1 3 (by decide); have := h1 4 (by decide); omega
  · have := h1 0 (by decide); have := h1 1 (by decide); have := h1 2 (by decide); have := h1 3 (by decide); have := h1 4 (by decide); have := h1 5 (by decide); omega
section
variable {fm tt : Nat → Nat} {cs c b fs lo hi : Nat → Int} {lc mc wy : Int} {H : (Nat → Int) → Prop}
theorem sd_NI_no (hc : ∀ x, ¬ sd_Fe fm tt c b x) (I : sd_NI cs (fun x => sd_Fe fm tt c b x ∧ H x) lc mc wy fs lo hi) : wy = 0 ∧ lc = -100000 ∧ mc = -100000 := by
  rcases I with ⟨h1, h2, h3, _⟩ | I
  · exact ⟨h1, h2, h3⟩
  · exact absurd I.2.1.1.1 (hc fs)
theorem sd_NI_yes {x : Nat → Int} (hx : sd_Fe fm tt c b x) (hH : H x) (I : sd_NI cs (fun x => sd_Fe fm tt c b x ∧ H x) lc mc wy fs lo hi) : sd_OK cs (fun x => sd_Fe fm tt c b x ∧ H x) lc mc wy fs lo hi := by
  rcases I with ⟨_, _, _, h⟩ | I
  · exact absurd ⟨hx, hH⟩ (h x)
  · exact I
theorem sd_TN_eq (hf : ∀ k, k < 7 → fm k < 5 ∧ tt k < 5) {r : Int32} (hr : sd_TN fm tt cs c b r) (hH : ∀ x, H x) (I : sd_NI cs (fun x => sd_Fe fm tt c b x ∧ H x) lc mc wy fs lo hi) : sd_i lc = r := by
  rcases hr with ⟨x, hx, e, ho⟩ | ⟨e, hc⟩
  · have J := sd_NI_yes hx (hH x) I
    obtain ⟨_, ⟨⟨i1, _⟩, i2⟩, i3, _⟩ := J
    have h1 := i3 x ⟨hx, hH x⟩
    have h2 := ho fs i1
    rw [e]; apply congrArg; omega
  · have h := sd_NI_no (fun x => sd_Ce_no hf hc) I
    rw [h.2.1, e]; exact sd_none.symm
theorem sd_NK_first (hc3 : ∀ k, k < 7 → c k ≤ 3) {r : Int32} {k : Nat} (hk : k < 7) {x : Nat → Int} (hx : sd_Fe fm tt c b x) (e : r = sd_i (x k))
    (ho : ∀ y, sd_Fe fm tt c b y → sd_ct (fun l => cs l * 65536 + sd_p4 l) x ≤ sd_ct (fun l => cs l * 65536 + sd_p4 l) y) (hH : ∀ x, H x)
    (I : sd_OK cs (fun x => sd_Fe fm tt c b x ∧ H x) lc mc wy fs lo hi) : sd_i (fs k) = r := by
  obtain ⟨_, ⟨⟨i1, _⟩, i2⟩, i3, i4, _⟩ := I
  have bx : ∀ k, k < 7 → 0 ≤ x k ∧ x k ≤ 3 := fun k hk => by have h1 := hx.1 k hk; have h2 := hc3 k hk; omega
  have bf : ∀ k, k < 7 → 0 ≤ fs k ∧ fs k ≤ 3 := fun k hk => by have h1 := i1.1 k hk; have h2 := hc3 k hk; omega
  have h1 := i3 x ⟨hx, hH x⟩
  have h2 := ho fs i1
  rw [sd_ct_W1, sd_ct_W1] at h2
  have b1 := sd_p4_b bx
  have b2 := sd_p4_b bf
  have hc : sd_ct cs x = lc := by omega
  rcases sd_tri x fs with t | t | t
  · rw [e, t k hk]
  · exact absurd t (i4 x ⟨hx, hH x⟩ hc)
  · have := sd_p4_lx bf bx t
    omega
theorem sd_NK_lo (hc3 : ∀ k, k < 7 → c k ≤ 3) {r : Int32} {k : Nat} (hk : k < 7) {x : Nat → Int} (hx : sd_Fe fm tt c b x) (e : r = sd_i (x k))
    (ho : ∀ y, sd_Fe fm tt c b y → sd_ct (sd_W2 cs k 1) x ≤ sd_ct (sd_W2 cs k 1) y) (hH : ∀ x, H x)
    (I : sd_OK cs (fun x => sd_Fe fm tt c b x ∧ H x) lc mc wy fs lo hi) : sd_i (lo k) = r := by
  obtain ⟨_, _, i3, _, _, _, i7, _⟩ := I
  obtain ⟨⟨y, ⟨a1, _⟩, a2, a3⟩, _, j⟩ := i7 k hk
  have h1 := i3 x ⟨hx, hH x⟩
  have h2 := ho y a1
  rw [sd_ct_W2 cs x hk, sd_ct_W2 cs y hk] at h2
  have b1 := hx.1 k hk
  have b2 := a1.1 k hk
  have b3 := hc3 k hk
  have hc : sd_ct cs x = lc := by omega
  have h3 := j x ⟨hx, hH x⟩ hc
  rw [e]; apply congrArg; omega
theorem sd_NK_hi (hc3 : ∀ k, k < 7 → c k ≤ 3) {r : Int32} {k : Nat} (hk : k < 7) {x : Nat → Int} (hx : sd_Fe fm tt c b x) (e : r = sd_i (x k))
    (ho : ∀ y, sd_Fe fm tt c b y → sd_ct (sd_W2 cs k (-1)) x ≤ sd_ct (sd_W2 cs k (-1)) y) (hH : ∀ x, H x)
    (I : sd_OK cs (fun x => sd_Fe fm tt c b x ∧ H x) lc mc wy fs lo hi) : sd_i (hi k) = r := by
  obtain ⟨_, _, i3, _, _, _, i7, _⟩ := I
  obtain ⟨_, ⟨y, ⟨a1, _⟩, a2, a3⟩, j⟩ := i7 k hk
  have h1 := i3 x ⟨hx, hH x⟩
  have h2 := ho y a1
  rw [sd_ct_W2 cs x hk, sd_ct_W2 cs y hk] at h2
  have b1 := hx.1 k hk
  have b2 := a1.1 k hk
  have b3 := hc3 k hk
  have hc : sd_ct cs x = lc := by omega
  have h3 := j x ⟨hx, hH x⟩ hc
  rw [e]; apply congrArg; omega
end
/-- the first line's number fixed -/
theorem sd_ox_ud {fm tt : Nat → Nat} (x : Nat → Int) {k : Nat} (hk : k < 7) (w : Int) (p : Nat) :
    sd_ox fm tt (sd_ud x k w) p = sd_ox fm tt x p + ((if fm k = p then w - x k else 0) - (if tt k = p then w - x k else 0)) := by
  have h := sd_sm_u (f := fun l => (if fm l = p then x l else 0) - (if tt l = p then x l else 0)) (g := fun l => (if fm l = p then sd_ud x k w l else 0) - (if tt l = p then sd_ud x k w l else 0)) hk (fun i _ e => by
    show (if fm i = p then sd_ud x k w i else 0) - (if tt i = p then sd_ud x k w i else 0) = _
    rw [sd_udn e])
  have h' : sd_ox fm tt (sd_ud x k w) p = sd_ox fm tt x p + (((if fm k = p then sd_ud x k w k else 0) - (if tt k = p then sd_ud x k w k else 0)) - ((if fm k = p then x k else 0) - (if tt k = p then x k else 0))) := h
  rw [h', sd_uds]
  by_cases z1 : fm k = p <;> by_cases z2 : tt k = p <;> simp only [z1, z2, if_true, if_false] <;> omega
theorem sd_ct_ud (W x : Nat → Int) {k : Nat} (hk : k < 7) (w : Int) : sd_ct W (sd_ud x k w) = sd_ct W x + W k * (w - x k) := by
  have h := sd_sm_u (f := fun l => W l * x l) (g := fun l => W l * sd_ud x k w l) hk (fun i _ e => by
    show W i * sd_ud x k w i = _
    rw [sd_udn e])
  have h' : sd_ct W (sd_ud x k w) = sd_ct W x + (W k * sd_ud x k w k - W k * x k) := h
  rw [h', sd_uds]; grind
theorem sd_sh_at {bl : Nat → Int} {p q : Nat} (hpq : p ≠ q) (n : Int) (r : Nat) : sd_sh bl p q n r = bl r + ((if p = r then n else 0) - (if q = r then n else 0)) := by
  unfold sd_sh
  by_cases e : r = q
  · rw [e, sd_uds, if_neg hpq, if_pos rfl]; omega
  · rw [sd_udn e, if_neg (show ¬ q = r from fun z => e z.symm)]
    by_cases e2 : r = p
    · rw [e2, sd_uds, if_pos rfl]; omega
    · rw [sd_udn e2, if_neg (show ¬ p = r from fun z => e2 z.symm)]; omega
/-- with number z of line k, and without the line -/
theorem sd_with {fm tt : Nat → Nat} {c bl : Nat → Int} {k : Nat} {z : Int} (hk : k < 7) (hne : fm k ≠ tt k) {y : Nat → Int} (hy : sd_Fe fm tt c bl y) (hz : y k = z) :
    sd_Fe fm tt (sd_ud c k 0) (sd_sh bl (fm k) (tt k) (-z)) (sd_ud y k 0) := by
  refine ⟨fun j hj => ?_, fun p hp => ?_⟩
  · by_cases e : j = k
    · rw [e, sd_uds, sd_uds]; exact ⟨Int.le_refl 0, Int.le_refl 0⟩
    · rw [sd_udn e, sd_udn e]; exact hy.1 j hj
  · rw [sd_ox_ud y hk, sd_sh_at hne, hy.2 p hp, hz]
    by_cases z1 : fm k = p <;> by_cases z2 : tt k = p <;> simp only [z1, z2, if_true, if_false] <;> omega
theorem sd_without {fm tt : Nat → Nat} {c bl : Nat → Int} {k : Nat} {z : Int} (hk : k < 7) (hne : fm k ≠ tt k) (hz : 0 ≤ z ∧ z ≤ c k) {x : Nat → Int}
    (hx : sd_Fe fm tt (sd_ud c k 0) (sd_sh bl (fm k) (tt k) (-z)) x) : x k = 0 ∧ sd_Fe fm tt c bl (sd_ud x k z) ∧ sd_ud x k z k = z := by
  have h0 : x k = 0 := by
    have h := hx.1 k hk
    rw [sd_uds] at h; omega
  refine ⟨h0, ⟨fun j hj => ?_, fun p hp => ?_⟩, sd_uds⟩
  · by_cases e : j = k
    · rw [e, sd_uds]; exact hz
    · have h := hx.1 j hj
      rw [sd_udn e] at h ⊢
      exact h
  · have h := hx.2 p hp
    rw [sd_sh_at hne] at h
    rw [sd_ox_ud x hk, h, h0]
    by_cases z1 : fm k = p <;> by_cases z2 : tt k = p <;> simp only [z1, z2, if_true, if_false] <;> omega
/-- no more than 21 can be spared -/
theorem sd_21 {fm tt : Nat → Nat} {c bl x y : Nat → Int} {p q : Nat} {e : Int} (hp : p < 5) (hpq : p ≠ q) (hc : ∀ k, k < 7 → c k ≤ 3)
    (hx : sd_Fe fm tt c bl x) (hy : sd_Fe fm tt c (sd_sh bl p q e) y) : e ≤ 21 := by
  have h1 := hx.2 p hp
  have h2 := hy.2 p hp
  rw [sd_sh_at hpq, if_pos rfl, if_neg (fun z => hpq z.symm)] at h2
  have h3 : sd_sm (fun k => ((if fm k = p then y k else 0) - (if tt k = p then y k else 0)) - ((if fm k = p then x k else 0) - (if tt k = p then x k else 0))) 7 ≤ sd_sm (fun _ => 3) 7 := sd_sm_le fun k hk => by
    have b1 := hx.1 k hk
    have b2 := hy.1 k hk
    have b3 := hc k hk
    by_cases z1 : fm k = p <;> by_cases z2 : tt k = p <;> simp only [z1, z2, if_true, if_false] <;> omega
  rw [sd_sm_sub (fun k => (if fm k = p then y k else 0) - (if tt k = p then y k else 0)) (fun k => (if fm k = p then x k else 0) - (if tt k = p then x k else 0))] at h3
  have e1 : sd_sm (fun k => (if fm k = p then y k else 0) - (if tt k = p then y k else 0)) 7 = sd_ox fm tt y p := rfl
  have e2 : sd_sm (fun k => (if fm k = p then x k else 0) - (if tt k = p then x k else 0)) 7 = sd_ox fm tt x p := rfl
  have e3 : sd_sm (fun _ => 3) 7 = 21 := rfl
  rw [e1, e2, e3] at h3
  omega
end
section
/-! the owed statements: the network -/
theorem i_vc_add {k : Nat} {u : SX} {v : SY} (I : i_Rel k u v) (hk : k + 4 ≤ 2048) (v1 : Int32) (v2 : Int32) (v3 : Int32) : wpX_add (fun r u' => wpY_add (fun r' v' => r' = r ∧ i_Rel (k + 4) u' v') v v1 v2 v3) u v1 v2 v3 := by
  refine sd_el (P := fun u v => wpX_add (fun r u' => wpY_add (fun r' v' => r' = r ∧ i_Rel (k + 4) u' v') v v1 v2 v3) u v1 v2 v3) ?_ I
  intro m fm tt rm cs bl a_from a_to a_rooms a_costs a_balances a_there s_arcs s_total s_askedRoom s_askedWeight s_askedBalance s_arcFrom s_arcTo s_arcRoom s_arcWeight s_distance s_byArc s_leastCost s_mostCost s_ways s_nums s_extra s_firsts s_lows s_highs hr
  refine sx_add hr.1.1 (fun hb => ?_) (fun a b w ha hb hw hab e1 e2 e3 hall => ?_) (fun a b w j ha hb hw hab e1 e2 e3 hj hj0 hjl => ?_)
  · exact sy_addB hb ⟨rfl, sd_mk _ hr _ _ _ _ _ _ _ _ _ _ _ _ _ _ _ _ _ _ _⟩
  · subst e1 e2 e3
    refine sy_add hr.2.1 ha hb hw hab (fun _ => ⟨rfl, sd_mk _ hr _ _ _ _ _ _ _ _ _ _ _ _ _ _ _ _ _ _ _⟩) (fun i hi hi0 _ => ?_)
    rw [hall i hi] at hi0; exact absurd hi0 (by decide)
  · subst e1 e2 e3
    refine sy_add hr.2.1 ha hb hw hab (fun hall => ?_) (fun i hi hi0 hil => ?_)
    · rw [hall j hj] at hj0; exact absurd hj0 (by decide)
    · have e : i = j := by
        by_cases z1 : i < j
        · have := hjl i z1; rw [this] at hi0; exact absurd hi0 (by decide)
        · by_cases z2 : j < i
          · have := hil j z2; rw [this] at hj0; exact absurd hj0 (by decide)
          · omega
      subst e
      exact ⟨rfl, sd_mk _ (sd_RF_put (sd_RF_add hr hi ha hb hab) hi hw) _ _ _ _ _ _ _ _ _ _ _ _ _ _ _ _ _ _ _⟩
theorem i_vc_remove {k : Nat} {u : SX} {v : SY} (I : i_Rel k u v) (hk : k + 4 ≤ 2048) (v1 : Int32) : wpX_remove (fun r u' => wpY_remove (fun r' v' => r' = r ∧ i_Rel (k + 4) u' v') v v1) u v1 := by
  refine sd_el (P := fun u v => wpX_remove (fun r u' => wpY_remove (fun r' v' => r' = r ∧ i_Rel (k + 4) u' v') v v1) u v1) ?_ I
  intro m fm tt rm cs bl a_from a_to a_rooms a_costs a_balances a_there s_arcs s_total s_askedRoom s_askedWeight s_askedBalance s_arcFrom s_arcTo s_arcRoom s_arcWeight s_distance s_byArc s_leastCost s_mostCost s_ways s_nums s_extra s_firsts s_lows s_highs hr
  unfold wpX_remove wpY_remove
  refine sx_hasB hr.1.1 (fun hb => br_t rfl ?_) (fun j hj e h0 => br_t rfl ?_) (fun j hj e h1 => br_f (by decide) ?_)
  · refine sy_is hr.2.1 (fun _ => br_t rfl ⟨rfl, sd_mk _ hr _ _ _ _ _ _ _ _ _ _ _ _ _ _ _ _ _ _ _⟩) (fun i hi e _ => ?_) (fun i hi e _ => ?_)
    · rw [e] at hb; exact absurd hb (sd_bad_no hi (by decide))
    · rw [e] at hb; exact absurd hb (sd_bad_no hi (by decide))
  · refine sy_is hr.2.1 (fun hb => ?_) (fun i hi e' _ => br_t rfl ⟨rfl, sd_mk _ hr _ _ _ _ _ _ _ _ _ _ _ _ _ _ _ _ _ _ _⟩) (fun i hi e' hi1 => ?_)
    · rw [e] at hb; exact absurd hb (sd_bad_no hj (by decide))
    · have z : i = j := (nI_eq (by omega) (by omega)).mp (e'.symm.trans e)
      rw [z, h0] at hi1; exact absurd hi1 (by decide)
  · subst e
    rw [(sd_band m hr.1.1 j hj).1]
    refine nm_e ?_
    refine sy_is hr.2.1 (fun hb => absurd hb (sd_bad_no hj (by decide))) (fun i hi e' hi0 => ?_) (fun i hi e' hi1 => br_f (by decide) ⟨vp_in_nI hj (by decide), ?_⟩)
    · have z : j = i := (nI_eq (by omega) (by omega)).mp e'
      rw [← z, h1] at hi0; exact absurd hi0 (by decide)
    · rw [sd_cl (show j < 2147483648 by omega)]
      exact nm_r (e' := upd a_there j 0) rfl ⟨rfl, sd_mk _ (sd_RF_rem hr hj) _ _ _ _ _ _ _ _ _ _ _ _ _ _ _ _ _ _ _⟩
theorem i_vc_change {k : Nat} {u : SX} {v : SY} (I : i_Rel k u v) (hk : k + 4 ≤ 2048) (v1 : Int32) (v2 : Int32) : wpX_change (fun r u' => wpY_change (fun r' v' => r' = r ∧ i_Rel (k + 4) u' v') v v1 v2) u v1 v2 := by
  refine sd_el (P := fun u v => wpX_change (fun r u' => wpY_change (fun r' v' => r' = r ∧ i_Rel (k + 4) u' v') v v1 v2) u v1 v2) ?_ I
  intro m fm tt rm cs bl a_from a_to a_rooms a_costs a_balances a_there s_arcs s_total s_askedRoom s_askedWeight s_askedBalance s_arcFrom s_arcTo s_arcRoom s_arcWeight s_distance s_byArc s_leastCost s_mostCost s_ways s_nums s_extra s_firsts s_lows s_highs hr
  have R : i_Rel (k + 4) (nI m, s_arcs, s_total, a_from, a_to, a_rooms, a_costs, a_balances, s_askedRoom, s_askedWeight, s_askedBalance, s_arcFrom, s_arcTo, s_arcRoom, s_arcWeight, s_distance, s_byArc) (s_leastCost, s_mostCost, s_ways, a_there, a_from, a_to, a_rooms, a_costs, a_balances, s_nums, s_extra, s_firsts, s_lows, s_highs) := sd_mk _ hr _ _ _ _ _ _ _ _ _ _ _ _ _ _ _ _ _ _ _
  unfold wpX_change wpY_change
  refine sx_hasB hr.1.1 (fun hb => br_t rfl ?_) (fun j hj e h0 => br_t rfl ?_) (fun j hj e h1 => br_f (by decide) ?_)
  · refine sy_is hr.2.1 (fun _ => br_t rfl ⟨rfl, R⟩) (fun i hi e _ => ?_) (fun i hi e _ => ?_)
    · rw [e] at hb; exact absurd hb (sd_bad_no hi (by decide))
    · rw [e] at hb; exact absurd hb (sd_bad_no hi (by decide))
  · refine sy_is hr.2.1 (fun hb => ?_) (fun i hi e' _ => br_t rfl ⟨rfl, R⟩) (fun i hi e' hi1 => ?_)
    · rw [e] at hb; exact absurd hb (sd_bad_no hj (by decide))
    · have z : i = j := (nI_eq (by omega) (by omega)).mp (e'.symm.trans e)
      rw [z, h0] at hi1; exact absurd hi1 (by decide)
  · subst e
    refine sx_packed (fun hb => br_t rfl ?_) (fun w hw e2 => br_f (by decide) ?_)
    · refine sy_is hr.2.1 (fun hb => absurd hb (sd_bad_no hj (by decide))) (fun i hi e' hi0 => br_t rfl ⟨rfl, R⟩) (fun i hi e' hi1 => br_f (by decide) ?_)
      rcases hb with h | h
      · exact br_t h ⟨rfl, R⟩
      · refine br_f (sd_noRange (by decide) h) (br_f ?_ ⟨rfl, R⟩)
        intro z
        have z1 := Int32.le_iff_toInt_le.mp z
        have z2 := Int32.le_iff_toInt_le.mp h
        rw [show (nI 76).toInt = 76 from by decide] at z2
        rw [show (75 : Int32).toInt = 75 from by decide] at z1
        omega
    · subst e2
      refine sx_write hj hw ?_
      refine sy_is hr.2.1 (fun hb => absurd hb (sd_bad_no hj (by decide))) (fun i hi e' hi0 => ?_) (fun i hi e' hi1 => br_f (by decide) (br_f (nI_pos (by omega)) (br_t (nI_le (b := 75) (by omega) (by decide)) ?_)))
      · have z : j = i := (nI_eq (by omega) (by omega)).mp e'
        rw [← z, h1] at hi0; exact absurd hi0 (by decide)
      · exact sy_give hj hw ⟨rfl, sd_mk _ (sd_RF_put hr hj hw) _ _ _ _ _ _ _ _ _ _ _ _ _ _ _ _ _ _ _⟩
theorem i_vc_lines {k : Nat} {u : SX} {v : SY} (I : i_Rel k u v) (hk : k + 4 ≤ 2048) : wpX_lines (fun r => wpY_lines (fun r' => r' = r ∧ i_Rel (k + 4) u v) v) u := by
  refine sd_el (P := fun u v => wpX_lines (fun r => wpY_lines (fun r' => r' = r ∧ i_Rel (k + 4) u v) v) u) ?_ I
  intro m fm tt rm cs bl a_from a_to a_rooms a_costs a_balances a_there s_arcs s_total s_askedRoom s_askedWeight s_askedBalance s_arcFrom s_arcTo s_arcRoom s_arcWeight s_distance s_byArc s_leastCost s_mostCost s_ways s_nums s_extra s_firsts s_lows s_highs hr
  unfold wpX_lines
  exact sy_lines hr.1.1 hr.2.1 ⟨rfl, sd_mk _ hr _ _ _ _ _ _ _ _ _ _ _ _ _ _ _ _ _ _ _⟩
theorem i_vc_balance {k : Nat} {u : SX} {v : SY} (I : i_Rel k u v) (hk : k + 4 ≤ 2048) (v1 : Int32) (v2 : Int32) : wpX_balance (fun r u' => wpY_balance (fun r' v' => r' = r ∧ i_Rel (k + 4) u' v') v v1 v2) u v1 v2 := by
  refine sd_el (P := fun u v => wpX_balance (fun r u' => wpY_balance (fun r' v' => r' = r ∧ i_Rel (k + 4) u' v') v v1 v2) u v1 v2) ?_ I
  intro m fm tt rm cs bl a_from a_to a_rooms a_costs a_balances a_there s_arcs s_total s_askedRoom s_askedWeight s_askedBalance s_arcFrom s_arcTo s_arcRoom s_arcWeight s_distance s_byArc s_leastCost s_mostCost s_ways s_nums s_extra s_firsts s_lows s_highs hr
  have R : i_Rel (k + 4) (nI m, s_arcs, s_total, a_from, a_to, a_rooms, a_costs, a_balances, s_askedRoom, s_askedWeight, s_askedBalance, s_arcFrom, s_arcTo, s_arcRoom, s_arcWeight, s_distance, s_byArc) (s_leastCost, s_mostCost, s_ways, a_there, a_from, a_to, a_rooms, a_costs, a_balances, s_nums, s_extra, s_firsts, s_lows, s_highs) := sd_mk _ hr _ _ _ _ _ _ _ _ _ _ _ _ _ _ _ _ _ _ _
  unfold wpX_balance wpY_balance
  refine sx_place (fun hb => br_t rfl ?_) (fun p hp e => br_f (by decide) ?_)
  · refine sy_place (fun _ => br_t rfl ⟨rfl, R⟩) (fun i hi e => ?_)
    rw [e] at hb; exact absurd hb (sd_bad_no hi (by decide))
  · subst e
    have cp : (nI p).toNatClampNeg = p := sd_cl (by omega)
    refine br_c (fun h => ?_) (fun h => br_c (fun h' => ⟨vp_in_nI hp (by decide), ?_⟩) (fun h' => ?_))
    · exact sy_place (fun hb => absurd hb (sd_bad_no hp (by decide))) (fun _ _ _ => br_f (by decide) (br_t h ⟨rfl, R⟩))
    · have z1 : -9 ≤ v2.toInt := by
        have this : ¬ v2.toInt < (-9 : Int32).toInt := fun z => h (Int32.lt_iff_toInt_lt.mpr z)
        rw [show (-9 : Int32).toInt = -9 from by decide] at this
        omega
      have z2 : v2.toInt ≤ 9 := by
        have := Int32.le_iff_toInt_le.mp h'
        rw [show (9 : Int32).toInt = 9 from by decide] at this
        omega
      have ev : v2 = sd_i v2.toInt := (sd_io v2).symm
      have eb : vp_nar .byte v2.toInt8.toInt32 = sd_i v2.toInt := by
        have hw := sd_bal (v2.toInt + 9).toNat (by omega)
        have e9 : (((v2.toInt + 9).toNat : Nat) : Int) - 9 = v2.toInt := by omega
        rw [e9, ← ev] at hw
        rw [vp_nar_byte, hw]; exact ev
      rw [cp, eb]
      refine nm_e ?_
      refine sy_place (fun hb => absurd hb (sd_bad_no hp (by decide))) (fun _ _ _ => br_f (by decide) (br_f h (br_t h' ⟨vp_in_nI hp (by decide), ?_⟩)))
      exact nm_r (e' := upd a_balances p (sd_i v2.toInt)) (by rw [← ev]) ⟨rfl, sd_mk _ (sd_RF_bal hr ⟨z1, z2⟩) _ _ _ _ _ _ _ _ _ _ _ _ _ _ _ _ _ _ _⟩
    · exact sy_place (fun hb => absurd hb (sd_bad_no hp (by decide))) (fun _ _ _ => br_f (by decide) (br_f h (br_f h' ⟨rfl, R⟩)))
end
section
/-! the owed statements: the questions -/
section
variable {f_leastCost : Int32} {f_mostCost : Int32} {f_ways : Int32} {a_there : Nat → Int32} {a_as : Nat → Int32} {a_bs : Nat → Int32} {a_rooms : Nat → Int32} {a_costs : Nat → Int32} {a_balances : Nat → Int32} {a_nums : Nat → Int32} {a_extra : Nat → Int32} {a_firsts : Nat → Int32} {a_lows : Nat → Int32} {a_highs : Nat → Int32}
theorem sy_search0 {post : SY → Prop} {m : Nat} {fm tt : Nat → Nat} {rm cs bl : Nat → Int} (hd : sd_DB m fm tt rm cs bl a_as a_bs a_rooms a_costs a_balances) (hth : sd_TH m a_there)
    (K : ∀ lc mc wy fs lo hi nu ex fi lw hg, sd_NI cs (fun x => sd_Fe fm tt (sd_cap m rm) bl x ∧ True) lc mc wy fs lo hi → wy ≤ 78125 → (∀ k, k < 7 → fi k = sd_i (fs k)) → (∀ k, k < 7 → lw k = sd_i (lo k)) → (∀ k, k < 7 → hg k = sd_i (hi k)) →
      post (sd_i lc, sd_i mc, sd_i wy, a_there, a_as, a_bs, a_rooms, a_costs, a_balances, nu, ex, fi, lw, hg)) :
    wpY_search post (f_leastCost, f_mostCost, f_ways, a_there, a_as, a_bs, a_rooms, a_costs, a_balances, a_nums, a_extra, a_firsts, a_lows, a_highs) 0 1 0 (-1) 0 := by
  refine sy_search (p := 0) (q := 1) (z := 0) (H := fun _ => True) hd hth (by decide) (by decide) (by decide) ⟨by decide, by decide⟩ (Or.inl ⟨rfl, fun _ => trivial⟩) (fun lc mc wy fs lo hi nu ex fi lw hg I => ?_)
  rw [sd_sh_0] at I
  exact K lc mc wy fs lo hi nu ex fi lw hg I
theorem sy_searchK {post : SY → Prop} {m : Nat} {fm tt : Nat → Nat} {rm cs bl : Nat → Int} (hd : sd_DB m fm tt rm cs bl a_as a_bs a_rooms a_costs a_balances) (hth : sd_TH m a_there) {k : Nat} {w : Int} (hk : k < 7) (hw : -2147483648 ≤ w ∧ w < 2147483648)
    (K : ∀ lc mc wy fs lo hi nu ex fi lw hg, sd_NI cs (fun x => sd_Fe fm tt (sd_cap m rm) bl x ∧ x k = w) lc mc wy fs lo hi → wy ≤ 78125 → (∀ k, k < 7 → fi k = sd_i (fs k)) → (∀ k, k < 7 → lw k = sd_i (lo k)) → (∀ k, k < 7 → hg k = sd_i (hi k)) →
      post (sd_i lc, sd_i mc, sd_i wy, a_there, a_as, a_bs, a_rooms, a_costs, a_balances, nu, ex, fi, lw, hg)) :
    wpY_search post (f_leastCost, f_mostCost, f_ways, a_there, a_as, a_bs, a_rooms, a_costs, a_balances, a_nums, a_extra, a_firsts, a_lows, a_highs) 0 1 0 (nI k) (sd_i w) := by
  refine sy_search (p := 0) (q := 1) (z := 0) (H := fun x => x k = w) hd hth (by decide) (by decide) (by decide) ⟨by decide, by decide⟩ (Or.inr ⟨k, w, hk, rfl, rfl, hw.1, hw.2, fun _ => Iff.rfl⟩) (fun lc mc wy fs lo hi nu ex fi lw hg I => ?_)
  rw [sd_sh_0] at I
  exact K lc mc wy fs lo hi nu ex fi lw hg I
theorem sy_possible {post : Int32 → SY → Prop} {m : Nat} {fm tt : Nat → Nat} {rm cs bl : Nat → Int} (hd : sd_DB m fm tt rm cs bl a_as a_bs a_rooms a_costs a_balances) (hth : sd_TH m a_there)
    (K : ∀ r (s_leastCost : Int32) (s_mostCost : Int32) (s_ways : Int32) (s_nums : Nat → Int32) (s_extra : Nat → Int32) (s_firsts : Nat → Int32) (s_lows : Nat → Int32) (s_highs : Nat → Int32), (r = 1 ∧ (∃ x, sd_Fe fm tt (sd_cap m rm) bl x) ∨ r = 0 ∧ ∀ x, ¬ sd_Fe fm tt (sd_cap m rm) bl x) → post r (s_leastCost, s_mostCost, s_ways, a_there, a_as, a_bs, a_rooms, a_costs, a_balances, s_nums, s_extra, s_firsts, s_lows, s_highs)) : wpY_possible post (f_leastCost, f_mostCost, f_ways, a_there, a_as, a_bs, a_rooms, a_costs, a_balances, a_nums, a_extra, a_firsts, a_lows, a_highs) := by
  unfold wpY_possible
  refine sy_search0 hd hth (fun lc mc wy fs lo hi nu ex fi lw hg I hw _ _ _ => ?_)
  rcases I with ⟨h1, h2, h3, h4⟩ | I
  · subst h1
    exact br_t (by decide) (K 0 _ _ _ _ _ _ _ _ (Or.inr ⟨rfl, fun x hx => h4 x ⟨hx, trivial⟩⟩))
  · have h1 := I.1
    refine sd_ble wy 0 rfl rfl (fun h => by omega) (fun _ => K 1 _ _ _ _ _ _ _ _ (Or.inl ⟨rfl, fs, I.2.1.1.1⟩)) (by omega) (by omega) (by decide) (by decide)
theorem sy_least {post : Int32 → SY → Prop} {m : Nat} {fm tt : Nat → Nat} {rm cs bl : Nat → Int} (hd : sd_DB m fm tt rm cs bl a_as a_bs a_rooms a_costs a_balances) (hth : sd_TH m a_there)
    {r : Int32} (hr : sd_TN fm tt cs (sd_cap m rm) bl r) (K : ∀ (s_leastCost : Int32) (s_mostCost : Int32) (s_ways : Int32) (s_nums : Nat → Int32) (s_extra : Nat → Int32) (s_firsts : Nat → Int32) (s_lows : Nat → Int32) (s_highs : Nat → Int32), post r (s_leastCost, s_mostCost, s_ways, a_there, a_as, a_bs, a_rooms, a_costs, a_balances, s_nums, s_extra, s_firsts, s_lows, s_highs)) : wpY_least post (f_leastCost, f_mostCost, f_ways, a_there, a_as, a_bs, a_rooms, a_costs, a_balances, a_nums, a_extra, a_firsts, a_lows, a_highs) := by
  unfold wpY_least
  refine sy_search0 hd hth (fun lc mc wy fs lo hi nu ex fi lw hg I hw _ _ _ => ?_)
  have e := sd_TN_eq hd.2.1 hr (fun _ => trivial) I
  have h := K (sd_i lc) (sd_i mc) (sd_i wy) nu ex fi lw hg
  rw [← e] at h
  exact h
end
theorem i_vc_possible {k : Nat} {u : SX} {v : SY} (I : i_Rel k u v) (hk : k + 4 ≤ 2048) : wpX_possible (fun r u' => wpY_possible (fun r' v' => r' = r ∧ i_Rel (k + 4) u' v') v) u := by
  refine sd_el (P := fun u v => wpX_possible (fun r u' => wpY_possible (fun r' v' => r' = r ∧ i_Rel (k + 4) u' v') v) u) ?_ I
  intro m fm tt rm cs bl a_from a_to a_rooms a_costs a_balances a_there s_arcs s_total s_askedRoom s_askedWeight s_askedBalance s_arcFrom s_arcTo s_arcRoom s_arcWeight s_distance s_byArc s_leastCost s_mostCost s_ways s_nums s_extra s_firsts s_lows s_highs hr
  refine sx_possible hr.1 (fun r s_arcs s_total s_askedRoom s_askedWeight s_askedBalance s_arcFrom s_arcTo s_arcRoom s_arcWeight s_distance s_byArc hX => ?_)
  refine sy_possible hr.1 hr.2.1 (fun r' s_leastCost s_mostCost s_ways s_nums s_extra s_firsts s_lows s_highs hY => ⟨?_, sd_mk _ hr _ _ _ _ _ _ _ _ _ _ _ _ _ _ _ _ _ _ _⟩)
  rcases hX with ⟨e, x, hx⟩ | ⟨e, hc⟩
  · rcases hY with ⟨e', _⟩ | ⟨e', hn⟩
    · rw [e, e']
    · exact absurd hx (hn x)
  · rcases hY with ⟨e', y, hy⟩ | ⟨e', hn⟩
    · exact absurd hy (sd_Ce_no hr.1.2.1 hc)
    · rw [e, e']
theorem i_vc_least {k : Nat} {u : SX} {v : SY} (I : i_Rel k u v) (hk : k + 4 ≤ 2048) : wpX_least (fun r u' => wpY_least (fun r' v' => r' = r ∧ i_Rel (k + 4) u' v') v) u := by
  refine sd_el (P := fun u v => wpX_least (fun r u' => wpY_least (fun r' v' => r' = r ∧ i_Rel (k + 4) u' v') v) u) ?_ I
  intro m fm tt rm cs bl a_from a_to a_rooms a_costs a_balances a_there s_arcs s_total s_askedRoom s_askedWeight s_askedBalance s_arcFrom s_arcTo s_arcRoom s_arcWeight s_distance s_byArc s_leastCost s_mostCost s_ways s_nums s_extra s_firsts s_lows s_highs hr
  refine sx_least hr.1 (fun r s_arcs s_total s_askedRoom s_askedWeight s_askedBalance s_arcFrom s_arcTo s_arcRoom s_arcWeight s_distance s_byArc hX => ?_)
  exact sy_least hr.1 hr.2.1 hX (fun s_leastCost s_mostCost s_ways s_nums s_extra s_firsts s_lows s_highs => ⟨rfl, sd_mk _ hr _ _ _ _ _ _ _ _ _ _ _ _ _ _ _ _ _ _ _⟩)
theorem i_vc_greatest {k : Nat} {u : SX} {v : SY} (I : i_Rel k u v) (hk : k + 4 ≤ 2048) : wpX_greatest (fun r u' => wpY_greatest (fun r' v' => r' = r ∧ i_Rel (k + 4) u' v') v) u := by
  refine sd_el (P := fun u v => wpX_greatest (fun r u' => wpY_greatest (fun r' v' => r' = r ∧ i_Rel (k + 4) u' v') v) u) ?_ I
  intro m fm tt rm cs bl a_from a_to a_rooms a_costs a_balances a_there s_arcs s_total s_askedRoom s_askedWeight s_askedBalance s_arcFrom s_arcTo s_arcRoom s_arcWeight s_distance s_byArc s_leastCost s_mostCost s_ways s_nums s_extra s_firsts s_lows s_highs hr
  refine sx_greatest hr.1 (fun r s_arcs s_total s_askedRoom s_askedWeight s_askedBalance s_arcFrom s_arcTo s_arcRoom s_arcWeight s_distance s_byArc hX => ?_)
  unfold wpY_greatest
  refine sy_search0 hr.1 hr.2.1 (fun lc mc wy fs lo hi nu ex fi lw hg I hw _ _ _ => ⟨?_, sd_mk _ hr _ _ _ _ _ _ _ _ _ _ _ _ _ _ _ _ _ _ _⟩)
  rcases hX with ⟨x, hx, e, ho⟩ | ⟨e, hc⟩
  · obtain ⟨_, _, _, _, ⟨y, ⟨y1, _⟩, y2⟩, i6, _⟩ := sd_NI_yes hx trivial I
    have h1 := i6 x ⟨hx, trivial⟩
    have h2 := ho y y1
    show sd_i mc = r
    rw [e]; apply congrArg; omega
  · have h := sd_NI_no (fun x => sd_Ce_no hr.1.2.1 hc) I
    show sd_i mc = r
    rw [h.2.2, e]; exact sd_none.symm
theorem i_vc_first {k : Nat} {u : SX} {v : SY} (I : i_Rel k u v) (hk : k + 4 ≤ 2048) (v1 : Int32) : wpX_first (fun r u' => wpY_first (fun r' v' => r' = r ∧ i_Rel (k + 4) u' v') v v1) u v1 := by
  refine sd_el (P := fun u v => wpX_first (fun r u' => wpY_first (fun r' v' => r' = r ∧ i_Rel (k + 4) u' v') v v1) u v1) ?_ I
  intro m fm tt rm cs bl a_from a_to a_rooms a_costs a_balances a_there s_arcs s_total s_askedRoom s_askedWeight s_askedBalance s_arcFrom s_arcTo s_arcRoom s_arcWeight s_distance s_byArc s_leastCost s_mostCost s_ways s_nums s_extra s_firsts s_lows s_highs hr
  have hcap := sd_cap_b (m := m) (N := 3) (by decide) (fun k hk => ⟨(hr.1.2.2.2.1 k hk).2.1, hr.2.2.1 k hk⟩)
  by_cases hb : sd_bad 7 v1
  · unfold wpX_first wpY_first
    refine sx_hasO hb (br_t rfl ?_)
    refine sy_search0 hr.1 hr.2.1 (fun lc mc wy fs lo hi nu ex fi lw hg I hw _ _ _ => ?_)
    refine sy_is hr.2.1 (fun _ => br_t rfl ⟨rfl, sd_mk _ hr _ _ _ _ _ _ _ _ _ _ _ _ _ _ _ _ _ _ _⟩) (fun i hi e _ => ?_) (fun i hi e _ => ?_)
    · rw [e] at hb; exact absurd hb (sd_bad_no hi (by decide))
    · rw [e] at hb; exact absurd hb (sd_bad_no hi (by decide))
  · obtain ⟨j, hj, e⟩ : ∃ j, j < 7 ∧ v1 = nI j := by
      rcases sd_ix v1 (n := 7) (by decide) with h | h | h
      · exact absurd (Or.inl h) hb
      · exact absurd (Or.inr h) hb
      · exact h
    subst e
    refine sx_first hr.1 hj (fun h0 => ?_) (fun h1 r s_arcs s_total s_askedRoom s_askedWeight s_askedBalance s_arcFrom s_arcTo s_arcRoom s_arcWeight s_distance s_byArc hX => ?_)
    · unfold wpY_first
      refine sy_search0 hr.1 hr.2.1 (fun lc mc wy fs lo hi nu ex fi lw hg I hw _ _ _ => ?_)
      refine sy_is hr.2.1 (fun h => absurd h hb) (fun i hi e _ => br_t rfl ⟨rfl, sd_mk _ hr _ _ _ _ _ _ _ _ _ _ _ _ _ _ _ _ _ _ _⟩) (fun i hi e h1 => ?_)
      have z : j = i := (nI_eq (by omega) (by omega)).mp e
      rw [← z, h0] at h1; exact absurd h1 (by decide)
    · unfold wpY_first
      refine sy_search0 hr.1 hr.2.1 (fun lc mc wy fs lo hi nu ex fi lw hg I hw hfi _ _ => ?_)
      refine sy_is hr.2.1 (fun h => absurd h hb) (fun i hi e h0 => ?_) (fun i hi e _ => br_f (by decide) ?_)
      · have z : j = i := (nI_eq (by omega) (by omega)).mp e
        rw [← z, h1] at h0; exact absurd h0 (by decide)
      · rcases hX with ⟨x, hx, ex, ho⟩ | ⟨ex, hc⟩
        · have J := sd_NI_yes hx trivial I
          have h1 := J.1
          refine sd_ble wy 0 rfl rfl (fun h => by omega) (fun _ => ⟨vp_in_nI hj (by decide), ?_, sd_mk _ hr _ _ _ _ _ _ _ _ _ _ _ _ _ _ _ _ _ _ _⟩) (by omega) (by omega) (by decide) (by decide)
          rw [sd_cl (show j < 2147483648 by omega), hfi j hj]
          exact sd_NK_first (fun k hk => (hcap k hk).2) hj hx ex ho (fun _ => trivial) J
        · have h := sd_NI_no (fun x => sd_Ce_no hr.1.2.1 hc) I
          rw [h.1, ex]
          exact br_t (by decide) ⟨rfl, sd_mk _ hr _ _ _ _ _ _ _ _ _ _ _ _ _ _ _ _ _ _ _⟩
end
section
/-! the owed statements: range, unique, leastWith, worth -/
theorem sd_notbad {x : Int32} {n : Nat} (hn : n < 2147483648) (h : ¬ sd_bad n x) : ∃ j, j < n ∧ x = nI j := by
  rcases sd_ix x hn with h1 | h1 | h1
  · exact absurd (Or.inl h1) h
  · exact absurd (Or.inr h1) h
  · exact h1
section
variable {f_present : Int32} {f_arcs : Int32} {f_total : Int64} {a_from : Nat → Int32} {a_to : Nat → Int32} {a_rooms : Nat → Int32} {a_costs : Nat → Int32} {a_balances : Nat → Int32} {a_askedRoom : Nat → Int32} {a_askedWeight : Nat → Int64} {a_askedBalance : Nat → Int32} {a_arcFrom : Nat → Int32} {a_arcTo : Nat → Int32} {a_arcRoom : Nat → Int32} {a_arcWeight : Nat → Int64} {a_distance : Nat → Int64} {a_byArc : Nat → Int32}
theorem sx_rangeB {post : Int32 → SX → Prop} {m : Nat} (hm : m < 128) {v1 v2 : Int32} (hb : sd_bad 7 v1 ∨ sd_bad 2 v2) (K : post (-1) (nI m, f_arcs, f_total, a_from, a_to, a_rooms, a_costs, a_balances, a_askedRoom, a_askedWeight, a_askedBalance, a_arcFrom, a_arcTo, a_arcRoom, a_arcWeight, a_distance, a_byArc)) : wpX_range post (nI m, f_arcs, f_total, a_from, a_to, a_rooms, a_costs, a_balances, a_askedRoom, a_askedWeight, a_askedBalance, a_arcFrom, a_arcTo, a_arcRoom, a_arcWeight, a_distance, a_byArc) v1 v2 := by
  unfold wpX_range
  refine sx_hasB hm (fun _ => br_t rfl K) (fun j hj e _ => br_t rfl K) (fun j hj e _ => br_f (by decide) ?_)
  rcases hb with h | h
  · rw [e] at h; exact absurd h (sd_bad_no hj (by decide))
  · rcases h with h | h
    · exact br_t h K
    · refine br_f (sd_noRange (by decide) h) (br_f ?_ K)
      intro z
      have z1 := Int32.le_iff_toInt_le.mp z
      have z2 := Int32.le_iff_toInt_le.mp h
      rw [show (nI 2).toInt = 2 from by decide] at z2
      rw [show (1 : Int32).toInt = 1 from by decide] at z1
      omega
end
theorem i_vc_range {k : Nat} {u : SX} {v : SY} (I : i_Rel k u v) (hk : k + 4 ≤ 2048) (v1 : Int32) (v2 : Int32) : wpX_range (fun r u' => wpY_range (fun r' v' => r' = r ∧ i_Rel (k + 4) u' v') v v1 v2) u v1 v2 := by
  refine sd_el (P := fun u v => wpX_range (fun r u' => wpY_range (fun r' v' => r' = r ∧ i_Rel (k + 4) u' v') v v1 v2) u v1 v2) ?_ I
  intro m fm tt rm cs bl a_from a_to a_rooms a_costs a_balances a_there s_arcs s_total s_askedRoom s_askedWeight s_askedBalance s_arcFrom s_arcTo s_arcRoom s_arcWeight s_distance s_byArc s_leastCost s_mostCost s_ways s_nums s_extra s_firsts s_lows s_highs hr
  have hcap := sd_cap_b (m := m) (N := 3) (by decide) (fun k hk => ⟨(hr.1.2.2.2.1 k hk).2.1, hr.2.2.1 k hk⟩)
  by_cases hb : sd_bad 7 v1 ∨ sd_bad 2 v2
  · refine sx_rangeB hr.1.1 hb ?_
    unfold wpY_range
    refine sy_search0 hr.1 hr.2.1 (fun lc mc wy fs lo hi nu ex fi lw hg I hw _ _ _ => ?_)
    refine sy_is hr.2.1 (fun _ => br_t rfl ⟨rfl, sd_mk _ hr _ _ _ _ _ _ _ _ _ _ _ _ _ _ _ _ _ _ _⟩) (fun i hi e _ => br_t rfl ⟨rfl, sd_mk _ hr _ _ _ _ _ _ _ _ _ _ _ _ _ _ _ _ _ _ _⟩) (fun i hi e _ => br_f (by decide) ?_)
    have hb2 : sd_bad 2 v2 := by
      rcases hb with h | h
      · rw [e] at h; exact absurd h (sd_bad_no hi (by decide))
      · exact h
    refine br_c (fun _ => ⟨rfl, sd_mk _ hr _ _ _ _ _ _ _ _ _ _ _ _ _ _ _ _ _ _ _⟩) (fun _ => br_f ?_ (br_f ?_ ⟨rfl, sd_mk _ hr _ _ _ _ _ _ _ _ _ _ _ _ _ _ _ _ _ _ _⟩))
    · intro z; rw [z] at hb2; exact sd_bad_no (j := 0) (by decide) (by decide) hb2
    · intro z; rw [z] at hb2; exact sd_bad_no (j := 1) (by decide) (by decide) hb2
  · obtain ⟨j, hj, e1⟩ := sd_notbad (by decide) (fun h => hb (Or.inl h))
    obtain ⟨w, hw2, e2⟩ := sd_notbad (by decide) (fun h => hb (Or.inr h))
    subst e1 e2
    refine sx_range hr.1 hj hw2 (fun h0 => ?_) (fun h1 r s_arcs s_total s_askedRoom s_askedWeight s_askedBalance s_arcFrom s_arcTo s_arcRoom s_arcWeight s_distance s_byArc hX => ?_)
    · unfold wpY_range
      refine sy_search0 hr.1 hr.2.1 (fun lc mc wy fs lo hi nu ex fi lw hg I hw _ _ _ => ?_)
      refine sy_is hr.2.1 (fun h => absurd (Or.inl h) hb) (fun i hi e _ => br_t rfl ⟨rfl, sd_mk _ hr _ _ _ _ _ _ _ _ _ _ _ _ _ _ _ _ _ _ _⟩) (fun i hi e h1 => ?_)
      have z : j = i := (nI_eq (by omega) (by omega)).mp e
      rw [← z, h0] at h1; exact absurd h1 (by decide)
    · unfold wpY_range
      refine sy_search0 hr.1 hr.2.1 (fun lc mc wy fs lo hi nu ex fi lw hg I hw hfi hlw hhg => ?_)
      refine sy_is hr.2.1 (fun h => absurd (Or.inl h) hb) (fun i hi e h0 => ?_) (fun i hi e _ => br_f (by decide) ?_)
      · have z : j = i := (nI_eq (by omega) (by omega)).mp e
        rw [← z, h1] at h0; exact absurd h0 (by decide)
      · rcases hX with ⟨x, hx, ex, ho⟩ | ⟨ex, hc⟩
        · have J := sd_NI_yes hx trivial I
          have h1 := J.1
          refine sd_ble wy 0 rfl rfl (fun h => by omega) (fun _ => ?_) (by omega) (by omega) (by decide) (by decide)
          have hw' : w = 0 ∨ w = 1 := by omega
          have cj : (nI j).toNatClampNeg = j := sd_cl (by omega)
          unfold wY_range_33
          rcases hw' with z | z <;> subst z
          · refine br_t rfl (br_t rfl ⟨vp_in_nI hj (by decide), ?_, sd_mk _ hr _ _ _ _ _ _ _ _ _ _ _ _ _ _ _ _ _ _ _⟩)
            rw [cj, hlw j hj]
            exact sd_NK_lo (fun k hk => (hcap k hk).2) hj hx ex ho (fun _ => trivial) J
          · refine br_f (by decide) (br_t rfl (br_f (by decide) ⟨vp_in_nI hj (by decide), ?_, sd_mk _ hr _ _ _ _ _ _ _ _ _ _ _ _ _ _ _ _ _ _ _⟩))
            rw [cj, hhg j hj]
            exact sd_NK_hi (fun k hk => (hcap k hk).2) hj hx ex ho (fun _ => trivial) J
        · have h := sd_NI_no (fun x => sd_Ce_no hr.1.2.1 hc) I
          rw [h.1, ex]
          exact br_t (by decide) ⟨rfl, sd_mk _ hr _ _ _ _ _ _ _ _ _ _ _ _ _ _ _ _ _ _ _⟩
theorem sd_NK_x {fm tt : Nat → Nat} (hf : ∀ k, k < 7 → fm k < 5 ∧ tt k < 5) {W c b : Nat → Int} {k : Nat} {r : Int32} (h : sd_NK fm tt W c b k r) {y : Nat → Int} (hy : sd_Fe fm tt c b y) :
    ∃ x, sd_Fe fm tt c b x ∧ r = sd_i (x k) ∧ ∀ y, sd_Fe fm tt c b y → sd_ct W x ≤ sd_ct W y := by
  rcases h with h | ⟨_, hc⟩
  · exact h
  · exact absurd hy (sd_Ce_no hf hc)
theorem i_vc_unique {k : Nat} {u : SX} {v : SY} (I : i_Rel k u v) (hk : k + 4 ≤ 2048) : wpX_unique (fun r u' => wpY_unique (fun r' v' => r' = r ∧ i_Rel (k + 4) u' v') v) u := by
  refine sd_el (P := fun u v => wpX_unique (fun r u' => wpY_unique (fun r' v' => r' = r ∧ i_Rel (k + 4) u' v') v) u) ?_ I
  intro m fm tt rm cs bl a_from a_to a_rooms a_costs a_balances a_there s_arcs s_total s_askedRoom s_askedWeight s_askedBalance s_arcFrom s_arcTo s_arcRoom s_arcWeight s_distance s_byArc s_leastCost s_mostCost s_ways s_nums s_extra s_firsts s_lows s_highs hr
  have hcap := sd_cap_b (m := m) (N := 3) (by decide) (fun k hk => ⟨(hr.1.2.2.2.1 k hk).2.1, hr.2.2.1 k hk⟩)
  have hc3 : ∀ k, k < 7 → sd_cap m rm k ≤ 3 := fun k hk => (hcap k hk).2
  have hf := hr.1.2.1
  refine sx_unique hr.1 (fun s_arcs s_total s_askedRoom s_askedWeight s_askedBalance s_arcFrom s_arcTo s_arcRoom s_arcWeight s_distance s_byArc hc => ?_) (fun s_arcs s_total s_askedRoom s_askedWeight s_askedBalance s_arcFrom s_arcTo s_arcRoom s_arcWeight s_distance s_byArc hx hall => ?_) (fun s_arcs s_total s_askedRoom s_askedWeight s_askedBalance s_arcFrom s_arcTo s_arcRoom s_arcWeight s_distance s_byArc hx hne => ?_)
  · unfold wpY_unique
    refine sy_search0 hr.1 hr.2.1 (fun lc mc wy fs lo hi nu ex fi lw hg I hw hfi hlw hhg => ?_)
    have h := sd_NI_no (fun x => sd_Ce_no hf hc) I
    rw [h.1]
    exact br_f (by decide) ⟨rfl, sd_mk _ hr _ _ _ _ _ _ _ _ _ _ _ _ _ _ _ _ _ _ _⟩
  · obtain ⟨x0, hx0⟩ := hx
    unfold wpY_unique
    refine sy_search0 hr.1 hr.2.1 (fun lc mc wy fs lo hi nu ex fi lw hg I hw hfi hlw hhg => ?_)
    have J := sd_NI_yes hx0 trivial I
    have e1 : wy = 1 := by
      have h1 := J.1
      by_cases h2 : 2 ≤ wy
      · exfalso
        obtain ⟨_, ⟨⟨f1, _⟩, f2⟩, _, _, _, _, i7, _, i9⟩ := id J
        obtain ⟨x, ⟨x1, _⟩, x2, x3⟩ := i9 h2
        refine x3 (fun j hj => ?_)
        by_cases hb : m.testBit j = true
        · obtain ⟨w, hw1, hw2⟩ := hall j hj hb
          obtain ⟨y1, hy1, ey1, ho1⟩ := sd_NK_x hf hw1 hx0
          obtain ⟨y2, hy2, ey2, ho2⟩ := sd_NK_x hf hw2 hx0
          have l1 := sd_NK_lo hc3 hj hy1 ey1 ho1 (fun _ => trivial) J
          have l2 := sd_NK_hi hc3 hj hy2 ey2 ho2 (fun _ => trivial) J
          obtain ⟨⟨xa, ⟨a1, _⟩, _, a3⟩, ⟨xb, ⟨b1, _⟩, _, b3⟩, jj⟩ := i7 j hj
          have q1 := a1.1 j hj
          have q2 := b1.1 j hj
          have q3 := hc3 j hj
          have e := sd_iinj (l1.trans l2.symm)
          have r1 := jj x ⟨x1, trivial⟩ x2
          have r2 := jj fs ⟨f1, trivial⟩ f2
          omega
        · have hz : sd_cap m rm j = 0 := if_neg hb
          have q1 := x1.1 j hj
          have q2 := f1.1 j hj
          omega
      · omega
    rw [e1]
    exact br_t rfl ⟨rfl, sd_mk _ hr _ _ _ _ _ _ _ _ _ _ _ _ _ _ _ _ _ _ _⟩
  · obtain ⟨x0, hx0⟩ := hx
    obtain ⟨j, hj, hb, w, w', hww, hw1, hw2⟩ := hne
    unfold wpY_unique
    refine sy_search0 hr.1 hr.2.1 (fun lc mc wy fs lo hi nu ex fi lw hg I hw hfi hlw hhg => ?_)
    have J := sd_NI_yes hx0 trivial I
    have h1 := J.1
    refine sd_beq wy 1 rfl rfl (fun e => ?_) (fun _ => ⟨rfl, sd_mk _ hr _ _ _ _ _ _ _ _ _ _ _ _ _ _ _ _ _ _ _⟩) (by omega) (by omega) (by decide) (by decide)
    exfalso
    obtain ⟨_, _, _, _, _, _, i7, i8, _⟩ := id J
    obtain ⟨y1, hy1, ey1, ho1⟩ := sd_NK_x hf hw1 hx0
    obtain ⟨y2, hy2, ey2, ho2⟩ := sd_NK_x hf hw2 hx0
    have l1 := sd_NK_lo hc3 hj hy1 ey1 ho1 (fun _ => trivial) J
    have l2 := sd_NK_hi hc3 hj hy2 ey2 ho2 (fun _ => trivial) J
    obtain ⟨⟨xa, a1, a2, a3⟩, ⟨xb, b1, b2, b3⟩, jj⟩ := i7 j hj
    have q1 := i8 e xa a1 a2 j hj
    have q2 := i8 e xb b1 b2 j hj
    apply hww
    rw [← l1, ← l2, ← a3, ← b3, q1, q2]
theorem i_vc_leastWith {k : Nat} {u : SX} {v : SY} (I : i_Rel k u v) (hk : k + 4 ≤ 2048) (v1 : Int32) (v2 : Int32) : wpX_leastWith (fun r u' => wpY_leastWith (fun r' v' => r' = r ∧ i_Rel (k + 4) u' v') v v1 v2) u v1 v2 := by
  refine sd_el (P := fun u v => wpX_leastWith (fun r u' => wpY_leastWith (fun r' v' => r' = r ∧ i_Rel (k + 4) u' v') v v1 v2) u v1 v2) ?_ I
  intro m fm tt rm cs bl a_from a_to a_rooms a_costs a_balances a_there s_arcs s_total s_askedRoom s_askedWeight s_askedBalance s_arcFrom s_arcTo s_arcRoom s_arcWeight s_distance s_byArc s_leastCost s_mostCost s_ways s_nums s_extra s_firsts s_lows s_highs hr
  have hf := hr.1.2.1
  by_cases hb : sd_bad 7 v1
  · unfold wpX_leastWith wpY_leastWith
    refine sx_hasO hb (br_t rfl ?_)
    refine sy_is hr.2.1 (fun _ => br_t rfl ⟨rfl, sd_mk _ hr _ _ _ _ _ _ _ _ _ _ _ _ _ _ _ _ _ _ _⟩) (fun i hi e _ => ?_) (fun i hi e _ => ?_)
    · rw [e] at hb; exact absurd hb (sd_bad_no hi (by decide))
    · rw [e] at hb; exact absurd hb (sd_bad_no hi (by decide))
  · obtain ⟨j, hj, e⟩ := sd_notbad (by decide) hb
    subst e
    have ev : v2 = sd_i v2.toInt := (sd_io v2).symm
    have hz : -2147483648 ≤ v2.toInt ∧ v2.toInt < 2147483648 := by
      have h1 := v2.le_toInt
      have h2 := v2.toInt_lt
      omega
    generalize v2.toInt = z at ev hz
    subst ev
    refine sx_leastWith hr.1 hj hz (hr.2.2.2 j hj) (fun h0 => ?_) (fun h1 hz0 hz1 r s_arcs s_total s_askedRoom s_askedWeight s_askedBalance s_arcFrom s_arcTo s_arcRoom s_arcWeight s_distance s_byArc hX => ?_)
    · unfold wpY_leastWith
      refine sy_is hr.2.1 (fun h => absurd h hb) (fun i hi e _ => br_t rfl ⟨rfl, sd_mk _ hr _ _ _ _ _ _ _ _ _ _ _ _ _ _ _ _ _ _ _⟩) (fun i hi e h1 => br_f (by decide) ?_)
      have zi : j = i := (nI_eq (by omega) (by omega)).mp e
      rw [← zi] at h1
      refine sy_searchK hr.1 hr.2.1 hj hz (fun lc mc wy fs lo hi nu ex fi lw hg I hw hfi hlw hhg => ⟨?_, sd_mk _ hr _ _ _ _ _ _ _ _ _ _ _ _ _ _ _ _ _ _ _⟩)
      rcases I with ⟨_, h2, _⟩ | I
      · show sd_i lc = -100000
        rw [h2]; exact sd_none.symm
      · exfalso
        obtain ⟨f1, f2⟩ := I.2.1.1
        have q := f1.1 j hj
        have hc : sd_cap m rm j = rm j := if_pos h1
        rw [h1] at h0
        rcases h0 with h | h | h
        · exact absurd h (by decide)
        · omega
        · omega
    · have hne := hr.2.2.2 j hj h1
      have hc : sd_cap m rm j = rm j := if_pos h1
      unfold wpY_leastWith
      refine sy_is hr.2.1 (fun h => absurd h hb) (fun i hi e h0 => ?_) (fun i hi e _ => br_f (by decide) ?_)
      · have zi : j = i := (nI_eq (by omega) (by omega)).mp e
        rw [← zi, h1] at h0; exact absurd h0 (by decide)
      · refine sy_searchK hr.1 hr.2.1 hj hz (fun lc mc wy fs lo hi nu ex fi lw hg I hw hfi hlw hhg => ⟨?_, sd_mk _ hr _ _ _ _ _ _ _ _ _ _ _ _ _ _ _ _ _ _ _⟩)
        show sd_i lc = r
        rcases hX with ⟨x, hx, ex, ho⟩ | ⟨ex, hce⟩
        · obtain ⟨x0, xF, xk⟩ := sd_without hj hne (show 0 ≤ z ∧ z ≤ sd_cap m rm j from ⟨hz0, by omega⟩) hx
          have J := sd_NI_yes xF xk I
          obtain ⟨_, ⟨⟨f1, f2⟩, f3⟩, i3, _⟩ := J
          have g1 := i3 _ ⟨xF, xk⟩
          have g2 := ho _ (sd_with hj hne f1 f2)
          rw [sd_ct_ud cs x hj, x0] at g1
          rw [sd_ct_ud cs fs hj, f2, f3] at g2
          rw [ex]; apply congrArg
          have g3 : cs j * (z - 0) = z * cs j := by grind
          have g4 : cs j * (0 - z) = -(z * cs j) := by grind
          omega
        · rcases I with ⟨_, h2, _⟩ | I
          · rw [h2, ex]; exact sd_none.symm
          · exfalso
            obtain ⟨f1, f2⟩ := I.2.1.1
            exact sd_Ce_no hf hce (sd_with hj hne f1 f2)
end
section
/-! the owed statements: worth, shifted, spare -/
theorem sd_back {a : Nat → Int32} {k : Nat} {r : Int32} (h : r = a k + 1) : upd (upd a k r) k (upd a k r k - 1) = a := by
  funext j
  by_cases e : j = k
  · subst e
    rw [sd_us, sd_us, h]
    grind
  · rw [sd_un e, sd_un e]
theorem sd_cap_ud {m : Nat} {rm : Nat → Int} {k : Nat} (h : m.testBit k = true) : sd_cap m (sd_ud rm k (rm k + 1)) = sd_ud (sd_cap m rm) k (sd_cap m rm k + 1) := by
  funext j
  by_cases e : j = k
  · rw [e, sd_uds]
    unfold sd_cap
    rw [if_pos h, if_pos h, sd_uds]
  · rw [sd_udn e]
    unfold sd_cap
    rw [sd_udn e]
theorem i_vc_worth {k : Nat} {u : SX} {v : SY} (I : i_Rel k u v) (hk : k + 4 ≤ 2048) (v1 : Int32) : wpX_worth (fun r u' => wpY_worth (fun r' v' => r' = r ∧ i_Rel (k + 4) u' v') v v1) u v1 := by
  refine sd_el (P := fun u v => wpX_worth (fun r u' => wpY_worth (fun r' v' => r' = r ∧ i_Rel (k + 4) u' v') v v1) u v1) ?_ I
  intro m fm tt rm cs bl a_from a_to a_rooms a_costs a_balances a_there s_arcs s_total s_askedRoom s_askedWeight s_askedBalance s_arcFrom s_arcTo s_arcRoom s_arcWeight s_distance s_byArc s_leastCost s_mostCost s_ways s_nums s_extra s_firsts s_lows s_highs hr
  have hf := hr.1.2.1
  by_cases hb : sd_bad 7 v1
  · unfold wpX_worth wpY_worth
    refine sx_hasO hb (br_t rfl ?_)
    unfold wpY_least
    refine sy_search0 hr.1 hr.2.1 (fun lc mc wy fs lo hi nu ex fi lw hg I hw _ _ _ => ?_)
    refine sy_is hr.2.1 (fun _ => br_t rfl ⟨rfl, sd_mk _ hr _ _ _ _ _ _ _ _ _ _ _ _ _ _ _ _ _ _ _⟩) (fun i hi e _ => ?_) (fun i hi e _ => ?_)
    · rw [e] at hb; exact absurd hb (sd_bad_no hi (by decide))
    · rw [e] at hb; exact absurd hb (sd_bad_no hi (by decide))
  · obtain ⟨j, hj, e⟩ := sd_notbad (by decide) hb
    subst e
    refine sx_worth hr.1 hj (fun h0 => ?_) (fun s_arcs s_total s_askedRoom s_askedWeight s_askedBalance s_arcFrom s_arcTo s_arcRoom s_arcWeight s_distance s_byArc hc => ?_) (fun h1 r r' s_arcs s_total s_askedRoom s_askedWeight s_askedBalance s_arcFrom s_arcTo s_arcRoom s_arcWeight s_distance s_byArc hx hX hX' => ?_)
    · unfold wpY_worth wpY_least
      refine sy_search0 hr.1 hr.2.1 (fun lc mc wy fs lo hi nu ex fi lw hg I hw _ _ _ => ?_)
      refine sy_is hr.2.1 (fun h => absurd h hb) (fun i hi e _ => br_t rfl ⟨rfl, sd_mk _ hr _ _ _ _ _ _ _ _ _ _ _ _ _ _ _ _ _ _ _⟩) (fun i hi e h1 => ?_)
      have z : j = i := (nI_eq (by omega) (by omega)).mp e
      rw [← z, h0] at h1; exact absurd h1 (by decide)
    · unfold wpY_worth wpY_least
      refine sy_search0 hr.1 hr.2.1 (fun lc mc wy fs lo hi nu ex fi lw hg I hw _ _ _ => ?_)
      have h := sd_NI_no (fun x => sd_Ce_no hf hc) I
      rw [h.2.1]
      refine sy_is hr.2.1 (fun h => absurd h hb) (fun i hi e _ => br_t rfl ⟨rfl, sd_mk _ hr _ _ _ _ _ _ _ _ _ _ _ _ _ _ _ _ _ _ _⟩) (fun i hi e h1 => br_f (by decide) (br_t sd_none.symm ⟨rfl, sd_mk _ hr _ _ _ _ _ _ _ _ _ _ _ _ _ _ _ _ _ _ _⟩))
    · have hcap := sd_cap_b (m := m) (N := 4) (by decide) (fun k hk => (hr.1.2.2.2.1 k hk).2)
      have hN : ¬ r = -100000 := by
        obtain ⟨x0, hx0⟩ := hx
        rcases hX with ⟨x, hx, e, _⟩ | ⟨_, hc⟩
        · intro hN
          have hb := sd_ct_b (fun k hk => (hr.1.2.2.2.2.1 k hk).2) (fun k hk => by have := hcap k hk; omega) hx
          rw [e, sd_none] at hN
          have := sd_iinj hN
          omega
        · exact absurd hx0 (sd_Ce_no hf hc)
      have v7 : vp_in (nI j) 7 := vp_in_nI hj (by decide)
      unfold wpY_worth
      refine sy_least hr.1 hr.2.1 hX (fun s_leastCost s_mostCost s_ways s_nums s_extra s_firsts s_lows s_highs => ?_)
      refine sy_is hr.2.1 (fun h => absurd h hb) (fun i hi e h0 => ?_) (fun i hi e _ => br_f (by decide) (br_f hN ⟨v7, v7, ?_⟩))
      · have zi : j = i := (nI_eq (by omega) (by omega)).mp e
        rw [← zi, h1] at h0; exact absurd h0 (by decide)
      · rw [sd_cl (show j < 2147483648 by omega)]
        refine nm_e ?_
        have hd' : sd_DB m fm tt (sd_ud rm j (rm j + 1)) cs bl a_from a_to (upd a_rooms j (a_rooms j + 1)) a_costs a_balances := by
          obtain ⟨d1, d2, d3, d4, d5, d6⟩ := hr.1
          refine ⟨d1, d2, d3, fun i hi => ⟨sd_uI (fun i hi => (d4 i hi).1) (by rw [(d4 j hj).1]; exact sd_ia _ 1) i hi, ?_⟩, d5, d6⟩
          have q1 := hr.2.2.1 j hj
          have q2 := (d4 j hj).2
          by_cases z : i = j
          · rw [z, sd_uds]; omega
          · rw [sd_udn z]; exact (d4 i hi).2
        rw [← sd_cap_ud h1] at hX'
        refine sy_least hd' hr.2.1 hX' (fun s_leastCost s_mostCost s_ways s_nums s_extra s_firsts s_lows s_highs => ⟨v7, v7, ?_⟩)
        refine nm_r (e' := a_rooms) (sd_back rfl) ⟨rfl, sd_mk _ hr _ _ _ _ _ _ _ _ _ _ _ _ _ _ _ _ _ _ _⟩
section
variable {f_present : Int32} {f_arcs : Int32} {f_total : Int64} {a_from : Nat → Int32} {a_to : Nat → Int32} {a_rooms : Nat → Int32} {a_costs : Nat → Int32} {a_balances : Nat → Int32} {a_askedRoom : Nat → Int32} {a_askedWeight : Nat → Int64} {a_askedBalance : Nat → Int32} {a_arcFrom : Nat → Int32} {a_arcTo : Nat → Int32} {a_arcRoom : Nat → Int32} {a_arcWeight : Nat → Int64} {a_distance : Nat → Int64} {a_byArc : Nat → Int32}
theorem sx_shB {post : Int32 → SX → Prop} {v1 v2 : Int32} (hb : v1 = v2 ∨ sd_bad 5 v1 ∨ sd_bad 5 v2) (K : post (-100000) (f_present, f_arcs, f_total, a_from, a_to, a_rooms, a_costs, a_balances, a_askedRoom, a_askedWeight, a_askedBalance, a_arcFrom, a_arcTo, a_arcRoom, a_arcWeight, a_distance, a_byArc)) : wpX_shifted post (f_present, f_arcs, f_total, a_from, a_to, a_rooms, a_costs, a_balances, a_askedRoom, a_askedWeight, a_askedBalance, a_arcFrom, a_arcTo, a_arcRoom, a_arcWeight, a_distance, a_byArc) v1 v2 := by
  unfold wpX_shifted
  refine sx_place (fun _ => br_t rfl K) (fun a ha e1 => br_f (by decide) ?_)
  refine sx_place (fun _ => br_t rfl K) (fun b hb' e2 => br_f (by decide) ?_)
  refine br_c (fun _ => K) (fun h12 => ?_)
  subst e1 e2
  rcases hb with h | h | h
  · exact absurd h h12
  · exact absurd h (sd_bad_no ha (by decide))
  · exact absurd h (sd_bad_no hb' (by decide))
theorem sx_spB {post : Int32 → SX → Prop} {v1 v2 : Int32} (hb : v1 = v2 ∨ sd_bad 5 v1 ∨ sd_bad 5 v2) (K : post (-1) (f_present, f_arcs, f_total, a_from, a_to, a_rooms, a_costs, a_balances, a_askedRoom, a_askedWeight, a_askedBalance, a_arcFrom, a_arcTo, a_arcRoom, a_arcWeight, a_distance, a_byArc)) : wpX_spare post (f_present, f_arcs, f_total, a_from, a_to, a_rooms, a_costs, a_balances, a_askedRoom, a_askedWeight, a_askedBalance, a_arcFrom, a_arcTo, a_arcRoom, a_arcWeight, a_distance, a_byArc) v1 v2 := by
  unfold wpX_spare
  refine sx_place (fun _ => br_t rfl K) (fun a ha e1 => br_f (by decide) ?_)
  refine sx_place (fun _ => br_t rfl K) (fun b hb' e2 => br_f (by decide) ?_)
  refine br_c (fun _ => K) (fun h12 => ?_)
  subst e1 e2
  rcases hb with h | h | h
  · exact absurd h h12
  · exact absurd h (sd_bad_no ha (by decide))
  · exact absurd h (sd_bad_no hb' (by decide))
end
section
variable {f_leastCost : Int32} {f_mostCost : Int32} {f_ways : Int32} {a_there : Nat → Int32} {a_as : Nat → Int32} {a_bs : Nat → Int32} {a_rooms : Nat → Int32} {a_costs : Nat → Int32} {a_balances : Nat → Int32} {a_nums : Nat → Int32} {a_extra : Nat → Int32} {a_firsts : Nat → Int32} {a_lows : Nat → Int32} {a_highs : Nat → Int32}
theorem sy_shB {post : Int32 → SY → Prop} {v1 v2 : Int32} (hb : v1 = v2 ∨ sd_bad 5 v1 ∨ sd_bad 5 v2) (K : post (-100000) (f_leastCost, f_mostCost, f_ways, a_there, a_as, a_bs, a_rooms, a_costs, a_balances, a_nums, a_extra, a_firsts, a_lows, a_highs)) : wpY_shifted post (f_leastCost, f_mostCost, f_ways, a_there, a_as, a_bs, a_rooms, a_costs, a_balances, a_nums, a_extra, a_firsts, a_lows, a_highs) v1 v2 := by
  unfold wpY_shifted
  refine br_c (fun _ => K) (fun h12 => ?_)
  refine sy_place (fun _ => br_t rfl K) (fun a ha e1 => br_f (by decide) ?_)
  refine sy_place (fun _ => br_t rfl K) (fun b hb' e2 => br_f (by decide) ?_)
  subst e1 e2
  rcases hb with h | h | h
  · exact absurd h h12
  · exact absurd h (sd_bad_no ha (by decide))
  · exact absurd h (sd_bad_no hb' (by decide))
theorem sy_spB {post : Int32 → SY → Prop} {v1 v2 : Int32} (hb : v1 = v2 ∨ sd_bad 5 v1 ∨ sd_bad 5 v2) (K : post (-1) (f_leastCost, f_mostCost, f_ways, a_there, a_as, a_bs, a_rooms, a_costs, a_balances, a_nums, a_extra, a_firsts, a_lows, a_highs)) : wpY_spare post (f_leastCost, f_mostCost, f_ways, a_there, a_as, a_bs, a_rooms, a_costs, a_balances, a_nums, a_extra, a_firsts, a_lows, a_highs) v1 v2 := by
  unfold wpY_spare
  refine br_c (fun _ => K) (fun h12 => ?_)
  refine sy_place (fun _ => br_t rfl K) (fun a ha e1 => br_f (by decide) ?_)
  refine sy_place (fun _ => br_t rfl K) (fun b hb' e2 => br_f (by decide) ?_)
  subst e1 e2
  rcases hb with h | h | h
  · exact absurd h h12
  · exact absurd h (sd_bad_no ha (by decide))
  · exact absurd h (sd_bad_no hb' (by decide))
end
theorem i_vc_shifted {k : Nat} {u : SX} {v : SY} (I : i_Rel k u v) (hk : k + 4 ≤ 2048) (v1 : Int32) (v2 : Int32) : wpX_shifted (fun r u' => wpY_shifted (fun r' v' => r' = r ∧ i_Rel (k + 4) u' v') v v1 v2) u v1 v2 := by
  refine sd_el (P := fun u v => wpX_shifted (fun r u' => wpY_shifted (fun r' v' => r' = r ∧ i_Rel (k + 4) u' v') v v1 v2) u v1 v2) ?_ I
  intro m fm tt rm cs bl a_from a_to a_rooms a_costs a_balances a_there s_arcs s_total s_askedRoom s_askedWeight s_askedBalance s_arcFrom s_arcTo s_arcRoom s_arcWeight s_distance s_byArc s_leastCost s_mostCost s_ways s_nums s_extra s_firsts s_lows s_highs hr
  by_cases hb : v1 = v2 ∨ sd_bad 5 v1 ∨ sd_bad 5 v2
  · exact sx_shB hb (sy_shB hb ⟨rfl, sd_mk _ hr _ _ _ _ _ _ _ _ _ _ _ _ _ _ _ _ _ _ _⟩)
  · obtain ⟨p, hp, e1⟩ := sd_notbad (by decide) (fun h => hb (Or.inr (Or.inl h)))
    obtain ⟨q, hq, e2⟩ := sd_notbad (by decide) (fun h => hb (Or.inr (Or.inr h)))
    subst e1 e2
    have hpq : p ≠ q := fun h => hb (Or.inl (by rw [h]))
    refine sx_shifted hr.1 hp hq hpq (fun r s_arcs s_total s_askedRoom s_askedWeight s_askedBalance s_arcFrom s_arcTo s_arcRoom s_arcWeight s_distance s_byArc hX => ?_)
    unfold wpY_shifted
    refine br_f (fun h => hb (Or.inl h)) ?_
    refine sy_place (fun h => absurd (Or.inr (Or.inl h)) hb) (fun _ _ _ => br_f (by decide) ?_)
    refine sy_place (fun h => absurd (Or.inr (Or.inr h)) hb) (fun _ _ _ => br_f (by decide) ?_)
    refine sy_search (z := 1) (H := fun _ => True) hr.1 hr.2.1 hp hq hpq ⟨by decide, by decide⟩ (Or.inl ⟨rfl, fun _ => trivial⟩) (fun lc mc wy fs lo hi nu ex fi lw hg I _ _ _ _ => ?_)
    exact ⟨sd_TN_eq hr.1.2.1 hX (fun _ => trivial) I, sd_mk _ hr _ _ _ _ _ _ _ _ _ _ _ _ _ _ _ _ _ _ _⟩
theorem i_vc_spare {k : Nat} {u : SX} {v : SY} (I : i_Rel k u v) (hk : k + 4 ≤ 2048) (v1 : Int32) (v2 : Int32) : wpX_spare (fun r u' => wpY_spare (fun r' v' => r' = r ∧ i_Rel (k + 4) u' v') v v1 v2) u v1 v2 := by
  refine sd_el (P := fun u v => wpX_spare (fun r u' => wpY_spare (fun r' v' => r' = r ∧ i_Rel (k + 4) u' v') v v1 v2) u v1 v2) ?_ I
  intro m fm tt rm cs bl a_from a_to a_rooms a_costs a_balances a_there s_arcs s_total s_askedRoom s_askedWeight s_askedBalance s_arcFrom s_arcTo s_arcRoom s_arcWeight s_distance s_byArc s_leastCost s_mostCost s_ways s_nums s_extra s_firsts s_lows s_highs hr
  have hf := hr.1.2.1
  have hcap := sd_cap_b (m := m) (N := 3) (by decide) (fun k hk => ⟨(hr.1.2.2.2.1 k hk).2.1, hr.2.2.1 k hk⟩)
  by_cases hb : v1 = v2 ∨ sd_bad 5 v1 ∨ sd_bad 5 v2
  · exact sx_spB hb (sy_spB hb ⟨rfl, sd_mk _ hr _ _ _ _ _ _ _ _ _ _ _ _ _ _ _ _ _ _ _⟩)
  · obtain ⟨p, hp, e1⟩ := sd_notbad (by decide) (fun h => hb (Or.inr (Or.inl h)))
    obtain ⟨q, hq, e2⟩ := sd_notbad (by decide) (fun h => hb (Or.inr (Or.inr h)))
    subst e1 e2
    have hpq : p ≠ q := fun h => hb (Or.inl (by rw [h]))
    refine sx_spare hr.1 hp hq hpq (fun s_arcs s_total s_askedRoom s_askedWeight s_askedBalance s_arcFrom s_arcTo s_arcRoom s_arcWeight s_distance s_byArc hc => ?_) (fun n s_arcs s_total s_askedRoom s_askedWeight s_askedBalance s_arcFrom s_arcTo s_arcRoom s_arcWeight s_distance s_byArc hx hn hFn hCn => ?_)
    · unfold wpY_spare
      refine br_f (fun h => hb (Or.inl h)) ?_
      refine sy_place (fun h => absurd (Or.inr (Or.inl h)) hb) (fun _ _ _ => br_f (by decide) ?_)
      refine sy_place (fun h => absurd (Or.inr (Or.inr h)) hb) (fun _ _ _ => br_f (by decide) ?_)
      refine sy_possible hr.1 hr.2.1 (fun r s_leastCost s_mostCost s_ways s_nums s_extra s_firsts s_lows s_highs hY => ?_)
      rcases hY with ⟨_, y, hy⟩ | ⟨e, _⟩
      · exact absurd hy (sd_Ce_no hf hc)
      · exact br_t e ⟨rfl, sd_mk _ hr _ _ _ _ _ _ _ _ _ _ _ _ _ _ _ _ _ _ _⟩
    · obtain ⟨x0, hx0⟩ := hx
      unfold wpY_spare
      refine br_f (fun h => hb (Or.inl h)) ?_
      refine sy_place (fun h => absurd (Or.inr (Or.inl h)) hb) (fun _ _ _ => br_f (by decide) ?_)
      refine sy_place (fun h => absurd (Or.inr (Or.inr h)) hb) (fun _ _ _ => br_f (by decide) ?_)
      refine sy_possible hr.1 hr.2.1 (fun r s_leastCost s_mostCost s_ways s_nums s_extra s_firsts s_lows s_highs hY => ?_)
      rcases hY with ⟨e, _⟩ | ⟨_, hno⟩
      · refine br_f (by rw [e]; decide) ?_
        refine sy_begin (fun nu hnu => ⟨78126, ?_⟩)
        refine sy_sp39 hr.1 hr.2.1 hp hq hpq (fun M nu' ex' hM0 hM1 hMax hMe => ⟨?_, sd_mk _ hr _ _ _ _ _ _ _ _ _ _ _ _ _ _ _ _ _ _ _⟩) 78126 (fun _ => 0) 0 nu _ (by decide) (fun k hk => ⟨Int.le_refl 0, (hcap k hk).1⟩) (by decide) (by decide) ?_ (Or.inl rfl) hnu
        · intro x e he hFe hl
          obtain ⟨i, hi, _, hlt⟩ := hl
          have := hFe.1 i hi
          have hlt' : x i < 0 := hlt
          omega
        · have h1 : (n : Int) ≤ M := by
            rcases hFn with h | ⟨x, hx⟩
            · omega
            · by_cases z : n = 0
              · omega
              · exact hMax x n (by omega) hx
          have h2 : M ≤ (n : Int) := by
            by_cases z : M ≤ (n : Int)
            · exact z
            · exfalso
              rcases hMe with h | ⟨y, hy⟩
              · omega
              · have b21 := sd_21 hp hpq (fun k hk => (hcap k hk).2) hx0 hy
                rcases hCn with h | h
                · omega
                · exact sd_cvx hf hp hq hpq (m := ((n + 1 : Nat) : Int)) (N := M) (by omega) (by omega) hx0 hy h
          show sd_i M = nI n
          rw [sd_iN]; apply congrArg; omega
      · exact absurd hx0 (hno x0)
end
