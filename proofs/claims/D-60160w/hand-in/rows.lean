section
/-! pasted families of kit/laws (COUNTS: sums, signed ints; NUMBERS: order, literals, stores) -/
/-! ===== sums over a range: one place changed, parts, bounds ===== -/
def fb_sm (f : Nat → Nat) : Nat → Nat
  | 0 => 0
  | n + 1 => fb_sm f n + f n
theorem fb_sm_succ (f : Nat → Nat) (n : Nat) : fb_sm f (n + 1) = fb_sm f n + f n := rfl
theorem fb_sm_cong {f g : Nat → Nat} : ∀ {n : Nat}, (∀ k, k < n → f k = g k) → fb_sm f n = fb_sm g n
  | 0, _ => rfl
  | n + 1, h => by rw [fb_sm_succ, fb_sm_succ, fb_sm_cong (fun k hk => h k (by omega)), h n (by omega)]
theorem fb_sm_out (f : Nat → Nat) (v : Nat) {i n : Nat} (h : n ≤ i) : fb_sm (fun k => if k = i then v else f k) n = fb_sm f n :=
  fb_sm_cong fun k hk => if_neg (by omega)
theorem fb_sm_upd (f : Nat → Nat) (v : Nat) {i : Nat} : ∀ {n : Nat}, i < n → fb_sm (fun k => if k = i then v else f k) n + f i = fb_sm f n + v
  | 0, h => absurd h (Nat.not_lt_zero i)
  | n + 1, h => by
    rw [fb_sm_succ, fb_sm_succ]
    rcases Nat.lt_or_ge i n with q | q
    · have := fb_sm_upd f v q
      have e : (if n = i then v else f n) = f n := if_neg (by omega)
      rw [e]
      omega
    · have e : i = n := by omega
      subst e
      rw [fb_sm_out f v (Nat.le_refl _)]
      simp only [if_true]
      omega
theorem fb_sm_add (f g : Nat → Nat) : ∀ n, fb_sm (fun k => f k + g k) n = fb_sm f n + fb_sm g n
  | 0 => rfl
  | n + 1 => by
    have h := fb_sm_add f g n
    rw [fb_sm_succ, fb_sm_succ, fb_sm_succ, h]
    omega
theorem fb_sm_le {f g : Nat → Nat} : ∀ {n : Nat}, (∀ k, k < n → f k ≤ g k) → fb_sm f n ≤ fb_sm g n
  | 0, _ => Nat.le_refl _
  | n + 1, h => by
    have h1 := fb_sm_le (n := n) (f := f) (g := g) (fun k hk => h k (by omega))
    have h2 := h n (by omega)
    rw [fb_sm_succ, fb_sm_succ]
    omega
theorem fb_sm_const (c : Nat) : ∀ n, fb_sm (fun _ => c) n = n * c
  | 0 => by rw [Nat.zero_mul]; rfl
  | n + 1 => by rw [fb_sm_succ, fb_sm_const c n, Nat.succ_mul]
theorem fb_sm_bound {f : Nat → Nat} {c n : Nat} (h : ∀ k, k < n → f k ≤ c) : fb_sm f n ≤ n * c := by
  rw [← fb_sm_const c n]
  exact fb_sm_le h
theorem fb_sm_mono (f : Nat → Nat) (m : Nat) : ∀ n, fb_sm f m ≤ fb_sm f (m + n)
  | 0 => Nat.le_refl _
  | n + 1 => by
    have h := fb_sm_mono f m n
    show fb_sm f m ≤ fb_sm f (m + n + 1)
    rw [fb_sm_succ]
    omega
theorem fb_sm_part (f : Nat → Nat) {i n : Nat} (h : i < n) : fb_sm f i + f i ≤ fb_sm f n := by
  have := fb_sm_mono f (i + 1) (n - (i + 1))
  rw [fb_sm_succ, show i + 1 + (n - (i + 1)) = n by omega] at this
  exact this
theorem fb_sm_split (f : Nat → Nat) (m : Nat) : ∀ n, fb_sm f (m + n) = fb_sm f m + fb_sm (fun k => f (m + k)) n
  | 0 => rfl
  | n + 1 => by
    have h := fb_sm_split f m n
    show fb_sm f (m + n + 1) = _
    rw [fb_sm_succ, fb_sm_succ, h, Nat.add_assoc]
theorem fb_sm_zero {f : Nat → Nat} {n : Nat} (h : fb_sm f n = 0) : ∀ k, k < n → f k = 0 := fun k hk => by
  have := fb_sm_part f hk
  omega
/-- the same over whole numbers -/
def fb_si (f : Nat → Int) : Nat → Int
  | 0 => 0
  | n + 1 => fb_si f n + f n
theorem fb_si_succ (f : Nat → Int) (n : Nat) : fb_si f (n + 1) = fb_si f n + f n := rfl
theorem fb_si_cong {f g : Nat → Int} : ∀ {n : Nat}, (∀ k, k < n → f k = g k) → fb_si f n = fb_si g n
  | 0, _ => rfl
  | n + 1, h => by rw [fb_si_succ, fb_si_succ, fb_si_cong (fun k hk => h k (by omega)), h n (by omega)]
theorem fb_si_out (f : Nat → Int) (v : Int) {i n : Nat} (h : n ≤ i) : fb_si (fun k => if k = i then v else f k) n = fb_si f n :=
  fb_si_cong fun k hk => if_neg (by omega)
theorem fb_si_upd (f : Nat → Int) (v : Int) {i : Nat} : ∀ {n : Nat}, i < n → fb_si (fun k => if k = i then v else f k) n = fb_si f n - f i + v
  | 0, h => absurd h (Nat.not_lt_zero i)
  | n + 1, h => by
    rw [fb_si_succ, fb_si_succ]
    rcases Nat.lt_or_ge i n with q | q
    · have := fb_si_upd f v q
      have e : (if n = i then v else f n) = f n := if_neg (by omega)
      rw [e]
      omega
    · have e : i = n := by omega
      subst e
      rw [fb_si_out f v (Nat.le_refl _)]
      simp only [if_true]
      omega
theorem fb_si_add (f g : Nat → Int) : ∀ n, fb_si (fun k => f k + g k) n = fb_si f n + fb_si g n
  | 0 => rfl
  | n + 1 => by
    have h := fb_si_add f g n
    rw [fb_si_succ, fb_si_succ, fb_si_succ, h]
    omega
theorem fb_si_sub (f g : Nat → Int) : ∀ n, fb_si (fun k => f k - g k) n = fb_si f n - fb_si g n
  | 0 => rfl
  | n + 1 => by
    have h := fb_si_sub f g n
    rw [fb_si_succ, fb_si_succ, fb_si_succ, h]
    omega
theorem fb_si_mul (c : Int) (f : Nat → Int) : ∀ n, fb_si (fun k => c * f k) n = c * fb_si f n
  | 0 => (Int.mul_zero c).symm
  | n + 1 => by
    have h := fb_si_mul c f n
    rw [fb_si_succ, fb_si_succ, h, Int.mul_add]
theorem fb_si_split (f : Nat → Int) (m : Nat) : ∀ n, fb_si f (m + n) = fb_si f m + fb_si (fun k => f (m + k)) n
  | 0 => (Int.add_zero _).symm
  | n + 1 => by
    have h := fb_si_split f m n
    show fb_si f (m + n + 1) = _
    rw [fb_si_succ, fb_si_succ, h, Int.add_assoc]
theorem fb_si_nat (f : Nat → Nat) : ∀ n, fb_si (fun k => (f k : Int)) n = (fb_sm f n : Int)
  | 0 => rfl
  | n + 1 => by
    have h := fb_si_nat f n
    rw [fb_si_succ, fb_sm_succ, h]
    omega
theorem fb_si_bound {f : Nat → Int} {c : Int} (hc : 0 ≤ c) : ∀ {n : Nat}, (∀ k, k < n → -c ≤ f k ∧ f k ≤ c) → -(n * c) ≤ fb_si f n ∧ fb_si f n ≤ n * c
  | 0, _ => by simp [fb_si]
  | n + 1, h => by
    have h1 := fb_si_bound (n := n) (f := f) hc (fun k hk => h k (by omega))
    have h2 := h n (by omega)
    have e : ((n + 1 : Nat) : Int) * c = n * c + c := by rw [Int.natCast_add, Int.add_mul]; simp
    rw [fb_si_succ, e]
    omega
/-! ===== signed ints as whole numbers, within bounds ===== -/
theorem fb_rng (x : Int32) : -2147483648 ≤ x.toInt ∧ x.toInt < 2147483648 := by
  have h1 := Int32.le_toInt x
  have h2 := Int32.toInt_lt x
  omega
theorem fb_bmod {z : Int} (h1 : -2147483648 ≤ z) (h2 : z < 2147483648) : z.bmod (2 ^ 32) = z := by
  rw [Int.bmod_eq_of_le (by omega) (by omega)]
theorem fb_addI {x y : Int32} (h1 : -2147483648 ≤ x.toInt + y.toInt) (h2 : x.toInt + y.toInt < 2147483648) : (x + y).toInt = x.toInt + y.toInt := by
  rw [Int32.toInt_add, fb_bmod h1 h2]
theorem fb_subI {x y : Int32} (h1 : -2147483648 ≤ x.toInt - y.toInt) (h2 : x.toInt - y.toInt < 2147483648) : (x - y).toInt = x.toInt - y.toInt := by
  rw [Int32.toInt_sub, fb_bmod h1 h2]
theorem fb_mulI {x y : Int32} (h1 : -2147483648 ≤ x.toInt * y.toInt) (h2 : x.toInt * y.toInt < 2147483648) : (x * y).toInt = x.toInt * y.toInt := by
  rw [Int32.toInt_mul, fb_bmod h1 h2]
theorem fb_negI {x : Int32} (h : x.toInt ≠ -2147483648) : (-x).toInt = -x.toInt := by
  have := fb_rng x
  rw [Int32.toInt_neg, fb_bmod (by omega) (by omega)]
theorem fb_ofI {z : Int} (h1 : -2147483648 ≤ z) (h2 : z < 2147483648) : (Int32.ofInt z).toInt = z := by
  rw [Int32.toInt_ofInt, fb_bmod h1 h2]
theorem fb_asI (x : Int32) : Int32.ofInt x.toInt = x := Int32.ofInt_toInt x
theorem fb_rngL (x : Int64) : -9223372036854775808 ≤ x.toInt ∧ x.toInt < 9223372036854775808 := by
  have h1 := Int64.le_toInt x
  have h2 := Int64.toInt_lt x
  omega
theorem fb_bmodL {z : Int} (h1 : -9223372036854775808 ≤ z) (h2 : z < 9223372036854775808) : z.bmod (2 ^ 64) = z := by
  rw [Int.bmod_eq_of_le (by omega) (by omega)]
theorem fb_addL {x y : Int64} (h1 : -9223372036854775808 ≤ x.toInt + y.toInt) (h2 : x.toInt + y.toInt < 9223372036854775808) : (x + y).toInt = x.toInt + y.toInt := by
  rw [Int64.toInt_add, fb_bmodL h1 h2]
theorem fb_subL {x y : Int64} (h1 : -9223372036854775808 ≤ x.toInt - y.toInt) (h2 : x.toInt - y.toInt < 9223372036854775808) : (x - y).toInt = x.toInt - y.toInt := by
  rw [Int64.toInt_sub, fb_bmodL h1 h2]
theorem fb_mulL {x y : Int64} (h1 : -9223372036854775808 ≤ x.toInt * y.toInt) (h2 : x.toInt * y.toInt < 9223372036854775808) : (x * y).toInt = x.toInt * y.toInt := by
  rw [Int64.toInt_mul, fb_bmodL h1 h2]
/-! ===== order of ints, in all its forms, and through longs ===== -/
theorem fa_lt (a b : Int32) : a < b ↔ a.toInt < b.toInt := Int32.lt_iff_toInt_lt
theorem fa_le (a b : Int32) : a ≤ b ↔ a.toInt ≤ b.toInt := Int32.le_iff_toInt_le
theorem fa_eq (a b : Int32) : a = b ↔ a.toInt = b.toInt := Int32.toInt_inj.symm
theorem fa_lt64 (a b : Int64) : a < b ↔ a.toInt < b.toInt := Int64.lt_iff_toInt_lt
theorem fa_le64 (a b : Int64) : a ≤ b ↔ a.toInt ≤ b.toInt := Int64.le_iff_toInt_le
theorem fa_eq64 (a b : Int64) : a = b ↔ a.toInt = b.toInt := Int64.toInt_inj.symm
/-- a comparison of two ints taken as longs -/
theorem fa_wide_lt (a b : Int32) : a.toInt64 < b.toInt64 ↔ a < b := by rw [fa_lt64, fa_lt, Int32.toInt_toInt64, Int32.toInt_toInt64]
theorem fa_wide_le (a b : Int32) : a.toInt64 ≤ b.toInt64 ↔ a ≤ b := by rw [fa_le64, fa_le, Int32.toInt_toInt64, Int32.toInt_toInt64]
theorem fa_wide_eq (a b : Int32) : a.toInt64 = b.toInt64 ↔ a = b := by rw [fa_eq64, fa_eq, Int32.toInt_toInt64, Int32.toInt_toInt64]
/-- one strict comparison gives all the others -/
theorem fa_of_lt {a b : Int32} (h : a < b) : a ≤ b ∧ ¬ b ≤ a ∧ ¬ b < a ∧ a ≠ b ∧ b ≠ a := by
  rw [fa_lt] at h
  refine ⟨?_, ?_, ?_, ?_, ?_⟩
  · rw [fa_le]; omega
  · rw [fa_le]; omega
  · rw [fa_lt]; omega
  · intro e; rw [fa_eq] at e; omega
  · intro e; rw [fa_eq] at e; omega
theorem fa_of_nlt {a b : Int32} (h : ¬ a < b) : b ≤ a := by
  rw [fa_lt] at h
  rw [fa_le]
  omega
theorem fa_of_nle {a b : Int32} (h : ¬ a ≤ b) : b < a := by
  rw [fa_le] at h
  rw [fa_lt]
  omega
theorem fa_le_ne {a b : Int32} (h : a ≤ b) (h2 : a ≠ b) : a < b := by
  rw [fa_le] at h
  rw [fa_lt]
  have h3 : a.toInt ≠ b.toInt := fun e => h2 ((fa_eq a b).mpr e)
  omega
theorem fa_three (a b : Int32) : a < b ∨ a = b ∨ b < a := by
  rw [fa_lt, fa_lt, fa_eq]
  omega
theorem fa_trans {a b c : Int32} (h : a < b) (h2 : b ≤ c) : a < c := by
  rw [fa_lt] at *
  rw [fa_le] at h2
  omega
/-! ===== small literals as numbers ===== -/
theorem fa_lit (n : Nat) : (OfNat.ofNat n : Int32) = nI n := rfl
theorem fa_litL (n : Nat) : (OfNat.ofNat n : Int64) = lN n := rfl
/-! ===== an array behind i stores, a conditional store, a row copied ===== -/
/-- f where k < i, what stood there else -/
def fa_fill {α : Type} (f g : Nat → α) (i : Nat) : Nat → α := fun k => if k < i then f k else g k
theorem fa_fill_0 {α : Type} (f g : Nat → α) : fa_fill f g 0 = g := funext fun k => if_neg (Nat.not_lt_zero k)
theorem fa_fill_in {α : Type} {f g : Nat → α} {i k : Nat} (h : k < i) : fa_fill f g i k = f k := if_pos h
theorem fa_fill_out {α : Type} {f g : Nat → α} {i k : Nat} (h : i ≤ k) : fa_fill f g i k = g k := if_neg (Nat.not_lt.mpr h)
theorem fa_fill_succ (f g : Nat → Int32) (i : Nat) : upd (fa_fill f g i) i (f i) = fa_fill f g (i + 1) := by
  funext k
  by_cases e : k = i
  · subst e
    rw [pk_us]
    exact (if_pos (Nat.lt_succ_self k)).symm
  · rw [pk_un e]
    by_cases h : k < i
    · rw [fa_fill_in h, fa_fill_in (Nat.lt_succ_of_lt h)]
    · rw [fa_fill_out (Nat.le_of_not_lt h), fa_fill_out (by omega)]
/-- a store that changes nothing -/
theorem fa_upd_same {f : Nat → Int32} {i : Nat} {x : Int32} (h : f i = x) : upd f i x = f := by
  funext k
  by_cases e : k = i
  · subst e
    rw [pk_us, h]
  · rw [pk_un e]
/-- a store under a condition, told as one -/
theorem fa_upd_if (c : Prop) [Decidable c] (f : Nat → Int32) (i : Nat) (x : Int32) : (if c then upd f i x else f) = upd f i (if c then x else f i) := by
  by_cases h : c
  · rw [if_pos h, if_pos h]
  · rw [if_neg h, if_neg h, fa_upd_same rfl]
/-- two stores at one place, at two -/
theorem fa_upd_twice (f : Nat → Int32) (i : Nat) (x y : Int32) : upd (upd f i x) i y = upd f i y := by
  funext k
  by_cases e : k = i
  · subst e
    rw [pk_us, pk_us]
  · rw [pk_un e, pk_un e, pk_un e]
theorem fa_upd_swap (f : Nat → Int32) {i j : Nat} (h : i ≠ j) (x y : Int32) : upd (upd f i x) j y = upd (upd f j y) i x := by
  funext k
  by_cases e : k = i
  · subst e
    rw [pk_un h, pk_us, pk_us]
  · by_cases e2 : k = j
    · subst e2
      rw [pk_us, pk_un e, pk_us]
    · rw [pk_un e2, pk_un e, pk_un e, pk_un e2]
end
section
/-! PURE: sums of whole numbers over ranges and grids -/
theorem gs_rev (f : Nat → Int) : ∀ n : Nat, fb_si (fun k => f (n - k)) (n + 1) = fb_si f (n + 1)
  | 0 => rfl
  | n + 1 => by
    have h := gs_rev f n
    have e := fb_si_split (fun k => f (n + 1 - k)) 1 (n + 1)
    rw [show 1 + (n + 1) = n + 1 + 1 by omega] at e
    rw [e, fb_si_succ f (n + 1), ← h]
    have e1 : fb_si (fun k => f (n + 1 - k)) 1 = f (n + 1) := by
      show (0 : Int) + f (n + 1 - 0) = f (n + 1)
      rw [Int.zero_add, Nat.sub_zero]
    have e2 : fb_si (fun k => f (n + 1 - (1 + k))) (n + 1) = fb_si (fun k => f (n - k)) (n + 1) :=
      fb_si_cong fun k hk => by rw [show n + 1 - (1 + k) = n - k by omega]
    rw [e1, e2, Int.add_comm]
theorem gs_zero {f : Nat → Int} : ∀ {n : Nat}, (∀ k, k < n → f k = 0) → fb_si f n = 0
  | 0, _ => rfl
  | n + 1, h => by
    rw [fb_si_succ, gs_zero (fun k hk => h k (by omega)), h n (by omega)]
    rfl
theorem gs_const (c : Int) : ∀ n : Nat, fb_si (fun _ => c) n = n * c
  | 0 => by simp [fb_si]
  | n + 1 => by
    rw [fb_si_succ, gs_const c n, Int.natCast_add, Int.add_mul]
    simp
/-- one place alone -/
theorem gs_delta {a : Nat} (v : Int) : ∀ {n : Nat}, a < n → fb_si (fun k => if k = a then v else 0) n = v
  | 0, h => absurd h (Nat.not_lt_zero a)
  | n + 1, h => by
    rw [fb_si_succ]
    rcases Nat.lt_or_ge a n with q | q
    · rw [gs_delta v q, if_neg (by omega), Int.add_zero]
    · have e : a = n := by omega
      subst e
      rw [if_pos rfl, gs_zero (fun k hk => if_neg (by omega)), Int.zero_add]
theorem gs_swap (f : Nat → Nat → Int) (n : Nat) : ∀ m : Nat, fb_si (fun i => fb_si (fun j => f i j) n) m = fb_si (fun j => fb_si (fun i => f i j) m) n
  | 0 => (gs_zero fun _ _ => rfl).symm
  | m + 1 => by
    rw [fb_si_succ, gs_swap f n m, ← fb_si_add]
    exact fb_si_cong fun k _ => (fb_si_succ _ _).symm
theorem gs_le {f g : Nat → Int} : ∀ {n : Nat}, (∀ k, k < n → f k ≤ g k) → fb_si f n ≤ fb_si g n
  | 0, _ => Int.le_refl _
  | n + 1, h => by
    have h1 := gs_le (n := n) (f := f) (g := g) (fun k hk => h k (by omega))
    have h2 := h n (by omega)
    rw [fb_si_succ, fb_si_succ]
    omega
/-- a grid of 32 by 32 -/
def gg (f : Nat → Nat → Int) : Int := fb_si (fun p => fb_si (fun q => f p q) 32) 32
theorem gg_cong {f g : Nat → Nat → Int} (h : ∀ p q, p < 32 → q < 32 → f p q = g p q) : gg f = gg g :=
  fb_si_cong fun p hp => fb_si_cong fun q hq => h p q hp hq
theorem gg_add (f g : Nat → Nat → Int) : gg (fun p q => f p q + g p q) = gg f + gg g := by
  unfold gg
  rw [← fb_si_add]
  exact fb_si_cong fun p _ => fb_si_add _ _ _
theorem gg_sub (f g : Nat → Nat → Int) : gg (fun p q => f p q - g p q) = gg f - gg g := by
  unfold gg
  rw [← fb_si_sub]
  exact fb_si_cong fun p _ => fb_si_sub _ _ _
theorem gg_mul (c : Int) (f : Nat → Nat → Int) : gg (fun p q => c * f p q) = c * gg f := by
  unfold gg
  rw [← fb_si_mul]
  exact fb_si_cong fun p _ => fb_si_mul _ _ _
theorem gg_le {f g : Nat → Nat → Int} (h : ∀ p q, p < 32 → q < 32 → f p q ≤ g p q) : gg f ≤ gg g :=
  gs_le fun p hp => gs_le fun q hq => h p q hp hq
theorem gg_zero {f : Nat → Nat → Int} (h : ∀ p q, p < 32 → q < 32 → f p q = 0) : gg f = 0 :=
  gs_zero fun p hp => gs_zero fun q hq => h p q hp hq
/-- one point of the grid alone -/
theorem gg_delta {a b : Nat} (v : Int) (ha : a < 32) (hb : b < 32) : gg (fun p q => if p = a ∧ q = b then v else 0) = v := by
  have h : ∀ p, p < 32 → fb_si (fun q => if p = a ∧ q = b then v else 0) 32 = if p = a then v else 0 := by
    intro p _
    by_cases e : p = a
    · rw [if_pos e]
      have h2 : fb_si (fun q => if p = a ∧ q = b then v else 0) 32 = fb_si (fun q => if q = b then v else 0) 32 := fb_si_cong fun q _ => by
        by_cases e2 : q = b
        · rw [if_pos ⟨e, e2⟩, if_pos e2]
        · rw [if_neg (fun h => e2 h.2), if_neg e2]
      rw [h2, gs_delta v hb]
    · rw [if_neg e]
      exact gs_zero fun q _ => if_neg (fun h => e h.1)
  unfold gg
  rw [fb_si_cong h, gs_delta v ha]
/-- a set of grid points that is enumerated by t < n, none twice -/
theorem gg_enum (u v : Nat → Nat) : ∀ n : Nat, (∀ t, t < n → u t < 32 ∧ v t < 32) → (∀ s t, s < t → t < n → ¬ (u s = u t ∧ v s = v t)) →
    ∀ (P : Nat → Nat → Prop) [∀ p q, Decidable (P p q)], (∀ p q, p < 32 → q < 32 → (P p q ↔ ∃ t, t < n ∧ p = u t ∧ q = v t)) → gg (fun p q => if P p q then 1 else 0) = n := by
  intro n
  induction n with
  | zero =>
    intro _ _ P _ hP
    exact gg_zero fun p q hp hq => if_neg fun h => by
      obtain ⟨t, ht, _⟩ := (hP p q hp hq).mp h
      exact Nat.not_lt_zero t ht
  | succ n ih =>
    intro hr hi P _ hP
    have hdec : ∀ p q, Decidable (∃ t, t < n ∧ p = u t ∧ q = v t) := fun p q => Classical.propDecidable _
    have h1 := ih (fun t ht => hr t (by omega)) (fun s t hst ht => hi s t hst (by omega)) (fun p q => ∃ t, t < n ∧ p = u t ∧ q = v t) (fun p q _ _ => Iff.rfl)
    have h2 := gg_delta 1 (hr n (by omega)).1 (hr n (by omega)).2
    have h3 : gg (fun p q => if P p q then 1 else 0) = gg (fun p q => (if (∃ t, t < n ∧ p = u t ∧ q = v t) then 1 else 0) + (if p = u n ∧ q = v n then 1 else 0)) := by
      refine gg_cong fun p q hp hq => ?_
      by_cases a : p = u n ∧ q = v n
      · have b : ¬ ∃ t, t < n ∧ p = u t ∧ q = v t := fun ⟨t, ht, e1, e2⟩ => hi t n ht (by omega) ⟨by rw [← e1, a.1], by rw [← e2, a.2]⟩
        rw [if_pos a, if_neg b, if_pos ((hP p q hp hq).mpr ⟨n, by omega, a⟩)]
        rfl
      · by_cases b : ∃ t, t < n ∧ p = u t ∧ q = v t
        · obtain ⟨t, ht, e⟩ := id b
          rw [if_neg a, if_pos b, if_pos ((hP p q hp hq).mpr ⟨t, by omega, e⟩)]
          rfl
        · have d : ¬ P p q := fun h => by
            obtain ⟨t, ht, e⟩ := (hP p q hp hq).mp h
            rcases Nat.lt_or_ge t n with z | z
            · exact b ⟨t, z, e⟩
            · have e3 : t = n := by omega
              subst e3
              exact a e
          rw [if_neg a, if_neg b, if_neg d]
          rfl
    rw [h3, gg_add, h1, h2]
    rfl
end
section
/-! PURE: points of the grid on a segment: gcd + 1 -/
/-- the turn of (p, q) at the line from (x1, y1) to (x2, y2) -/
def gT (x1 y1 x2 y2 p q : Int) : Int := (x2 - x1) * (q - y1) - (y2 - y1) * (p - x1)
/-- (p, q) lies on the segment -/
abbrev gOn (x1 y1 x2 y2 p q : Int) : Prop := gT x1 y1 x2 y2 p q = 0 ∧ (p - x1) * (p - x2) ≤ 0 ∧ (q - y1) * (q - y2) ≤ 0
theorem gi_sq (a : Int) : 0 ≤ a * a := by
  rcases Int.le_total 0 a with h | h
  · exact Int.mul_nonneg h h
  · exact Int.mul_nonneg_of_nonpos_of_nonpos h h
theorem gi_sq_pos {a : Int} (h : a ≠ 0) : 0 < a * a := by
  rcases Int.lt_or_gt_of_ne h with q | q
  · exact Int.mul_pos_of_neg_of_neg q q
  · exact Int.mul_pos q q
theorem gi_le_of_mul {a b : Int} (ha : 0 < a) (h : a * b ≤ 0) : b ≤ 0 := by
  rcases Int.lt_or_le 0 b with q | q
  · have := Int.mul_pos ha q
    omega
  · exact q
/-- between, told by a product and by order -/
theorem gi_btw {p a b : Int} : (p - a) * (p - b) ≤ 0 ↔ (a ≤ p ∧ p ≤ b) ∨ (b ≤ p ∧ p ≤ a) := by
  constructor
  · intro h
    rcases Int.lt_or_le p a with h1 | h1
    · rcases Int.lt_or_le p b with h2 | h2
      · have := Int.mul_pos_of_neg_of_neg (show p - a < 0 by omega) (show p - b < 0 by omega)
        omega
      · exact Or.inr ⟨h2, by omega⟩
    · rcases Int.lt_or_le b p with h2 | h2
      · rcases Int.lt_or_le a p with h3 | h3
        · have := Int.mul_pos (show 0 < p - a by omega) (show 0 < p - b by omega)
          omega
        · exact Or.inr ⟨by omega, h3⟩
      · exact Or.inl ⟨h1, h2⟩
  · rintro (⟨h1, h2⟩ | ⟨h1, h2⟩)
    · exact Int.mul_nonpos_of_nonneg_of_nonpos (by omega) (by omega)
    · exact Int.mul_nonpos_of_nonpos_of_nonneg (by omega) (by omega)
theorem gi_copr {a b X Y : Int} (hab : Int.gcd a b = 1) (h : a * Y = b * X) : ∃ t : Int, X = t * a ∧ Y = t * b := by
  have hd : a ∣ b * X := ⟨Y, h.symm⟩
  have hn : a.natAbs ∣ b.natAbs * X.natAbs := by
    rw [← Int.natAbs_mul]
    exact Int.natAbs_dvd_natAbs.mpr hd
  have hc : Nat.Coprime a.natAbs b.natAbs := hab
  obtain ⟨t, ht⟩ := Int.natAbs_dvd_natAbs.mp (hc.dvd_of_dvd_mul_left hn)
  by_cases ha : a = 0
  · subst ha
    have hb : b.natAbs = 1 := by
      have := hab
      rwa [Int.gcd_zero_left] at this
    have hX : X = 0 := by rw [ht, Int.zero_mul]
    rcases (show b = 1 ∨ b = -1 by omega) with e | e
    · exact ⟨Y, by rw [hX, Int.mul_zero], by rw [e, Int.mul_one]⟩
    · exact ⟨-Y, by rw [hX, Int.mul_zero], by rw [e]; omega⟩
  · refine ⟨t, by rw [ht, Int.mul_comm], ?_⟩
    apply Int.eq_of_mul_eq_mul_left ha
    rw [h, ht]
    grind
theorem gi_on {x1 y1 a b g p q : Int} (hg : 0 < g) (hab : Int.gcd a b = 1) : gOn x1 y1 (x1 + g * a) (y1 + g * b) p q ↔ ∃ t : Int, 0 ≤ t ∧ t ≤ g ∧ p = x1 + t * a ∧ q = y1 + t * b := by
  constructor
  · rintro ⟨hT, hx, hy⟩
    have h1 : g * (a * (q - y1) - b * (p - x1)) = 0 := by
      have e : gT x1 y1 (x1 + g * a) (y1 + g * b) p q = g * (a * (q - y1) - b * (p - x1)) := by unfold gT; grind
      rw [← e]; exact hT
    have h2 : a * (q - y1) = b * (p - x1) := by
      rcases Int.mul_eq_zero.mp h1 with z | z
      · omega
      · omega
    obtain ⟨t, e1, e2⟩ := gi_copr hab h2
    have ex : (a * a) * (t * (t - g)) ≤ 0 := by
      have e : (p - x1) * (p - (x1 + g * a)) = (a * a) * (t * (t - g)) := by
        have e3 : p - (x1 + g * a) = t * a - g * a := by omega
        rw [e1, e3]; grind
      rw [← e]; exact hx
    have ey : (b * b) * (t * (t - g)) ≤ 0 := by
      have e : (q - y1) * (q - (y1 + g * b)) = (b * b) * (t * (t - g)) := by
        have e3 : q - (y1 + g * b) = t * b - g * b := by omega
        rw [e2, e3]; grind
      rw [← e]; exact hy
    have ht : t * (t - g) ≤ 0 := by
      by_cases ha : a = 0
      · by_cases hb : b = 0
        · subst ha; subst hb
          simp at hab
        · exact gi_le_of_mul (gi_sq_pos hb) ey
      · exact gi_le_of_mul (gi_sq_pos ha) ex
    have hb : (t - 0) * (t - g) ≤ 0 := by rw [Int.sub_zero]; exact ht
    rcases gi_btw.mp hb with ⟨z1, z2⟩ | ⟨z1, z2⟩
    · exact ⟨t, z1, z2, by omega, by omega⟩
    · exact ⟨t, by omega, by omega, by omega, by omega⟩
  · rintro ⟨t, h0, h1, rfl, rfl⟩
    have ht : t * (t - g) ≤ 0 := Int.mul_nonpos_of_nonneg_of_nonpos h0 (by omega)
    refine ⟨by unfold gT; grind, ?_, ?_⟩
    · have e : (x1 + t * a - x1) * (x1 + t * a - (x1 + g * a)) = (a * a) * (t * (t - g)) := by grind
      rw [e]
      exact Int.mul_nonpos_of_nonneg_of_nonpos (gi_sq a) ht
    · have e : (y1 + t * b - y1) * (y1 + t * b - (y1 + g * b)) = (b * b) * (t * (t - g)) := by grind
      rw [e]
      exact Int.mul_nonpos_of_nonneg_of_nonpos (gi_sq b) ht
theorem gi_lin {x1 a g t : Int} (h0 : 0 ≤ t) (h1 : t ≤ g) (a0 : 0 ≤ x1) (a1 : x1 ≤ 31) (b0 : 0 ≤ x1 + g * a) (b1 : x1 + g * a ≤ 31) : 0 ≤ x1 + t * a ∧ x1 + t * a ≤ 31 := by
  rcases Int.le_total 0 a with h | h
  · have z1 := Int.mul_nonneg h0 h
    have z2 := Int.mul_le_mul_of_nonneg_right h1 h
    omega
  · have z1 := Int.mul_nonpos_of_nonneg_of_nonpos h0 h
    have z2 := Int.mul_le_mul_of_nonpos_right h1 h
    omega
/-- how many points of the grid lie on a segment between two of its points -/
theorem gi_side {x1 y1 x2 y2 : Int} (a1 : 0 ≤ x1 ∧ x1 ≤ 31) (a2 : 0 ≤ y1 ∧ y1 ≤ 31) (a3 : 0 ≤ x2 ∧ x2 ≤ 31) (a4 : 0 ≤ y2 ∧ y2 ≤ 31) :
    gg (fun p q => if gOn x1 y1 x2 y2 p q then 1 else 0) = (Int.gcd (x2 - x1) (y2 - y1) : Int) + 1 := by
  obtain ⟨g, hg⟩ : ∃ g : Nat, g = Int.gcd (x2 - x1) (y2 - y1) := ⟨_, rfl⟩
  rcases Nat.eq_zero_or_pos g with z | z
  · have hz : Int.gcd (x2 - x1) (y2 - y1) = 0 := by rw [← hg]; exact z
    obtain ⟨z1, z2⟩ := Int.gcd_eq_zero_iff.mp hz
    have e1 : x2 = x1 := by omega
    have e2 : y2 = y1 := by omega
    subst e1; subst e2
    rw [hz]
    have h := gg_delta (a := x2.toNat) (b := y2.toNat) 1 (by omega) (by omega)
    have h2 : gg (fun p q => if gOn x2 y2 x2 y2 p q then 1 else 0) = gg (fun p q => if p = x2.toNat ∧ q = y2.toNat then 1 else 0) := by
      refine gg_cong fun p q _ _ => ?_
      have hh : gOn x2 y2 x2 y2 p q ↔ p = x2.toNat ∧ q = y2.toNat := by
        constructor
        · rintro ⟨-, hx, hy⟩
          rcases gi_btw.mp hx with u | u
          · rcases gi_btw.mp hy with v | v
            · omega
            · omega
          · rcases gi_btw.mp hy with v | v
            · omega
            · omega
        · rintro ⟨hx, hy⟩
          have ex : (p : Int) = x2 := by omega
          have ey : (q : Int) = y2 := by omega
          rw [ex, ey]
          refine ⟨by unfold gT; simp, by simp, by simp⟩
      by_cases c : gOn x2 y2 x2 y2 p q
      · rw [if_pos c, if_pos (hh.mp c)]
      · rw [if_neg c, if_neg (fun k => c (hh.mpr k))]
    rw [h2, h]
    rfl
  · obtain ⟨a, ha⟩ := Int.gcd_dvd_left (x2 - x1) (y2 - y1)
    obtain ⟨b, hb⟩ := Int.gcd_dvd_right (x2 - x1) (y2 - y1)
    rw [← hg] at ha hb ⊢
    have hab : Int.gcd a b = 1 := by
      have e := Int.gcd_mul_left (g : Int) a b
      rw [← ha, ← hb, ← hg] at e
      have e2 : (g : Int).natAbs = g := Int.natAbs_natCast g
      rw [e2] at e
      exact (Nat.eq_of_mul_eq_mul_left z (by rw [Nat.mul_one]; exact e)).symm
    have ex2 : x2 = x1 + g * a := by omega
    have ey2 : y2 = y1 + g * b := by omega
    have hgp : (0 : Int) < g := by omega
    have rng : ∀ t : Nat, t < g + 1 → (0 ≤ x1 + t * a ∧ x1 + t * a ≤ 31) ∧ (0 ≤ y1 + t * b ∧ y1 + t * b ≤ 31) := fun t ht =>
      ⟨gi_lin (g := g) (by omega) (by omega) a1.1 a1.2 (by rw [← ex2]; exact a3.1) (by rw [← ex2]; exact a3.2), gi_lin (g := g) (by omega) (by omega) a2.1 a2.2 (by rw [← ey2]; exact a4.1) (by rw [← ey2]; exact a4.2)⟩
    have h := gg_enum (fun t => (x1 + t * a).toNat) (fun t => (y1 + t * b).toNat) (g + 1) (fun t ht => by
        have := rng t ht
        omega) (fun s t hst ht hh => by
        have r1 := rng s (by omega)
        have r2 := rng t ht
        have e1 : (s : Int) * a = t * a := by have := hh.1; omega
        have e2 : (s : Int) * b = t * b := by have := hh.2; omega
        have f1 : ((t : Int) - s) * a = 0 := by rw [Int.sub_mul]; omega
        have f2 : ((t : Int) - s) * b = 0 := by rw [Int.sub_mul]; omega
        have g1 : a = 0 := by
          rcases Int.mul_eq_zero.mp f1 with k | k
          · omega
          · exact k
        have g2 : b = 0 := by
          rcases Int.mul_eq_zero.mp f2 with k | k
          · omega
          · exact k
        rw [g1, g2] at hab
        simp at hab) (fun p q => gOn x1 y1 x2 y2 p q) (fun p q hp hq => by
        rw [ex2, ey2, gi_on hgp hab]
        constructor
        · rintro ⟨t, h0, h1, e1, e2⟩
          refine ⟨t.toNat, by omega, ?_, ?_⟩
          · have e3 : ((t.toNat : Nat) : Int) = t := by omega
            rw [e3]; omega
          · have e3 : ((t.toNat : Nat) : Int) = t := by omega
            rw [e3]; omega
        · rintro ⟨t, ht, e1, e2⟩
          have r := rng t ht
          exact ⟨t, by omega, by omega, by omega, by omega⟩)
    rw [h]
    omega
end
section
/-! PURE: Pick's rule for a triangle in the grid -/
/-- 2 inside, 1 on the edge, 0 outside, by the three turns -/
def gK (a b c : Int) : Nat := if a < 0 ∨ b < 0 ∨ c < 0 then 0 else if 0 < a ∧ 0 < b ∧ 0 < c then 2 else 1
/-- how much a column crosses an edge: 2 within, 1 at an end -/
def gW (u v : Int) : Int := ((Int.sign u - Int.sign v).natAbs : Int)
abbrev gL3 : List Int := [-1, 0, 1]
theorem gl3 (a : Int) : Int.sign a ∈ gL3 := by
  rcases Int.sign_trichotomy a with h | h | h <;> rw [h] <;> decide
theorem gk_fin : ∀ sa ∈ gL3, ∀ sb ∈ gL3, ∀ sc ∈ gL3, ∀ s0 ∈ gL3, ∀ s1 ∈ gL3, ∀ s2 ∈ gL3, ¬ (sa ≤ 0 ∧ sb ≤ 0 ∧ sc ≤ 0) → ¬ (s0 = 0 ∧ s1 = 0 ∧ s2 = 0) →
    ¬ (0 ≤ sa * s2 ∧ 0 ≤ sb * s0 ∧ 0 ≤ sc * s1 ∧ 0 < sa * s2 + sb * s0 + sc * s1) → ¬ (sa * s2 ≤ 0 ∧ sb * s0 ≤ 0 ∧ sc * s1 ≤ 0 ∧ sa * s2 + sb * s0 + sc * s1 < 0) →
    ((s1 - s0).natAbs : Int) * sa + ((s2 - s1).natAbs : Int) * sb + ((s0 - s2).natAbs : Int) * sc
      = 4 * (if gK sa sb sc = 2 then 1 else 0) + 2 * (if gK sa sb sc = 1 then 1 else 0) + (if sb = 0 ∧ sc = 0 then ((s1 - s0).natAbs : Int) - 2 else 0) + (if sa = 0 ∧ sc = 0 then ((s2 - s1).natAbs : Int) - 2 else 0) + (if sa = 0 ∧ sb = 0 then ((s0 - s2).natAbs : Int) - 2 else 0) := by
  decide +kernel
theorem gk_sign (a b c : Int) : gK (Int.sign a) (Int.sign b) (Int.sign c) = gK a b c := by
  unfold gK
  simp only [Int.sign_neg_iff, Int.sign_pos_iff]
theorem gk_point {a b c u0 u1 u2 : Int} (hs : 0 < a + b + c) (hu : ¬ (u0 = 0 ∧ u1 = 0 ∧ u2 = 0)) (h : a * u2 + b * u0 + c * u1 = 0) :
    gW u1 u0 * Int.sign a + gW u2 u1 * Int.sign b + gW u0 u2 * Int.sign c
      = 4 * (if gK a b c = 2 then 1 else 0) + 2 * (if gK a b c = 1 then 1 else 0) + (if b = 0 ∧ c = 0 then gW u1 u0 - 2 else 0) + (if a = 0 ∧ c = 0 then gW u2 u1 - 2 else 0) + (if a = 0 ∧ b = 0 then gW u0 u2 - 2 else 0) := by
  have k := gk_fin _ (gl3 a) _ (gl3 b) _ (gl3 c) _ (gl3 u0) _ (gl3 u1) _ (gl3 u2) (by
      simp only [Int.sign_nonpos_iff]
      omega) (by
      simp only [Int.sign_eq_zero_iff_zero]
      exact hu) (by
      rw [← Int.sign_mul, ← Int.sign_mul, ← Int.sign_mul]
      rintro ⟨h1, h2, h3, h4⟩
      have e1 := Int.sign_nonneg_iff.mp h1
      have e2 := Int.sign_nonneg_iff.mp h2
      have e3 := Int.sign_nonneg_iff.mp h3
      have z1 : a * u2 = 0 := by omega
      have z2 : b * u0 = 0 := by omega
      have z3 : c * u1 = 0 := by omega
      rw [z1, z2, z3] at h4
      simp at h4) (by
      rw [← Int.sign_mul, ← Int.sign_mul, ← Int.sign_mul]
      rintro ⟨h1, h2, h3, h4⟩
      have e1 := Int.sign_nonpos_iff.mp h1
      have e2 := Int.sign_nonpos_iff.mp h2
      have e3 := Int.sign_nonpos_iff.mp h3
      have z1 : a * u2 = 0 := by omega
      have z2 : b * u0 = 0 := by omega
      have z3 : c * u1 = 0 := by omega
      rw [z1, z2, z3] at h4
      simp at h4)
  rw [gk_sign] at k
  simp only [Int.sign_eq_zero_iff_zero] at k
  exact k
/-! ===== the sum over the grid for one edge ===== -/
theorem gw_win (f : Nat → Int) : ∀ n : Nat, fb_si (fun q => f (q + 1)) n = fb_si f n + f n - f 0
  | 0 => by
    show (0 : Int) = 0 + f 0 - f 0
    omega
  | n + 1 => by
    have h := gw_win f n
    rw [fb_si_succ, fb_si_succ, h]
    omega
theorem gw_step (f : Int → Int) (k : Int) : fb_si (fun q => f ((q : Int) + (k + 1))) 32 = fb_si (fun q => f ((q : Int) + k)) 32 + f (32 + k) - f k := by
  have h := gw_win (fun q => f ((q : Int) + k)) 32
  have e : fb_si (fun q => f ((q : Int) + (k + 1))) 32 = fb_si (fun q => f (((q + 1 : Nat) : Int) + k)) 32 := fb_si_cong fun q _ => by
    rw [show (q : Int) + (k + 1) = ((q + 1 : Nat) : Int) + k by omega]
  rw [e]
  have h2 : fb_si (fun q => f (((q + 1 : Nat) : Int) + k)) 32 = fb_si (fun q => f ((q : Int) + k)) 32 + f (((32 : Nat) : Int) + k) - f (((0 : Nat) : Int) + k) := h
  rw [h2]
  have e0 : ((0 : Nat) : Int) + k = k := by omega
  rw [e0]
  rfl
theorem gw_up (f : Int → Int) {m M : Int} (h1 : ∀ z, z < m → f z = -1) (h2 : ∀ z, M < z → f z = 1) (hM : M ≤ 31) : ∀ n : Nat, (n : Int) ≤ m → fb_si (fun q => f ((q : Int) + n)) 32 = fb_si (fun q => f ((q : Int) + 0)) 32 + 2 * n
  | 0, _ => by
    show _ = _ + 2 * (0 : Int)
    rw [Int.mul_zero, Int.add_zero]
    rfl
  | n + 1, h => by
    have ih := gw_up f h1 h2 hM n (by omega)
    have e : fb_si (fun q => f ((q : Int) + ((n + 1 : Nat) : Int))) 32 = fb_si (fun q => f ((q : Int) + ((n : Int) + 1))) 32 := fb_si_cong fun q _ => by
      rw [show ((n + 1 : Nat) : Int) = (n : Int) + 1 by omega]
    rw [e, gw_step, ih, h2 (32 + n) (by omega), h1 n (by omega)]
    omega
theorem gw_down (f : Int → Int) {m M : Int} (h1 : ∀ z, z < m → f z = -1) (h2 : ∀ z, M < z → f z = 1) (hm : 0 ≤ m) : ∀ n : Nat, (n : Int) ≤ 31 - M → fb_si (fun q => f ((q : Int) + (-(n : Int)))) 32 = fb_si (fun q => f ((q : Int) + 0)) 32 - 2 * n
  | 0, _ => by
    show _ = _ - 2 * (0 : Int)
    rw [Int.mul_zero, Int.sub_zero]
    rfl
  | n + 1, h => by
    have ih := gw_down f h1 h2 hm n (by omega)
    have s := gw_step f (-((n + 1 : Nat) : Int))
    have e : fb_si (fun q => f ((q : Int) + (-((n + 1 : Nat) : Int) + 1))) 32 = fb_si (fun q => f ((q : Int) + (-(n : Int)))) 32 := fb_si_cong fun q _ => by
      rw [show -((n + 1 : Nat) : Int) + 1 = -(n : Int) by omega]
    rw [e, ih, h2 (32 + -((n + 1 : Nat) : Int)) (by omega), h1 (-((n + 1 : Nat) : Int)) (by omega)] at s
    omega
theorem gw_shift (f : Int → Int) {m M : Int} (h1 : ∀ z, z < m → f z = -1) (h2 : ∀ z, M < z → f z = 1) (hm : 0 ≤ m) (hmM : m ≤ M) (hM : M ≤ 31) :
    fb_si (fun q => f ((q : Int) + (m + M - 31))) 32 = fb_si (fun q => f ((q : Int) + 0)) 32 + 2 * (m + M - 31) := by
  rcases Int.le_total 0 (m + M - 31) with h | h
  · have k := gw_up f h1 h2 hM (m + M - 31).toNat (by omega)
    rw [show (((m + M - 31).toNat : Nat) : Int) = m + M - 31 by omega] at k
    exact k
  · have k := gw_down f h1 h2 hm (31 - m - M).toNat (by omega)
    rw [show -(((31 - m - M).toNat : Nat) : Int) = m + M - 31 by omega, show (((31 - m - M).toNat : Nat) : Int) = 31 - m - M by omega] at k
    omega
theorem gw_neg {dx dy i z y1 : Int} (h0 : 0 < dx) (hi0 : 0 ≤ i) (hi1 : i ≤ dx) (z1 : z < y1) (z2 : z < y1 + dy) : dx * (z - y1) - dy * i < 0 := by
  have e : dx * (z - y1) - dy * i = (dx - i) * (z - y1) + i * (z - y1 - dy) := by grind
  have k1 := Int.mul_le_mul_of_nonneg_left (show z - y1 ≤ -1 by omega) (show 0 ≤ dx - i by omega)
  have k2 := Int.mul_le_mul_of_nonneg_left (show z - y1 - dy ≤ -1 by omega) hi0
  rw [e]
  omega
theorem gw_pos {dx dy i z y1 : Int} (h0 : 0 < dx) (hi0 : 0 ≤ i) (hi1 : i ≤ dx) (z1 : y1 < z) (z2 : y1 + dy < z) : 0 < dx * (z - y1) - dy * i := by
  have e : dx * (z - y1) - dy * i = (dx - i) * (z - y1) + i * (z - y1 - dy) := by grind
  have k1 := Int.mul_le_mul_of_nonneg_left (show 1 ≤ z - y1 by omega) (show 0 ≤ dx - i by omega)
  have k2 := Int.mul_le_mul_of_nonneg_left (show 1 ≤ z - y1 - dy by omega) hi0
  rw [e]
  omega
/-- a column and its mirror image -/
theorem gw_pair {x1 y1 x2 y2 i : Int} (a2 : 0 ≤ y1 ∧ y1 ≤ 31) (a4 : 0 ≤ y2 ∧ y2 ≤ 31) (hlt : x1 < x2) (hi0 : 0 ≤ i) (hi1 : i ≤ x2 - x1) :
    fb_si (fun q => Int.sign (gT x1 y1 x2 y2 (x1 + i) q)) 32 + fb_si (fun q => Int.sign (gT x1 y1 x2 y2 (x2 - i) q)) 32 = -2 * (y1 + y2 - 31) := by
  have e1 : fb_si (fun q => Int.sign (gT x1 y1 x2 y2 (x1 + i) q)) 32 = fb_si (fun q => Int.sign (gT x1 y1 x2 y2 (x1 + i) ((q : Int) + 0))) 32 := fb_si_cong fun q _ => by rw [Int.add_zero]
  have e2 : fb_si (fun q => Int.sign (gT x1 y1 x2 y2 (x2 - i) q)) 32 = -1 * fb_si (fun q => Int.sign (gT x1 y1 x2 y2 (x1 + i) ((q : Int) + (y1 + y2 - 31)))) 32 := by
    have r := gs_rev (fun q => Int.sign (gT x1 y1 x2 y2 (x2 - i) q)) 31
    rw [← r, ← fb_si_mul]
    refine fb_si_cong fun q hq => ?_
    have e3 : gT x1 y1 x2 y2 (x2 - i) ((31 - q : Nat) : Int) = -gT x1 y1 x2 y2 (x1 + i) ((q : Int) + (y1 + y2 - 31)) := by
      rw [show ((31 - q : Nat) : Int) = 31 - (q : Int) by omega]
      unfold gT
      grind
    rw [e3, Int.sign_neg]
    omega
  have lo : ∀ z, z < y1 → z < y2 → Int.sign (gT x1 y1 x2 y2 (x1 + i) z) = -1 := fun z k1 k2 => by
    apply Int.sign_eq_neg_one_of_neg
    have := gw_neg (dx := x2 - x1) (dy := y2 - y1) (i := i) (z := z) (y1 := y1) (by omega) hi0 hi1 k1 (by omega)
    unfold gT
    rw [show x1 + i - x1 = i by omega]
    exact this
  have hi : ∀ z, y1 < z → y2 < z → Int.sign (gT x1 y1 x2 y2 (x1 + i) z) = 1 := fun z k1 k2 => by
    apply Int.sign_eq_one_of_pos
    have := gw_pos (dx := x2 - x1) (dy := y2 - y1) (i := i) (z := z) (y1 := y1) (by omega) hi0 hi1 k1 (by omega)
    unfold gT
    rw [show x1 + i - x1 = i by omega]
    exact this
  have sh : fb_si (fun q => Int.sign (gT x1 y1 x2 y2 (x1 + i) ((q : Int) + (y1 + y2 - 31)))) 32 = fb_si (fun q => Int.sign (gT x1 y1 x2 y2 (x1 + i) ((q : Int) + 0))) 32 + 2 * (y1 + y2 - 31) := by
    rcases Int.le_total y1 y2 with o | o
    · exact gw_shift (fun z => Int.sign (gT x1 y1 x2 y2 (x1 + i) z)) (m := y1) (M := y2) (fun z k => lo z k (by omega)) (fun z k => hi z (by omega) k) a2.1 o a4.2
    · have k := gw_shift (fun z => Int.sign (gT x1 y1 x2 y2 (x1 + i) z)) (m := y2) (M := y1) (fun z k => lo z (by omega) k) (fun z k => hi z k (by omega)) a4.1 o a2.2
      rw [Int.add_comm y2 y1] at k
      exact k
  rw [e1, e2, sh]
  omega
theorem gw_sum (n : Nat) (hn : 0 < n) : fb_si (fun i => gW ((n : Int) - i) (-(i : Int))) (n + 1) = 2 * n := by
  have h : ∀ j : Nat, j < n → fb_si (fun i => gW ((n : Int) - i) (-(i : Int))) (j + 1) = 2 * j + 1 := by
    intro j
    induction j with
    | zero =>
      intro h0
      rw [fb_si_succ]
      unfold gW
      rw [Int.sign_eq_one_of_pos (show (0 : Int) < (n : Int) - (0 : Nat) by omega)]
      rfl
    | succ j ih =>
      intro h1
      rw [fb_si_succ, ih (by omega)]
      unfold gW
      rw [Int.sign_eq_one_of_pos (show (0 : Int) < (n : Int) - ((j + 1 : Nat) : Int) by omega), Int.sign_eq_neg_one_of_neg (show -((j + 1 : Nat) : Int) < 0 by omega)]
      have : ((1 - -1 : Int).natAbs : Int) = 2 := rfl
      rw [this]
      omega
  obtain ⟨k, rfl⟩ : ∃ k, n = k + 1 := ⟨n - 1, by omega⟩
  rw [fb_si_succ, h k (by omega)]
  unfold gW
  rw [show ((k + 1 : Nat) : Int) - ((k + 1 : Nat) : Int) = 0 by omega, Int.sign_eq_neg_one_of_neg (show -((k + 1 : Nat) : Int) < 0 by omega)]
  have : ((Int.sign 0 - -1 : Int).natAbs : Int) = 1 := rfl
  rw [this]
  omega
theorem gw_edge_pos {x1 y1 x2 y2 : Int} (a1 : 0 ≤ x1 ∧ x1 ≤ 31) (a2 : 0 ≤ y1 ∧ y1 ≤ 31) (a3 : 0 ≤ x2 ∧ x2 ≤ 31) (a4 : 0 ≤ y2 ∧ y2 ≤ 31) (hlt : x1 < x2) :
    gg (fun p q => gW (x2 - p) (x1 - p) * Int.sign (gT x1 y1 x2 y2 p q)) = -2 * (x2 - x1) * (y1 + y2 - 31) := by
  obtain ⟨a, ha⟩ : ∃ a : Nat, x1 = a := ⟨x1.toNat, by omega⟩
  obtain ⟨n, hn⟩ : ∃ n : Nat, x2 - x1 = n := ⟨(x2 - x1).toNat, by omega⟩
  have hn0 : 0 < n := by omega
  obtain ⟨r, hr⟩ : ∃ r : Nat, 32 = a + (n + 1 + r) := ⟨32 - (a + (n + 1)), by omega⟩
  have hF : ∀ p : Nat, fb_si (fun q => gW (x2 - p) (x1 - p) * Int.sign (gT x1 y1 x2 y2 p q)) 32 = gW (x2 - p) (x1 - p) * fb_si (fun q => Int.sign (gT x1 y1 x2 y2 p q)) 32 := fun p => fb_si_mul _ _ _
  have h0 : gg (fun p q => gW (x2 - p) (x1 - p) * Int.sign (gT x1 y1 x2 y2 p q)) = fb_si (fun i : Nat => gW ((n : Int) - i) (-(i : Int)) * fb_si (fun q => Int.sign (gT x1 y1 x2 y2 (x1 + i) q)) 32) (n + 1) := by
    have z : gg (fun p q => gW (x2 - p) (x1 - p) * Int.sign (gT x1 y1 x2 y2 p q)) = fb_si (fun p : Nat => gW (x2 - p) (x1 - p) * fb_si (fun q => Int.sign (gT x1 y1 x2 y2 p q)) 32) (a + (n + 1 + r)) := by
      rw [← hr]
      exact fb_si_cong fun p _ => hF p
    rw [z, fb_si_split, fb_si_split]
    have zl : fb_si (fun p : Nat => gW (x2 - p) (x1 - p) * fb_si (fun q => Int.sign (gT x1 y1 x2 y2 p q)) 32) a = 0 := gs_zero fun p hp => by
      have w : gW (x2 - p) (x1 - p) = 0 := by
        unfold gW
        rw [Int.sign_eq_one_of_pos (show 0 < x2 - (p : Int) by omega), Int.sign_eq_one_of_pos (show 0 < x1 - (p : Int) by omega)]
        rfl
      rw [w, Int.zero_mul]
    have zr : fb_si (fun k => (fun p : Nat => gW (x2 - p) (x1 - p) * fb_si (fun q => Int.sign (gT x1 y1 x2 y2 p q)) 32) (a + (n + 1 + k))) r = 0 := gs_zero fun k hk => by
      have w : gW (x2 - ((a + (n + 1 + k) : Nat) : Int)) (x1 - ((a + (n + 1 + k) : Nat) : Int)) = 0 := by
        unfold gW
        rw [Int.sign_eq_neg_one_of_neg (show x2 - ((a + (n + 1 + k) : Nat) : Int) < 0 by omega), Int.sign_eq_neg_one_of_neg (show x1 - ((a + (n + 1 + k) : Nat) : Int) < 0 by omega)]
        rfl
      dsimp only
      rw [w, Int.zero_mul]
    have zr2 : fb_si (fun k => (fun k => (fun p : Nat => gW (x2 - p) (x1 - p) * fb_si (fun q => Int.sign (gT x1 y1 x2 y2 p q)) 32) (a + k)) (n + 1 + k)) r = 0 := zr
    rw [zl, Int.zero_add]
    dsimp only at zr2 ⊢
    rw [zr2, Int.add_zero]
    refine fb_si_cong fun i _ => ?_
    rw [show x2 - ((a + i : Nat) : Int) = (n : Int) - i by omega, show x1 - ((a + i : Nat) : Int) = -(i : Int) by omega, show ((a + i : Nat) : Int) = x1 + i by omega]
  have h1 := gs_rev (fun i : Nat => gW ((n : Int) - i) (-(i : Int)) * fb_si (fun q => Int.sign (gT x1 y1 x2 y2 (x1 + i) q)) 32) n
  have h2 : fb_si (fun i : Nat => gW ((n : Int) - i) (-(i : Int)) * fb_si (fun q => Int.sign (gT x1 y1 x2 y2 (x1 + i) q)) 32) (n + 1) + fb_si (fun k => (fun i : Nat => gW ((n : Int) - i) (-(i : Int)) * fb_si (fun q => Int.sign (gT x1 y1 x2 y2 (x1 + i) q)) 32) (n - k)) (n + 1) = fb_si (fun i : Nat => (-2 * (y1 + y2 - 31)) * gW ((n : Int) - i) (-(i : Int))) (n + 1) := by
    rw [← fb_si_add]
    refine fb_si_cong fun i hi => ?_
    dsimp only
    have pr := gw_pair (x1 := x1) (y1 := y1) (x2 := x2) (y2 := y2) (i := i) a2 a4 hlt (by omega) (by omega)
    have w : gW ((n : Int) - ((n - i : Nat) : Int)) (-((n - i : Nat) : Int)) = gW ((n : Int) - i) (-(i : Int)) := by
      rw [show (n : Int) - ((n - i : Nat) : Int) = i by omega, show -((n - i : Nat) : Int) = -((n : Int) - i) by omega]
      unfold gW
      rw [Int.sign_neg, Int.sign_neg, Int.sub_neg, Int.sub_neg, Int.add_comm]
    rw [w, show x1 + ((n - i : Nat) : Int) = x2 - i by omega, ← Int.mul_add, pr, Int.mul_comm]
  rw [fb_si_mul, gw_sum n hn0] at h2
  rw [h1] at h2
  rw [h0, hn]
  have e : -2 * (n : Int) * (y1 + y2 - 31) = (-2 * (y1 + y2 - 31)) * n := by grind
  have e2 : (-2 * (y1 + y2 - 31)) * (2 * (n : Int)) = 2 * ((-2 * (y1 + y2 - 31)) * n) := by grind
  rw [e2] at h2
  rw [e]
  omega
theorem gw_edge {x1 y1 x2 y2 : Int} (a1 : 0 ≤ x1 ∧ x1 ≤ 31) (a2 : 0 ≤ y1 ∧ y1 ≤ 31) (a3 : 0 ≤ x2 ∧ x2 ≤ 31) (a4 : 0 ≤ y2 ∧ y2 ≤ 31) :
    gg (fun p q => gW (x2 - p) (x1 - p) * Int.sign (gT x1 y1 x2 y2 p q)) = -2 * (x2 - x1) * (y1 + y2 - 31) := by
  rcases Int.lt_trichotomy x1 x2 with h | h | h
  · exact gw_edge_pos a1 a2 a3 a4 h
  · subst h
    have z : gg (fun p q => gW (x1 - p) (x1 - p) * Int.sign (gT x1 y1 x1 y2 p q)) = 0 := gg_zero fun p q _ _ => by
      have w : gW (x1 - p) (x1 - p) = 0 := by
        unfold gW
        rw [Int.sub_self]
        rfl
      rw [w, Int.zero_mul]
    rw [z, Int.sub_self]
    simp
  · have k := gw_edge_pos a3 a4 a1 a2 h
    have e : gg (fun p q => gW (x2 - p) (x1 - p) * Int.sign (gT x1 y1 x2 y2 p q)) = gg (fun p q => -1 * (gW (x1 - p) (x2 - p) * Int.sign (gT x2 y2 x1 y1 p q))) := by
      refine gg_cong fun p q _ _ => ?_
      have e1 : gT x2 y2 x1 y1 p q = -gT x1 y1 x2 y2 p q := by
        unfold gT
        grind
      have e2 : gW (x1 - p) (x2 - p) = gW (x2 - p) (x1 - p) := by
        unfold gW
        rw [← Int.natAbs_neg, Int.neg_sub]
      rw [e1, e2, Int.sign_neg]
      grind
    rw [e, gg_mul, k]
    grind
end
section
/-! PURE: the triangle: its edge points, its inner points -/
theorem gt_opp {b c u v : Int} (hb : 0 ≤ b) (hc : 0 ≤ c) (hs : 0 < b + c) (h : b * u + c * v = 0) : u * v ≤ 0 := by
  apply gi_le_of_mul hs
  have e0 : (b * u + c * v) * (u + v) = 0 := by rw [h, Int.zero_mul]
  have e : (b + c) * (u * v) = -(c * (v * v) + b * (u * u)) := by grind
  have k1 := Int.mul_nonneg hc (gi_sq v)
  have k2 := Int.mul_nonneg hb (gi_sq u)
  rw [e]
  omega
theorem gt_nn {b c u0 u1 v0 v1 : Int} (hs : 0 < b + c) (hx : b * u0 + c * u1 = 0) (hy : b * v0 + c * v1 = 0) (bx : u0 * u1 ≤ 0) (by1 : v0 * v1 ≤ 0) (hb : u1 = 0 → v1 = 0 → b = 0) : 0 ≤ b := by
  rcases Int.lt_or_le b 0 with q | q
  · have hc : 0 < c := by omega
    have z : ∀ u w : Int, b * u + c * w = 0 → u * w ≤ 0 → w = 0 := by
      intro u w h1 h2
      have e0 : (b * u + c * w) * w = 0 := by rw [h1, Int.zero_mul]
      have e : b * (u * w) = -(c * (w * w)) := by grind
      have k1 := Int.mul_nonneg_of_nonpos_of_nonpos (Int.le_of_lt q) h2
      have k2 := Int.mul_nonneg (Int.le_of_lt hc) (gi_sq w)
      have k3 : c * (w * w) = 0 := by omega
      rcases Int.mul_eq_zero.mp k3 with r | r
      · omega
      · rcases Int.mul_eq_zero.mp r with r | r
        · exact r
        · exact r
    have := hb (z u0 u1 hx bx) (z v0 v1 hy by1)
    omega
  · exact q
theorem gt_box {b c u0 u1 v0 v1 : Int} (hs : 0 < b + c) (hx : b * u0 + c * u1 = 0) (hy : b * v0 + c * v1 = 0) (hb : u1 = 0 → v1 = 0 → b = 0) (hc : u0 = 0 → v0 = 0 → c = 0) :
    (u0 * u1 ≤ 0 ∧ v0 * v1 ≤ 0) ↔ (0 ≤ b ∧ 0 ≤ c) := by
  constructor
  · rintro ⟨h1, h2⟩
    refine ⟨gt_nn hs hx hy h1 h2 hb, gt_nn (b := c) (c := b) (u0 := u1) (u1 := u0) (v0 := v1) (v1 := v0) (by omega) (by omega) (by omega) (by rw [Int.mul_comm]; exact h1) (by rw [Int.mul_comm]; exact h2) hc⟩
  · rintro ⟨h1, h2⟩
    exact ⟨gt_opp h1 h2 hs hx, gt_opp h1 h2 hs hy⟩
theorem gt_sum (e x0 y0 x1 y1 x2 y2 p q : Int) : e * gT x0 y0 x1 y1 p q + e * gT x1 y1 x2 y2 p q + e * gT x2 y2 x0 y0 p q = e * gT x0 y0 x1 y1 x2 y2 := by
  unfold gT
  grind
theorem gt_bx (e x0 y0 x1 y1 x2 y2 p q : Int) : e * gT x0 y0 x1 y1 p q * (x2 - p) + e * gT x1 y1 x2 y2 p q * (x0 - p) + e * gT x2 y2 x0 y0 p q * (x1 - p) = 0 := by
  unfold gT
  grind
theorem gt_by (e x0 y0 x1 y1 x2 y2 p q : Int) : e * gT x0 y0 x1 y1 p q * (y2 - q) + e * gT x1 y1 x2 y2 p q * (y0 - q) + e * gT x2 y2 x0 y0 p q * (y1 - q) = 0 := by
  unfold gT
  grind
theorem gt_cyc (x0 y0 x1 y1 x2 y2 : Int) : gT x1 y1 x2 y2 x0 y0 = gT x0 y0 x1 y1 x2 y2 := by
  unfold gT
  grind
theorem gt_at0 (x1 y1 x2 y2 : Int) : gT x1 y1 x2 y2 x1 y1 = 0 := by
  unfold gT
  grind
theorem gt_at1 (x1 y1 x2 y2 : Int) : gT x1 y1 x2 y2 x2 y2 = 0 := by
  unfold gT
  grind
/-- on the first side, told by the turns -/
theorem gt_on {e x0 y0 x1 y1 x2 y2 p q : Int} (he : e = 1 ∨ e = -1) (hs : 0 < e * gT x0 y0 x1 y1 x2 y2) :
    gOn x0 y0 x1 y1 p q ↔ (e * gT x0 y0 x1 y1 p q = 0 ∧ 0 ≤ e * gT x1 y1 x2 y2 p q ∧ 0 ≤ e * gT x2 y2 x0 y0 p q) := by
  have f1 := gt_sum e x0 y0 x1 y1 x2 y2 p q
  have f2 := gt_bx e x0 y0 x1 y1 x2 y2 p q
  have f3 := gt_by e x0 y0 x1 y1 x2 y2 p q
  have hz : e * gT x0 y0 x1 y1 p q = 0 ↔ gT x0 y0 x1 y1 p q = 0 := by
    rcases he with h | h <;> subst h <;> omega
  have key : gT x0 y0 x1 y1 p q = 0 → (((p - x0) * (p - x1) ≤ 0 ∧ (q - y0) * (q - y1) ≤ 0) ↔ (0 ≤ e * gT x1 y1 x2 y2 p q ∧ 0 ≤ e * gT x2 y2 x0 y0 p q)) := by
    intro h0
    rw [hz.mpr h0] at f1 f2 f3
    rw [Int.zero_mul, Int.zero_add] at f2 f3
    have g := gt_box (b := e * gT x1 y1 x2 y2 p q) (c := e * gT x2 y2 x0 y0 p q) (u0 := x0 - p) (u1 := x1 - p) (v0 := y0 - q) (v1 := y1 - q) (by omega) f2 f3
      (fun h1 h2 => by
        have e1 : p = x1 := by omega
        have e2 : q = y1 := by omega
        rw [e1, e2, gt_at0, Int.mul_zero]) (fun h1 h2 => by
        have e1 : p = x0 := by omega
        have e2 : q = y0 := by omega
        rw [e1, e2, gt_at1, Int.mul_zero])
    have m1 : (p - x0) * (p - x1) = (x0 - p) * (x1 - p) := by grind
    have m2 : (q - y0) * (q - y1) = (y0 - q) * (y1 - q) := by grind
    rw [m1, m2]
    exact g
  constructor
  · rintro ⟨h0, h1⟩
    exact ⟨hz.mpr h0, (key h0).mp h1⟩
  · rintro ⟨h0, h1⟩
    exact ⟨hz.mp h0, (key (hz.mp h0)).mpr h1⟩
/-- at the first corner, told by the turns -/
theorem gt_v {e x0 y0 x1 y1 x2 y2 p q : Int} (hs : 0 < e * gT x0 y0 x1 y1 x2 y2) : (p = x0 ∧ q = y0) ↔ (e * gT x0 y0 x1 y1 p q = 0 ∧ e * gT x2 y2 x0 y0 p q = 0) := by
  constructor
  · rintro ⟨rfl, rfl⟩
    rw [gt_at0, gt_at1, Int.mul_zero]
    exact ⟨rfl, rfl⟩
  · rintro ⟨h1, h2⟩
    have f1 := gt_sum e x0 y0 x1 y1 x2 y2 p q
    have f2 := gt_bx e x0 y0 x1 y1 x2 y2 p q
    have f3 := gt_by e x0 y0 x1 y1 x2 y2 p q
    rw [h1, h2] at f1 f2 f3
    rw [Int.zero_mul, Int.zero_mul, Int.zero_add, Int.add_zero] at f2 f3
    rw [Int.zero_add, Int.add_zero] at f1
    have hne : e * gT x1 y1 x2 y2 p q ≠ 0 := by omega
    constructor
    · rcases Int.mul_eq_zero.mp f2 with k | k
      · exact absurd k hne
      · omega
    · rcases Int.mul_eq_zero.mp f3 with k | k
      · exact absurd k hne
      · omega
theorem gk_one {a b c : Int} (hs : 0 < a + b + c) : (if gK a b c = 1 then (1 : Int) else 0) = (if a = 0 ∧ 0 ≤ b ∧ 0 ≤ c then 1 else 0) + (if b = 0 ∧ 0 ≤ c ∧ 0 ≤ a then 1 else 0) + (if c = 0 ∧ 0 ≤ a ∧ 0 ≤ b then 1 else 0) - ((if a = 0 ∧ c = 0 then 1 else 0) + (if b = 0 ∧ a = 0 then 1 else 0) + (if c = 0 ∧ b = 0 then 1 else 0)) := by
  unfold gK
  by_cases h1 : a < 0 ∨ b < 0 ∨ c < 0
  · rw [if_pos h1, if_neg (by decide)]
    rw [if_neg (by omega), if_neg (by omega), if_neg (by omega), if_neg (by omega), if_neg (by omega), if_neg (by omega)]
    rfl
  · rw [if_neg h1]
    by_cases h2 : 0 < a ∧ 0 < b ∧ 0 < c
    · rw [if_pos h2, if_neg (by decide)]
      rw [if_neg (by omega), if_neg (by omega), if_neg (by omega), if_neg (by omega), if_neg (by omega), if_neg (by omega)]
      rfl
    · rw [if_neg h2, if_pos rfl]
      by_cases ka : a = 0
      · by_cases kb : b = 0
        · rw [if_pos (by omega), if_pos (by omega), if_neg (by omega), if_neg (by omega), if_pos (by omega), if_neg (by omega)]
          rfl
        · by_cases kc : c = 0
          · rw [if_pos (by omega), if_neg (by omega), if_pos (by omega), if_pos (by omega), if_neg (by omega), if_neg (by omega)]
            rfl
          · rw [if_pos (by omega), if_neg (by omega), if_neg (by omega), if_neg (by omega), if_neg (by omega), if_neg (by omega)]
            rfl
      · by_cases kb : b = 0
        · by_cases kc : c = 0
          · rw [if_neg (by omega), if_pos (by omega), if_pos (by omega), if_neg (by omega), if_neg (by omega), if_pos (by omega)]
            rfl
          · rw [if_neg (by omega), if_pos (by omega), if_neg (by omega), if_neg (by omega), if_neg (by omega), if_neg (by omega)]
            rfl
        · rw [if_neg (by omega), if_neg (by omega), if_pos (by omega), if_neg (by omega), if_neg (by omega), if_neg (by omega)]
          rfl
theorem gi_if {P Q : Prop} [Decidable P] [Decidable Q] (h : P ↔ Q) (v w : Int) : (if P then v else w) = (if Q then v else w) := by
  by_cases c : P
  · rw [if_pos c, if_pos (h.mp c)]
  · rw [if_neg c, if_neg (fun k => c (h.mpr k))]
theorem gg_deltaI {X Y : Int} (v : Int) (hX : 0 ≤ X ∧ X ≤ 31) (hY : 0 ≤ Y ∧ Y ≤ 31) : gg (fun p q => if (p : Int) = X ∧ (q : Int) = Y then v else 0) = v := by
  have h := gg_delta (a := X.toNat) (b := Y.toNat) v (by omega) (by omega)
  refine Eq.trans ?_ h
  exact gg_cong fun p q _ _ => gi_if (show ((p : Int) = X ∧ (q : Int) = Y) ↔ (p = X.toNat ∧ q = Y.toNat) by omega) v 0
/-- a corner's box -/
abbrev gIn (z : Int) : Prop := 0 ≤ z ∧ z ≤ 31
theorem gt_edge {e x0 y0 x1 y1 x2 y2 : Int} (a0 : gIn x0) (b0 : gIn y0) (a1 : gIn x1) (b1 : gIn y1) (a2 : gIn x2) (b2 : gIn y2) (he : e = 1 ∨ e = -1) (hs : 0 < e * gT x0 y0 x1 y1 x2 y2) :
    gg (fun p q => if gK (e * gT x0 y0 x1 y1 p q) (e * gT x1 y1 x2 y2 p q) (e * gT x2 y2 x0 y0 p q) = 1 then 1 else 0) = (Int.gcd (x1 - x0) (y1 - y0) : Int) + (Int.gcd (x2 - x1) (y2 - y1) : Int) + (Int.gcd (x0 - x2) (y0 - y2) : Int) := by
  have hs1 : 0 < e * gT x1 y1 x2 y2 x0 y0 := by rw [gt_cyc]; exact hs
  have hs2 : 0 < e * gT x2 y2 x0 y0 x1 y1 := by rw [gt_cyc]; exact hs1
  have h : gg (fun p q => if gK (e * gT x0 y0 x1 y1 p q) (e * gT x1 y1 x2 y2 p q) (e * gT x2 y2 x0 y0 p q) = 1 then 1 else 0)
      = gg (fun p q => ((if gOn x0 y0 x1 y1 p q then 1 else 0) + (if gOn x1 y1 x2 y2 p q then 1 else 0) + (if gOn x2 y2 x0 y0 p q then 1 else 0)) - ((if (p : Int) = x0 ∧ (q : Int) = y0 then 1 else 0) + (if (p : Int) = x1 ∧ (q : Int) = y1 then 1 else 0) + (if (p : Int) = x2 ∧ (q : Int) = y2 then 1 else 0))) := by
    refine gg_cong fun p q _ _ => ?_
    rw [gk_one (by rw [gt_sum]; exact hs)]
    rw [gi_if (gt_on he hs).symm 1 0, gi_if (gt_on he hs1).symm 1 0, gi_if (gt_on he hs2).symm 1 0, gi_if (gt_v hs).symm 1 0, gi_if (gt_v hs1).symm 1 0, gi_if (gt_v hs2).symm 1 0]
  rw [h, gg_sub, gg_add, gg_add, gg_add, gg_add, gi_side a0 b0 a1 b1, gi_side a1 b1 a2 b2, gi_side a2 b2 a0 b0, gg_deltaI 1 a0 b0, gg_deltaI 1 a1 b1, gg_deltaI 1 a2 b2]
  omega
theorem gv_sum {x0 x1 x2 : Int} (h : ¬ (x0 = x1 ∧ x1 = x2)) : gW (x1 - x2) (x0 - x2) + gW (x2 - x0) (x1 - x0) + gW (x0 - x1) (x2 - x1) = 2 := by
  unfold gW
  have sg : ∀ d : Int, (d < 0 ∧ Int.sign d = -1) ∨ (d = 0 ∧ Int.sign d = 0) ∨ (0 < d ∧ Int.sign d = 1) := by
    intro d
    rcases Int.lt_trichotomy d 0 with k | k | k
    · exact Or.inl ⟨k, Int.sign_eq_neg_one_of_neg k⟩
    · exact Or.inr (Or.inl ⟨k, by rw [k]; rfl⟩)
    · exact Or.inr (Or.inr ⟨k, Int.sign_eq_one_of_pos k⟩)
  have n1 : Int.sign (x2 - x0) = -Int.sign (x0 - x2) := by rw [← Int.sign_neg, Int.neg_sub]
  have n2 : Int.sign (x0 - x1) = -Int.sign (x1 - x0) := by rw [← Int.sign_neg, Int.neg_sub]
  have n3 : Int.sign (x2 - x1) = -Int.sign (x1 - x2) := by rw [← Int.sign_neg, Int.neg_sub]
  rw [n1, n2, n3]
  rcases sg (x0 - x2) with ⟨c1, e1⟩ | ⟨c1, e1⟩ | ⟨c1, e1⟩ <;> rcases sg (x1 - x2) with ⟨c2, e2⟩ | ⟨c2, e2⟩ | ⟨c2, e2⟩ <;> rcases sg (x1 - x0) with ⟨c3, e3⟩ | ⟨c3, e3⟩ | ⟨c3, e3⟩ <;> rw [e1, e2, e3] <;> first | rfl | (exfalso; omega)
theorem gt_pick {e x0 y0 x1 y1 x2 y2 : Int} (a0 : gIn x0) (b0 : gIn y0) (a1 : gIn x1) (b1 : gIn y1) (a2 : gIn x2) (b2 : gIn y2) (he : e = 1 ∨ e = -1) (hs : 0 < e * gT x0 y0 x1 y1 x2 y2) :
    4 * gg (fun p q => if gK (e * gT x0 y0 x1 y1 p q) (e * gT x1 y1 x2 y2 p q) (e * gT x2 y2 x0 y0 p q) = 2 then 1 else 0) + 2 * gg (fun p q => if gK (e * gT x0 y0 x1 y1 p q) (e * gT x1 y1 x2 y2 p q) (e * gT x2 y2 x0 y0 p q) = 1 then 1 else 0) - 4 = 2 * (e * gT x0 y0 x1 y1 x2 y2) := by
  have hs1 : 0 < e * gT x1 y1 x2 y2 x0 y0 := by rw [gt_cyc]; exact hs
  have hs2 : 0 < e * gT x2 y2 x0 y0 x1 y1 := by rw [gt_cyc]; exact hs1
  have hne : ¬ (x0 = x1 ∧ x1 = x2) := by
    rintro ⟨rfl, rfl⟩
    have z : gT x0 y0 x0 y1 x0 y2 = 0 := by unfold gT; grind
    rw [z, Int.mul_zero] at hs
    omega
  have hsg : ∀ z : Int, Int.sign (e * z) = e * Int.sign z := by
    intro z
    rw [Int.sign_mul]
    rcases he with k | k <;> rw [k] <;> rfl
  have h : gg (fun p q => e * (gW (x1 - p) (x0 - p) * Int.sign (gT x0 y0 x1 y1 p q) + gW (x2 - p) (x1 - p) * Int.sign (gT x1 y1 x2 y2 p q) + gW (x0 - p) (x2 - p) * Int.sign (gT x2 y2 x0 y0 p q)))
      = gg (fun p q => 4 * (if gK (e * gT x0 y0 x1 y1 p q) (e * gT x1 y1 x2 y2 p q) (e * gT x2 y2 x0 y0 p q) = 2 then 1 else 0) + 2 * (if gK (e * gT x0 y0 x1 y1 p q) (e * gT x1 y1 x2 y2 p q) (e * gT x2 y2 x0 y0 p q) = 1 then 1 else 0)
        + (if (p : Int) = x2 ∧ (q : Int) = y2 then gW (x1 - x2) (x0 - x2) - 2 else 0) + (if (p : Int) = x0 ∧ (q : Int) = y0 then gW (x2 - x0) (x1 - x0) - 2 else 0) + (if (p : Int) = x1 ∧ (q : Int) = y1 then gW (x0 - x1) (x2 - x1) - 2 else 0)) := by
    refine gg_cong fun p q _ _ => ?_
    have k := gk_point (a := e * gT x0 y0 x1 y1 p q) (b := e * gT x1 y1 x2 y2 p q) (c := e * gT x2 y2 x0 y0 p q) (u0 := x0 - p) (u1 := x1 - p) (u2 := x2 - p) (by rw [gt_sum]; exact hs) (by omega) (gt_bx e x0 y0 x1 y1 x2 y2 p q)
    rw [hsg, hsg, hsg] at k
    have kl : e * (gW (x1 - p) (x0 - p) * Int.sign (gT x0 y0 x1 y1 p q) + gW (x2 - p) (x1 - p) * Int.sign (gT x1 y1 x2 y2 p q) + gW (x0 - p) (x2 - p) * Int.sign (gT x2 y2 x0 y0 p q)) = gW (x1 - p) (x0 - p) * (e * Int.sign (gT x0 y0 x1 y1 p q)) + gW (x2 - p) (x1 - p) * (e * Int.sign (gT x1 y1 x2 y2 p q)) + gW (x0 - p) (x2 - p) * (e * Int.sign (gT x2 y2 x0 y0 p q)) := by grind
    rw [kl, k]
    have w2 : (if e * gT x1 y1 x2 y2 p q = 0 ∧ e * gT x2 y2 x0 y0 p q = 0 then gW (x1 - p) (x0 - p) - 2 else 0) = (if (p : Int) = x2 ∧ (q : Int) = y2 then gW (x1 - x2) (x0 - x2) - 2 else 0) := by
      rw [gi_if (show (e * gT x1 y1 x2 y2 p q = 0 ∧ e * gT x2 y2 x0 y0 p q = 0) ↔ ((p : Int) = x2 ∧ (q : Int) = y2) from ⟨fun z => (gt_v hs2).mpr ⟨z.2, z.1⟩, fun z => ⟨((gt_v hs2).mp z).2, ((gt_v hs2).mp z).1⟩⟩)]
      by_cases z : (p : Int) = x2 ∧ (q : Int) = y2
      · rw [if_pos z, if_pos z, z.1]
      · rw [if_neg z, if_neg z]
    have w0 : (if e * gT x0 y0 x1 y1 p q = 0 ∧ e * gT x2 y2 x0 y0 p q = 0 then gW (x2 - p) (x1 - p) - 2 else 0) = (if (p : Int) = x0 ∧ (q : Int) = y0 then gW (x2 - x0) (x1 - x0) - 2 else 0) := by
      rw [gi_if (show (e * gT x0 y0 x1 y1 p q = 0 ∧ e * gT x2 y2 x0 y0 p q = 0) ↔ ((p : Int) = x0 ∧ (q : Int) = y0) from (gt_v hs).symm)]
      by_cases z : (p : Int) = x0 ∧ (q : Int) = y0
      · rw [if_pos z, if_pos z, z.1]
      · rw [if_neg z, if_neg z]
    have w1 : (if e * gT x0 y0 x1 y1 p q = 0 ∧ e * gT x1 y1 x2 y2 p q = 0 then gW (x0 - p) (x2 - p) - 2 else 0) = (if (p : Int) = x1 ∧ (q : Int) = y1 then gW (x0 - x1) (x2 - x1) - 2 else 0) := by
      rw [gi_if (show (e * gT x0 y0 x1 y1 p q = 0 ∧ e * gT x1 y1 x2 y2 p q = 0) ↔ ((p : Int) = x1 ∧ (q : Int) = y1) from ⟨fun z => (gt_v hs1).mpr ⟨z.2, z.1⟩, fun z => ⟨((gt_v hs1).mp z).2, ((gt_v hs1).mp z).1⟩⟩)]
      by_cases z : (p : Int) = x1 ∧ (q : Int) = y1
      · rw [if_pos z, if_pos z, z.1]
      · rw [if_neg z, if_neg z]
    rw [w2, w0, w1]
  rw [gg_mul, gg_add, gg_add, gw_edge a0 b0 a1 b1, gw_edge a1 b1 a2 b2, gw_edge a2 b2 a0 b0, gg_add, gg_add, gg_add, gg_add, gg_mul, gg_mul, gg_deltaI _ a2 b2, gg_deltaI _ a0 b0, gg_deltaI _ a1 b1] at h
  have hv := gv_sum hne
  have hl : e * (-2 * (x1 - x0) * (y0 + y1 - 31) + -2 * (x2 - x1) * (y1 + y2 - 31) + -2 * (x0 - x2) * (y2 + y0 - 31)) = 2 * (e * gT x0 y0 x1 y1 x2 y2) := by
    unfold gT
    grind
  rw [hl] at h
  omega
/-! ===== the flat triangle ===== -/
/-- three points on a line, the third between the others: all its points lie on the side between those -/
theorem gd_sub {x0 y0 x1 y1 x2 y2 p q : Int} (hs : gT x0 y0 x1 y1 x2 y2 = 0) (hx : (x2 - x0) * (x2 - x1) ≤ 0) (hy : (y2 - y0) * (y2 - y1) ≤ 0) (h : gOn x1 y1 x2 y2 p q) : gOn x0 y0 x1 y1 p q := by
  obtain ⟨h0, h1, h2⟩ := h
  refine ⟨?_, ?_, ?_⟩
  · by_cases z : x1 = x2 ∧ y1 = y2
    · have u := gi_btw.mp h1
      have v := gi_btw.mp h2
      have e1 : p = x1 := by omega
      have e2 : q = y1 := by omega
      rw [e1, e2]
      exact gt_at1 x0 y0 x1 y1
    · have k1 : (x2 - x1) * gT x0 y0 x1 y1 p q = 0 := by
        have e : (x2 - x1) * gT x0 y0 x1 y1 p q = (x1 - x0) * gT x1 y1 x2 y2 p q + (p - x1) * gT x0 y0 x1 y1 x2 y2 := by
          unfold gT
          grind
        rw [e, h0, hs, Int.mul_zero, Int.mul_zero]
        rfl
      have k2 : (y2 - y1) * gT x0 y0 x1 y1 p q = 0 := by
        have e : (y2 - y1) * gT x0 y0 x1 y1 p q = (y1 - y0) * gT x1 y1 x2 y2 p q + (q - y1) * gT x0 y0 x1 y1 x2 y2 := by
          unfold gT
          grind
        rw [e, h0, hs, Int.mul_zero, Int.mul_zero]
        rfl
      rcases Int.mul_eq_zero.mp k1 with r | r
      · rcases Int.mul_eq_zero.mp k2 with t | t
        · exact absurd ⟨by omega, by omega⟩ z
        · exact t
      · exact r
  · have u := gi_btw.mp h1
    have v := gi_btw.mp hx
    exact gi_btw.mpr (by omega)
  · have u := gi_btw.mp h2
    have v := gi_btw.mp hy
    exact gi_btw.mpr (by omega)
theorem gt_flip (x1 y1 x2 y2 p q : Int) : gT x2 y2 x1 y1 p q = -gT x1 y1 x2 y2 p q := by
  unfold gT
  grind
theorem gd_sym {x1 y1 x2 y2 p q : Int} : gOn x1 y1 x2 y2 p q ↔ gOn x2 y2 x1 y1 p q := by
  unfold gOn
  rw [gt_flip x1 y1 x2 y2, Int.mul_comm (p - x1), Int.mul_comm (q - y1)]
  omega
theorem gd_main {x0 y0 x1 y1 x2 y2 : Int} (a0 : gIn x0) (b0 : gIn y0) (a1 : gIn x1) (b1 : gIn y1) (a2 : gIn x2) (b2 : gIn y2) (hs : gT x0 y0 x1 y1 x2 y2 = 0) (hx : (x2 - x0) * (x2 - x1) ≤ 0) (hy : (y2 - y0) * (y2 - y1) ≤ 0) :
    gg (fun p q => if gOn x0 y0 x1 y1 p q ∨ gOn x1 y1 x2 y2 p q ∨ gOn x2 y2 x0 y0 p q then 1 else 0) = (Int.gcd (x1 - x0) (y1 - y0) : Int) + 1 ∧ Int.gcd (x2 - x1) (y2 - y1) ≤ Int.gcd (x1 - x0) (y1 - y0) ∧ Int.gcd (x0 - x2) (y0 - y2) ≤ Int.gcd (x1 - x0) (y1 - y0) := by
  have i1 : ∀ p q : Int, gOn x1 y1 x2 y2 p q → gOn x0 y0 x1 y1 p q := fun p q h => gd_sub hs hx hy h
  have i2 : ∀ p q : Int, gOn x2 y2 x0 y0 p q → gOn x0 y0 x1 y1 p q := fun p q h =>
    gd_sym.mpr (gd_sub (x0 := x1) (y0 := y1) (x1 := x0) (y1 := y0) (x2 := x2) (y2 := y2) (by rw [gt_flip, hs]; rfl) (by rw [Int.mul_comm]; exact hx) (by rw [Int.mul_comm]; exact hy) (gd_sym.mp h))
  have s0 := gi_side a0 b0 a1 b1
  have s1 := gi_side a1 b1 a2 b2
  have s2 := gi_side a2 b2 a0 b0
  have le1 : gg (fun p q => if gOn x1 y1 x2 y2 p q then 1 else 0) ≤ gg (fun p q => if gOn x0 y0 x1 y1 p q then 1 else 0) := gg_le fun p q _ _ => by
    by_cases k : gOn x1 y1 x2 y2 p q
    · rw [if_pos k, if_pos (i1 p q k)]
      exact Int.le_refl _
    · rw [if_neg k]
      by_cases k2 : gOn x0 y0 x1 y1 p q
      · rw [if_pos k2]; decide
      · rw [if_neg k2]; decide
  have le2 : gg (fun p q => if gOn x2 y2 x0 y0 p q then 1 else 0) ≤ gg (fun p q => if gOn x0 y0 x1 y1 p q then 1 else 0) := gg_le fun p q _ _ => by
    by_cases k : gOn x2 y2 x0 y0 p q
    · rw [if_pos k, if_pos (i2 p q k)]
      exact Int.le_refl _
    · rw [if_neg k]
      by_cases k2 : gOn x0 y0 x1 y1 p q
      · rw [if_pos k2]; decide
      · rw [if_neg k2]; decide
  refine ⟨?_, by omega, by omega⟩
  rw [← s0]
  refine gg_cong fun p q _ _ => gi_if ⟨fun h => ?_, fun h => Or.inl h⟩ 1 0
  rcases h with h | h | h
  · exact h
  · exact i1 p q h
  · exact i2 p q h
theorem gd_y {x0 y0 x1 y1 x2 y2 : Int} (hs : gT x0 y0 x1 y1 x2 y2 = 0) (hn : x0 ≠ x1) (hx : (x2 - x0) * (x2 - x1) ≤ 0) : (y2 - y0) * (y2 - y1) ≤ 0 := by
  have hp := gi_sq_pos (show x1 - x0 ≠ 0 by omega)
  apply gi_le_of_mul hp
  have h1 : (x1 - x0) * (y2 - y0) = (y1 - y0) * (x2 - x0) := by
    unfold gT at hs
    omega
  have h2 : (x1 - x0) * (y2 - y1) = (y1 - y0) * (x2 - x1) := by grind
  have e : (x1 - x0) * (x1 - x0) * ((y2 - y0) * (y2 - y1)) = ((y1 - y0) * (y1 - y0)) * ((x2 - x0) * (x2 - x1)) := by
    have e1 : (x1 - x0) * (x1 - x0) * ((y2 - y0) * (y2 - y1)) = ((x1 - x0) * (y2 - y0)) * ((x1 - x0) * (y2 - y1)) := by grind
    rw [e1, h1, h2]
    grind
  rw [e]
  exact Int.mul_nonpos_of_nonneg_of_nonpos (gi_sq _) hx
/-- of three points on a line one lies between the others -/
theorem gd_mid {x0 y0 x1 y1 x2 y2 : Int} (hs : gT x0 y0 x1 y1 x2 y2 = 0) :
    ((x2 - x0) * (x2 - x1) ≤ 0 ∧ (y2 - y0) * (y2 - y1) ≤ 0) ∨ ((x0 - x1) * (x0 - x2) ≤ 0 ∧ (y0 - y1) * (y0 - y2) ≤ 0) ∨ ((x1 - x2) * (x1 - x0) ≤ 0 ∧ (y1 - y2) * (y1 - y0) ≤ 0) := by
  have hs1 : gT x1 y1 x2 y2 x0 y0 = 0 := by rw [gt_cyc]; exact hs
  have hs2 : gT x2 y2 x0 y0 x1 y1 = 0 := by rw [gt_cyc]; exact hs1
  have med : ∀ u0 u1 u2 : Int, ((u2 - u0) * (u2 - u1) ≤ 0) ∨ ((u0 - u1) * (u0 - u2) ≤ 0) ∨ ((u1 - u2) * (u1 - u0) ≤ 0) := by
    intro u0 u1 u2
    rw [gi_btw, gi_btw, gi_btw]
    omega
  by_cases z : x0 = x1 ∧ x1 = x2
  · obtain ⟨rfl, rfl⟩ := z
    have h0 : (x0 - x0) * (x0 - x0) ≤ 0 := by rw [Int.sub_self]; decide
    rcases med y0 y1 y2 with h | h | h
    · exact Or.inl ⟨h0, h⟩
    · exact Or.inr (Or.inl ⟨h0, h⟩)
    · exact Or.inr (Or.inr ⟨h0, h⟩)
  · rcases med x0 x1 x2 with h | h | h
    · have b := gi_btw.mp h
      exact Or.inl ⟨h, gd_y hs (by omega) h⟩
    · have b := gi_btw.mp h
      exact Or.inr (Or.inl ⟨h, gd_y hs1 (by omega) h⟩)
    · have b := gi_btw.mp h
      exact Or.inr (Or.inr ⟨h, gd_y hs2 (by omega) h⟩)
theorem gd_edge {x0 y0 x1 y1 x2 y2 : Int} (a0 : gIn x0) (b0 : gIn y0) (a1 : gIn x1) (b1 : gIn y1) (a2 : gIn x2) (b2 : gIn y2) (hs : gT x0 y0 x1 y1 x2 y2 = 0) :
    gg (fun p q => if gOn x0 y0 x1 y1 p q ∨ gOn x1 y1 x2 y2 p q ∨ gOn x2 y2 x0 y0 p q then 1 else 0) = (max (Int.gcd (x1 - x0) (y1 - y0)) (max (Int.gcd (x2 - x1) (y2 - y1)) (Int.gcd (x0 - x2) (y0 - y2))) : Nat) + 1 := by
  have hs1 : gT x1 y1 x2 y2 x0 y0 = 0 := by rw [gt_cyc]; exact hs
  have hs2 : gT x2 y2 x0 y0 x1 y1 = 0 := by rw [gt_cyc]; exact hs1
  rcases gd_mid hs with ⟨hx, hy⟩ | ⟨hx, hy⟩ | ⟨hx, hy⟩
  · obtain ⟨h, l1, l2⟩ := gd_main a0 b0 a1 b1 a2 b2 hs hx hy
    rw [h]
    omega
  · obtain ⟨h, l1, l2⟩ := gd_main a1 b1 a2 b2 a0 b0 hs1 hx hy
    have e : gg (fun p q => if gOn x0 y0 x1 y1 p q ∨ gOn x1 y1 x2 y2 p q ∨ gOn x2 y2 x0 y0 p q then 1 else 0) = gg (fun p q => if gOn x1 y1 x2 y2 p q ∨ gOn x2 y2 x0 y0 p q ∨ gOn x0 y0 x1 y1 p q then 1 else 0) :=
      gg_cong fun p q _ _ => gi_if ⟨fun k => by rcases k with k | k | k; exact Or.inr (Or.inr k); exact Or.inl k; exact Or.inr (Or.inl k), fun k => by rcases k with k | k | k; exact Or.inr (Or.inl k); exact Or.inr (Or.inr k); exact Or.inl k⟩ 1 0
    rw [e, h]
    omega
  · obtain ⟨h, l1, l2⟩ := gd_main a2 b2 a0 b0 a1 b1 hs2 hx hy
    have e : gg (fun p q => if gOn x0 y0 x1 y1 p q ∨ gOn x1 y1 x2 y2 p q ∨ gOn x2 y2 x0 y0 p q then 1 else 0) = gg (fun p q => if gOn x2 y2 x0 y0 p q ∨ gOn x0 y0 x1 y1 p q ∨ gOn x1 y1 x2 y2 p q then 1 else 0) :=
      gg_cong fun p q _ _ => gi_if ⟨fun k => by rcases k with k | k | k; exact Or.inr (Or.inl k); exact Or.inr (Or.inr k); exact Or.inl k, fun k => by rcases k with k | k | k; exact Or.inr (Or.inr k); exact Or.inl k; exact Or.inr (Or.inl k)⟩ 1 0
    rw [e, h]
    omega
/-! ===== what the reference counts ===== -/
def gPl (x0 y0 x1 y1 x2 y2 p q : Int) : Nat :=
  if gT x0 y0 x1 y1 x2 y2 < 0 then gK (-gT x0 y0 x1 y1 p q) (-gT x1 y1 x2 y2 p q) (-gT x2 y2 x0 y0 p q)
  else if gT x0 y0 x1 y1 x2 y2 = 0 then (if gOn x0 y0 x1 y1 p q ∨ gOn x1 y1 x2 y2 p q ∨ gOn x2 y2 x0 y0 p q then 1 else 0)
  else gK (gT x0 y0 x1 y1 p q) (gT x1 y1 x2 y2 p q) (gT x2 y2 x0 y0 p q)
theorem gF_deg {x0 y0 x1 y1 x2 y2 : Int} (a0 : gIn x0) (b0 : gIn y0) (a1 : gIn x1) (b1 : gIn y1) (a2 : gIn x2) (b2 : gIn y2) (hs : gT x0 y0 x1 y1 x2 y2 = 0) :
    gg (fun p q => if gPl x0 y0 x1 y1 x2 y2 p q = 1 then 1 else 0) = (max (Int.gcd (x1 - x0) (y1 - y0)) (max (Int.gcd (x2 - x1) (y2 - y1)) (Int.gcd (x0 - x2) (y0 - y2))) : Nat) + 1 ∧ gg (fun p q => if gPl x0 y0 x1 y1 x2 y2 p q = 2 then 1 else 0) = 0 := by
  have e : ∀ p q : Int, gPl x0 y0 x1 y1 x2 y2 p q = if gOn x0 y0 x1 y1 p q ∨ gOn x1 y1 x2 y2 p q ∨ gOn x2 y2 x0 y0 p q then 1 else 0 := by
    intro p q
    unfold gPl
    rw [if_neg (by omega), if_pos hs]
  constructor
  · rw [← gd_edge a0 b0 a1 b1 a2 b2 hs]
    refine gg_cong fun p q _ _ => gi_if ?_ 1 0
    rw [e]
    by_cases k : gOn x0 y0 x1 y1 p q ∨ gOn x1 y1 x2 y2 p q ∨ gOn x2 y2 x0 y0 p q
    · rw [if_pos k]; exact ⟨fun _ => k, fun _ => rfl⟩
    · rw [if_neg k]; exact ⟨fun h => absurd h (by decide), fun h => absurd h k⟩
  · refine gg_zero fun p q _ _ => if_neg ?_
    rw [e]
    by_cases k : gOn x0 y0 x1 y1 p q ∨ gOn x1 y1 x2 y2 p q ∨ gOn x2 y2 x0 y0 p q
    · rw [if_pos k]; decide
    · rw [if_neg k]; decide
theorem gF_tri {x0 y0 x1 y1 x2 y2 : Int} (a0 : gIn x0) (b0 : gIn y0) (a1 : gIn x1) (b1 : gIn y1) (a2 : gIn x2) (b2 : gIn y2) (hs : gT x0 y0 x1 y1 x2 y2 ≠ 0) :
    gg (fun p q => if gPl x0 y0 x1 y1 x2 y2 p q = 1 then 1 else 0) = (Int.gcd (x1 - x0) (y1 - y0) : Int) + (Int.gcd (x2 - x1) (y2 - y1) : Int) + (Int.gcd (x0 - x2) (y0 - y2) : Int)
    ∧ 2 * gg (fun p q => if gPl x0 y0 x1 y1 x2 y2 p q = 2 then 1 else 0) + gg (fun p q => if gPl x0 y0 x1 y1 x2 y2 p q = 1 then 1 else 0) - 2 = ((gT x0 y0 x1 y1 x2 y2).natAbs : Int) := by
  obtain ⟨e, he, hp, hk⟩ : ∃ e : Int, (e = 1 ∨ e = -1) ∧ 0 < e * gT x0 y0 x1 y1 x2 y2 ∧ ∀ p q : Int, gPl x0 y0 x1 y1 x2 y2 p q = gK (e * gT x0 y0 x1 y1 p q) (e * gT x1 y1 x2 y2 p q) (e * gT x2 y2 x0 y0 p q) := by
    rcases Int.lt_or_gt_of_ne hs with k | k
    · refine ⟨-1, Or.inr rfl, by omega, fun p q => ?_⟩
      unfold gPl
      rw [if_pos k, Int.neg_one_mul, Int.neg_one_mul, Int.neg_one_mul]
    · refine ⟨1, Or.inl rfl, by omega, fun p q => ?_⟩
      unfold gPl
      rw [if_neg (by omega), if_neg (by omega), Int.one_mul, Int.one_mul, Int.one_mul]
  have h1 := gt_edge a0 b0 a1 b1 a2 b2 he hp
  have h2 := gt_pick a0 b0 a1 b1 a2 b2 he hp
  have c1 : gg (fun p q => if gPl x0 y0 x1 y1 x2 y2 p q = 1 then 1 else 0) = gg (fun p q => if gK (e * gT x0 y0 x1 y1 p q) (e * gT x1 y1 x2 y2 p q) (e * gT x2 y2 x0 y0 p q) = 1 then 1 else 0) := gg_cong fun p q _ _ => by rw [hk]
  have c2 : gg (fun p q => if gPl x0 y0 x1 y1 x2 y2 p q = 2 then 1 else 0) = gg (fun p q => if gK (e * gT x0 y0 x1 y1 p q) (e * gT x1 y1 x2 y2 p q) (e * gT x2 y2 x0 y0 p q) = 2 then 1 else 0) := gg_cong fun p q _ _ => by rw [hk]
  rw [c1, c2]
  refine ⟨h1, ?_⟩
  have e3 : ((gT x0 y0 x1 y1 x2 y2).natAbs : Int) = e * gT x0 y0 x1 y1 x2 y2 := by
    rcases he with k | k <;> rw [k] at hp ⊢ <;> omega
  rw [e3]
  omega
end
section
/-! PURE: sums of a line cut to whole numbers -/
theorem gf_rev (f : Nat → Nat) : ∀ n : Nat, fb_sm (fun k => f (n - k)) (n + 1) = fb_sm f (n + 1)
  | 0 => rfl
  | n + 1 => by
    have h := gf_rev f n
    have e := fb_sm_split (fun k => f (n + 1 - k)) 1 (n + 1)
    rw [show 1 + (n + 1) = n + 1 + 1 by omega] at e
    rw [e, fb_sm_succ f (n + 1), ← h]
    have e1 : fb_sm (fun k => f (n + 1 - k)) 1 = f (n + 1) := by
      show 0 + f (n + 1 - 0) = f (n + 1)
      rw [Nat.zero_add, Nat.sub_zero]
    have e2 : fb_sm (fun k => f (n + 1 - (1 + k))) (n + 1) = fb_sm (fun k => f (n - k)) (n + 1) :=
      fb_sm_cong fun k hk => by rw [show n + 1 - (1 + k) = n - k by omega]
    rw [e1, e2, Nat.add_comm]
theorem gf_rev1 (f : Nat → Nat) (n : Nat) : fb_sm f n = fb_sm (fun k => f (n - 1 - k)) n := by
  cases n with
  | zero => rfl
  | succ n =>
    rw [← gf_rev f n]
    exact fb_sm_cong fun k _ => by rw [Nat.add_sub_cancel]
theorem gf_zero {f : Nat → Nat} : ∀ {n : Nat}, (∀ k, k < n → f k = 0) → fb_sm f n = 0
  | 0, _ => rfl
  | n + 1, h => by rw [fb_sm_succ, gf_zero (fun k hk => h k (by omega)), h n (by omega)]
theorem gf_swap (f : Nat → Nat → Nat) (n : Nat) : ∀ m : Nat, fb_sm (fun i => fb_sm (fun j => f i j) n) m = fb_sm (fun j => fb_sm (fun i => f i j) m) n
  | 0 => (gf_zero fun _ _ => rfl).symm
  | m + 1 => by
    rw [fb_sm_succ, gf_swap f n m, ← fb_sm_add]
    exact fb_sm_cong fun k _ => (fb_sm_succ _ _).symm
theorem gf_mulr (c : Nat) (f : Nat → Nat) : ∀ n : Nat, fb_sm (fun k => f k * c) n = fb_sm f n * c
  | 0 => (Nat.zero_mul c).symm
  | n + 1 => by rw [fb_sm_succ, fb_sm_succ, gf_mulr c f n, Nat.add_mul]
theorem gf_cnt {c : Nat} (hc : 0 < c) (N : Nat) : ∀ m : Nat, fb_sm (fun j => if c * (j + 1) ≤ N then 1 else 0) m = min m (N / c)
  | 0 => by rw [Nat.zero_min]; rfl
  | m + 1 => by
    rw [fb_sm_succ, gf_cnt hc N m]
    have h : c * (m + 1) ≤ N ↔ m + 1 ≤ N / c := by rw [Nat.le_div_iff_mul_le hc, Nat.mul_comm]
    by_cases k : c * (m + 1) ≤ N
    · rw [if_pos k]
      have := h.mp k
      omega
    · rw [if_neg k]
      have : ¬ m + 1 ≤ N / c := fun z => k (h.mpr z)
      omega
theorem gf_tri : ∀ n : Nat, fb_sm (fun i => i) n = (n - 1) * n / 2
  | 0 => rfl
  | n + 1 => by
    rw [fb_sm_succ, gf_tri n]
    cases n with
    | zero => rfl
    | succ k =>
      rw [Nat.add_sub_cancel, Nat.add_sub_cancel]
      have e : (k + 1) * (k + 1 + 1) = k * (k + 1) + (k + 1) * 2 := by grind
      rw [e, Nat.add_mul_div_right _ _ (by decide)]
/-- the sum of (a i + b) / c over i < n -/
def gFs (n a b c : Nat) : Nat := fb_sm (fun i => (a * i + b) / c) n
theorem gf_one {c : Nat} (hc : 0 < c) (n a b : Nat) : gFs n a b c = (n - 1) * n / 2 * (a / c) + n * (b / c) + gFs n (a % c) (b % c) c := by
  have h : ∀ i, i < n → (a * i + b) / c = i * (a / c) + (b / c + ((a % c) * i + b % c) / c) := by
    intro i _
    have e1 : a = c * (a / c) + a % c := (Nat.div_add_mod a c).symm
    have e2 : b = c * (b / c) + b % c := (Nat.div_add_mod b c).symm
    have e : a * i + b = c * (i * (a / c) + b / c) + ((a % c) * i + b % c) := by
      have f1 : a * i = c * (a / c) * i + (a % c) * i := by rw [← Nat.add_mul, ← e1]
      have f2 : c * (i * (a / c) + b / c) = c * (a / c) * i + c * (b / c) := by grind
      omega
    rw [e, Nat.mul_add_div hc, Nat.add_assoc]
  unfold gFs
  rw [fb_sm_cong h, fb_sm_add, gf_mulr, gf_tri, fb_sm_add, fb_sm_const, Nat.add_assoc]
theorem gf_two {n a b c m r : Nat} (ha : 0 < a) (hb : b < c) (h : a * n + b = c * m + r) (hr : r < c) : gFs n a b c = gFs m c r a := by
  have hc : 0 < c := by omega
  have s1 : ∀ i, i < n → (a * i + b) / c = fb_sm (fun j => if c * (j + 1) ≤ a * i + b then 1 else 0) m := by
    intro i hi
    rw [gf_cnt hc]
    have k : (a * i + b) / c ≤ m := by
      have l1 : a * i ≤ a * n := Nat.mul_le_mul_left a (by omega)
      have l2 : a * i + b < c * (m + 1) := by rw [Nat.mul_add, Nat.mul_one]; omega
      have l3 : (a * i + b) / c < m + 1 := Nat.div_lt_of_lt_mul l2
      omega
    omega
  have s2 : ∀ j, j < m → fb_sm (fun i => if c * (j + 1) ≤ a * i + b then 1 else 0) n = (c * (m - 1 - j) + r) / a := by
    intro j hj
    rw [gf_rev1]
    have l0 : c * (j + 1) + c * (m - 1 - j) = c * m := by rw [← Nat.mul_add, show j + 1 + (m - 1 - j) = m by omega]
    have s3 : fb_sm (fun k => if c * (j + 1) ≤ a * (n - 1 - k) + b then 1 else 0) n = fb_sm (fun k => if a * (k + 1) ≤ c * (m - 1 - j) + r then 1 else 0) n := by
      refine fb_sm_cong fun k hk => ?_
      have l1 : a * (n - 1 - k) + a * (k + 1) = a * n := by rw [← Nat.mul_add, show n - 1 - k + (k + 1) = n by omega]
      by_cases z : a * (k + 1) ≤ c * (m - 1 - j) + r
      · rw [if_pos z, if_pos (by omega)]
      · rw [if_neg z, if_neg (by omega)]
    rw [s3, gf_cnt ha]
    have k : (c * (m - 1 - j) + r) / a ≤ n := by
      have l2 : c ≤ c * (j + 1) := Nat.le_mul_of_pos_right c (by omega)
      have l3 : c * (m - 1 - j) + r < a * (n + 1) := by rw [Nat.mul_add, Nat.mul_one]; omega
      have := Nat.div_lt_of_lt_mul l3
      omega
    omega
  unfold gFs
  rw [fb_sm_cong s1, gf_swap, fb_sm_cong s2, gf_rev1]
  refine fb_sm_cong fun j hj => ?_
  rw [show m - 1 - (m - 1 - j) = j by omega]
theorem gf_done {n a b c : Nat} (h : a * n + b < c) : gFs n a b c = 0 := by
  refine gf_zero fun i hi => ?_
  have l1 : a * i ≤ a * n := Nat.mul_le_mul_left a (by omega)
  exact Nat.div_eq_of_lt (by omega)
theorem gf_none (a b c : Nat) : gFs 0 a b c = 0 := rfl
/-- what a round of the steps leaves -/
theorem gf_step {n a b c : Nat} (hc : 0 < c) (h : c ≤ (a % c) * n + b % c) :
    0 < a % c ∧ ((a % c) * n + b % c) / c ≤ n ∧ gFs n (a % c) (b % c) c = gFs (((a % c) * n + b % c) / c) c (((a % c) * n + b % c) % c) (a % c) := by
  have hb : b % c < c := Nat.mod_lt b hc
  have ha : a % c < c := Nat.mod_lt a hc
  have hp : 0 < a % c := by
    rcases Nat.eq_zero_or_pos (a % c) with z | z
    · rw [z, Nat.zero_mul] at h
      omega
    · exact z
  refine ⟨hp, ?_, ?_⟩
  · have l1 : (a % c) * n ≤ (c - 1) * n := Nat.mul_le_mul_right n (by omega)
    have l2 : (c - 1) * n + n = c * n := by
      have : (c - 1) * n + n = (c - 1 + 1) * n := by rw [Nat.add_mul, Nat.one_mul]
      rw [this, Nat.sub_add_cancel hc]
    have l3 : (a % c) * n + b % c < c * (n + 1) := by rw [Nat.mul_add, Nat.mul_one]; omega
    have := Nat.div_lt_of_lt_mul l3
    omega
  · exact gf_two hp hb (Nat.div_add_mod _ c).symm (Nat.mod_lt _ hc)
end
section
/-! PURE: how many below a number have nothing in common with it -/
def gPr (i : Nat) : Bool := [2, 3, 5, 7, 11, 13, 17, 19, 23, 29, 31, 37, 41, 43, 47, 53, 59, 61].contains i
/-- what stands at j when all i below the first number are done -/
def gA : Nat → Nat → Nat
  | 0, j => j
  | i + 1, j => if gPr i = true ∧ j % i = 0 then gA i j - gA i j / i else gA i j
theorem ga_two (j : Nat) : gA 2 j = j := by
  show (if gPr 1 = true ∧ j % 1 = 0 then gA 1 j - gA 1 j / 1 else gA 1 j) = j
  rw [if_neg (fun h => absurd h.1 (by decide))]
  show (if gPr 0 = true ∧ j % 0 = 0 then gA 0 j - gA 0 j / 0 else gA 0 j) = j
  rw [if_neg (fun h => absurd h.1 (by decide))]
  rfl
theorem ga_succ (i j : Nat) : gA (i + 1) j = if gPr i = true ∧ j % i = 0 then gA i j - gA i j / i else gA i j := rfl
theorem ga_le (j : Nat) : ∀ i : Nat, gA i j ≤ j
  | 0 => Nat.le_refl j
  | i + 1 => by
    have h := ga_le j i
    rw [ga_succ]
    split
    · exact Nat.le_trans (Nat.sub_le _ _) h
    · exact h
theorem ga_up {j : Nat} (hj : 0 < j) : ∀ d : Nat, gA (j + 1 + d) j = gA (j + 1) j
  | 0 => rfl
  | d + 1 => by
    have h := ga_up hj d
    show gA (j + 1 + d + 1) j = _
    rw [ga_succ, if_neg (fun k => by
      have := k.2
      rw [Nat.mod_eq_of_lt (by omega)] at this
      omega), h]
theorem ga_end {i j : Nat} (hj : 0 < j) (hi : j < i) (h65 : j < 65) : gA i j = gA 65 j := by
  have h1 := ga_up hj (i - (j + 1))
  have h2 := ga_up hj (65 - (j + 1))
  rw [show j + 1 + (i - (j + 1)) = i by omega] at h1
  rw [show j + 1 + (65 - (j + 1)) = 65 by omega] at h2
  rw [h1, h2]
theorem ga_fin1 : ∀ i : Fin 65, 2 ≤ i.val → (gA i.val i.val = i.val ↔ gPr i.val = true) := by decide +kernel
theorem ga_pr {i : Nat} (h2 : 2 ≤ i) (h : i < 65) : gA i i = i ↔ gPr i = true := ga_fin1 ⟨i, h⟩ h2
theorem ga_fin2 : ∀ n : Fin 65, 2 ≤ n.val → fb_sm (fun p => if Nat.gcd p n.val = 1 then 1 else 0) n.val = gA 65 n.val := by decide +kernel
/-- the pairs up to n with nothing in common -/
def gG (n : Nat) : Int := fb_si (fun p => fb_si (fun q => if Nat.gcd p q = 1 then 1 else 0) (n + 1)) (n + 1)
theorem gg_step (m : Nat) (h : 1 ≤ m) (h2 : m + 1 < 65) : gG (m + 1) = gG m + 2 * (gA 65 (m + 1) : Int) := by
  have hc : fb_si (fun p => if Nat.gcd p (m + 1) = 1 then 1 else 0) (m + 1) = (gA 65 (m + 1) : Int) := by
    have k := ga_fin2 ⟨m + 1, h2⟩ (by show 2 ≤ m + 1; omega)
    have k2 : fb_sm (fun p => if Nat.gcd p (m + 1) = 1 then 1 else 0) (m + 1) = gA 65 (m + 1) := k
    rw [← k2, ← fb_si_nat]
    refine fb_si_cong fun p _ => ?_
    by_cases z : Nat.gcd p (m + 1) = 1
    · rw [if_pos z, if_pos z]; rfl
    · rw [if_neg z, if_neg z]; rfl
  have hr : fb_si (fun q => if Nat.gcd (m + 1) q = 1 then 1 else 0) (m + 1 + 1) = (gA 65 (m + 1) : Int) := by
    rw [fb_si_succ, if_neg (by rw [Nat.gcd_self]; omega), Int.add_zero, ← hc]
    exact fb_si_cong fun q _ => gi_if (show Nat.gcd (m + 1) q = 1 ↔ Nat.gcd q (m + 1) = 1 by rw [Nat.gcd_comm]) 1 0
  unfold gG
  rw [fb_si_succ (fun p => fb_si (fun q => if Nat.gcd p q = 1 then 1 else 0) (m + 1 + 1)) (m + 1), hr]
  have e : fb_si (fun p => fb_si (fun q => if Nat.gcd p q = 1 then 1 else 0) (m + 1 + 1)) (m + 1) = fb_si (fun p => fb_si (fun q => if Nat.gcd p q = 1 then 1 else 0) (m + 1) + (if Nat.gcd p (m + 1) = 1 then 1 else 0)) (m + 1) := fb_si_cong fun p _ => fb_si_succ _ _
  rw [e, fb_si_add, hc]
  omega
theorem gg_all : ∀ m : Nat, m + 1 < 65 → gG (m + 1) = 1 + fb_si (fun j => 2 * (gA 65 (j + 1) : Int)) (m + 1)
  | 0, _ => by decide +kernel
  | m + 1, h => by
    rw [gg_step (m + 1) (by omega) h, gg_all m (by omega), fb_si_succ (fun j => 2 * (gA 65 (j + 1) : Int)) (m + 1)]
    omega
theorem gg_seen {m : Nat} (h1 : 1 ≤ m) (h2 : m < 65) : gG m = 1 + fb_si (fun j => 2 * (gA (m + 1) (j + 1) : Int)) m := by
  obtain ⟨k, rfl⟩ : ∃ k, m = k + 1 := ⟨m - 1, by omega⟩
  rw [gg_all k h2]
  have e : fb_si (fun j => 2 * (gA 65 (j + 1) : Int)) (k + 1) = fb_si (fun j => 2 * (gA (k + 1 + 1) (j + 1) : Int)) (k + 1) := fb_si_cong fun j hj => by
    rw [ga_end (i := k + 1 + 1) (j := j + 1) (by omega) (by omega) (by omega)]
  rw [e]
end
section
-- ===== PART A: goes FIRST, ahead of the names: the tables' words, and 'selects' of the private methods out of them =====
/-- a private method of a class that the tables say can be made, by its rows of tables_1 -/
def lw_okq (q : MethodName × Nat) : Prop := (q.1.cls ≠ "java/lang/invoke/MethodHandle" ∧ q.1.cls ≠ "java/lang/invoke/VarHandle") ∧ Cond.instantiable q.1.cls q.2 ∈ tables_1 ∧ Cond.privateMethod q.1 ∈ tables_1 ∧ Cond.instanceMethod q.1 ∈ tables_1
set_option maxRecDepth 100000
theorem lw_p0 : lw_okq (⟨"GridPoints", "steps", "(I)I"⟩, 3) := ⟨⟨by decide +kernel, by decide +kernel⟩, List.mem_of_getElem? (i := 6) rfl, List.mem_of_getElem? (i := 44) rfl, List.mem_of_getElem? (i := 45) rfl⟩
theorem lw_p1 : lw_okq (⟨"GridPointsModel", "count", "(I)I"⟩, 2) := ⟨⟨by decide +kernel, by decide +kernel⟩, List.mem_of_getElem? (i := 77) rfl, List.mem_of_getElem? (i := 99) rfl, List.mem_of_getElem? (i := 100) rfl⟩
theorem lw_p2 : lw_okq (⟨"GridPointsModel", "place", "(II)I"⟩, 2) := ⟨⟨by decide +kernel, by decide +kernel⟩, List.mem_of_getElem? (i := 77) rfl, List.mem_of_getElem? (i := 103) rfl, List.mem_of_getElem? (i := 104) rfl⟩
theorem lw_p3 : lw_okq (⟨"GridPointsModel", "turn", "(IIII)I"⟩, 2) := ⟨⟨by decide +kernel, by decide +kernel⟩, List.mem_of_getElem? (i := 77) rfl, List.mem_of_getElem? (i := 107) rfl, List.mem_of_getElem? (i := 108) rfl⟩
def lw_privs_1 : List (MethodName × Nat) := [(⟨"GridPoints", "steps", "(I)I"⟩, 3), (⟨"GridPointsModel", "count", "(I)I"⟩, 2), (⟨"GridPointsModel", "place", "(II)I"⟩, 2), (⟨"GridPointsModel", "turn", "(IIII)I"⟩, 2)]
theorem lw_r1 : ∀ q ∈ lw_privs_1, lw_okq q := List.forall_mem_cons.mpr ⟨lw_p0, List.forall_mem_cons.mpr ⟨lw_p1, List.forall_mem_cons.mpr ⟨lw_p2, List.forall_mem_cons.mpr ⟨lw_p3, fun _ h => absurd h List.not_mem_nil⟩⟩⟩⟩
def lw_privs : List (MethodName × Nat) := lw_privs_1
def lw_tbl : List Cond := k2_sels lw_privs ++ tables_1
theorem lw_privs_ok : ∀ q ∈ lw_privs, lw_okq q := lw_r1
-- ===== ONE list of words for every method: the tables' words that hold all through a run =====
def lw_all : List Cond := lw_tbl.filter goodWord
/-- a word of the tables by its place: claim/WORDS.tsv -/
theorem lw_w {w : Cond} (i : Nat) (h : lw_tbl[i]? = some w) (g : goodWord w = true) : w ∈ lw_all := List.mem_filter.mpr ⟨List.mem_of_getElem? h, g⟩
theorem lw_all_tbl {w : Cond} (h : w ∈ lw_all) : w ∈ lw_tbl := (List.mem_filter.mp h).1
theorem lw_self : GoodIn lw_all lw_all := fun w h => ⟨h, good_of_word (List.mem_filter.mp h).2⟩
/-- a class's field words, by their places -/
theorem lw_in (ws : List Cond) (ps : List Nat) (hp : ws = ps.filterMap (fun i => lw_tbl[i]?)) (hg : ws.all goodWord = true) : ∀ w ∈ ws, w ∈ lw_all := by
  intro w h
  have h1 := List.all_eq_true.mp hg w h
  rw [hp] at h
  obtain ⟨i, -, hi⟩ := List.mem_filterMap.mp h
  exact lw_w i hi h1
/-- the words of a contract for the method y with code b, L locals, answer r -/
abbrev ws_ (y : MethodName) (b : ByteArray) (L : Nat) (r : Option FieldType) : List Cond := Cond.code y b L r :: lw_all
theorem lw_meth {y : MethodName} {b : ByteArray} {L : Nat} {r : Option FieldType} (h : Cond.code y b L r ∈ lw_all) : GoodIn lw_all (ws_ y b L r) := by
  intro w hw
  rcases List.mem_cons.mp hw with e | e
  · rw [e]
    exact lw_self _ h
  · exact lw_self _ e
theorem lw_app {a c : List Cond} (ha : ∀ w ∈ a, w ∈ lw_all) (hc : GoodIn lw_all c) : GoodIn lw_all (a ++ c) := by
  intro w hw
  rcases List.mem_append.mp hw with e | e
  · exact lw_self w (ha w e)
  · exact hc w e
/-- what a call through an object asks: cwV n hts (lw_V ..) -/
theorem lw_V {own : String} {idx : Nat} {C : String} {y : MethodName} {b : ByteArray} {L : Nat} {r : Option FieldType} (h1 : Cond.methodLink own idx y ∈ lw_all) (h2 : Cond.instanceMethod y ∈ lw_all) (h3 : Cond.selects C y y ∈ lw_all) (h4 : Cond.initialized C ∈ lw_all) (h5 : Cond.code y b L r ∈ lw_all) : GoodIn lw_all (wsV own idx C y (ws_ y b L r)) := by
  refine lw_app ?_ (lw_meth h5)
  intro w hw
  simp only [List.mem_cons, List.not_mem_nil, or_false] at hw
  rcases hw with e | e | e | e
  · rw [e]; exact h1
  · rw [e]; exact h2
  · rw [e]; exact h3
  · rw [e]; exact h4
/-- what a static call asks: va_cwS n hts (lw_S ..) -/
theorem lw_S {own : String} {idx : Nat} {y : MethodName} {b : ByteArray} {L : Nat} {r : Option FieldType} (h1 : Cond.methodLink own idx y ∈ lw_all) (h2 : Cond.static y ∈ lw_all) (h3 : Cond.initialized y.cls ∈ lw_all) (h4 : Cond.code y b L r ∈ lw_all) : GoodIn lw_all (va_wsS own idx y (ws_ y b L r)) := by
  refine lw_app ?_ (lw_meth h4)
  intro w hw
  simp only [List.mem_cons, List.not_mem_nil, or_false] at hw
  rcases hw with e | e | e
  · rw [e]; exact h1
  · rw [e]; exact h2
  · rw [e]; exact h3
/-- the words of a contract for a method WITH HANDLERS (hh: its table) -/
abbrev wsW_ (y : MethodName) (b : ByteArray) (L : Nat) (r : Option FieldType) (hh : List (Nat × Nat × Nat × Nat)) : List Cond := Cond.codeWith y b L r hh :: lw_all
theorem lw_methW {y : MethodName} {b : ByteArray} {L : Nat} {r : Option FieldType} {hh : List (Nat × Nat × Nat × Nat)} (h : Cond.codeWith y b L r hh ∈ lw_all) : GoodIn lw_all (wsW_ y b L r hh) := by
  intro w hw
  rcases List.mem_cons.mp hw with e | e
  · rw [e]
    exact lw_self _ h
  · exact lw_self _ e
/-- any list of words by their places (lw_in), good -/
theorem lw_good {ws : List Cond} (h : ∀ w ∈ ws, w ∈ lw_all) : GoodIn lw_all ws := fun w hw => lw_self w (h w hw)
/-- what a call of a method with handlers asks: vx_cwVW n hts (lw_VW ..), vx_cwSW n hts (lw_SW ..) -/
theorem lw_VW {own : String} {idx : Nat} {C : String} {y : MethodName} {b : ByteArray} {L : Nat} {r : Option FieldType} {hh : List (Nat × Nat × Nat × Nat)} (h1 : Cond.methodLink own idx y ∈ lw_all) (h2 : Cond.instanceMethod y ∈ lw_all) (h3 : Cond.selects C y y ∈ lw_all) (h4 : Cond.initialized C ∈ lw_all) (h5 : Cond.codeWith y b L r hh ∈ lw_all) : GoodIn lw_all (wsV own idx C y (wsW_ y b L r hh)) := by
  refine lw_app ?_ (lw_methW h5)
  intro w hw
  simp only [List.mem_cons, List.not_mem_nil, or_false] at hw
  rcases hw with e | e | e | e
  · rw [e]; exact h1
  · rw [e]; exact h2
  · rw [e]; exact h3
  · rw [e]; exact h4
theorem lw_SW {own : String} {idx : Nat} {y : MethodName} {b : ByteArray} {L : Nat} {r : Option FieldType} {hh : List (Nat × Nat × Nat × Nat)} (h1 : Cond.methodLink own idx y ∈ lw_all) (h2 : Cond.static y ∈ lw_all) (h3 : Cond.initialized y.cls ∈ lw_all) (h4 : Cond.codeWith y b L r hh ∈ lw_all) : GoodIn lw_all (va_wsS own idx y (wsW_ y b L r hh)) := by
  refine lw_app ?_ (lw_methW h4)
  intro w hw
  simp only [List.mem_cons, List.not_mem_nil, or_false] at hw
  rcases hw with e | e | e
  · rw [e]; exact h1
  · rw [e]; exact h2
  · rw [e]; exact h3
/-- a word by its place in its run of the tables -/
theorem lw_at {r : List Cond} (hr : ∀ w ∈ r, w ∈ lw_tbl) {w : Cond} (i : Nat) (h : r[i]? = some w) : w ∈ lw_tbl := hr w (List.mem_of_getElem? h)
theorem lw_g {w : Cond} (h : w ∈ lw_tbl) (g : goodWord w = true) : w ∈ lw_all := List.mem_filter.mpr ⟨h, g⟩
theorem lw_ms : ∀ w ∈ k2_sels lw_privs, w ∈ lw_tbl := fun w h => show w ∈ k2_sels lw_privs ++ tables_1 from List.mem_append_left _ h
theorem lw_m0 : ∀ w ∈ tables_1, w ∈ lw_tbl := fun w h => show w ∈ k2_sels lw_privs ++ tables_1 from List.mem_append_right (k2_sels lw_privs) h
theorem qs0 : (Cond.selects "GridPoints" ⟨"GridPoints", "steps", "(I)I"⟩ ⟨"GridPoints", "steps", "(I)I"⟩) ∈ lw_all := lw_g (lw_at lw_ms 0 rfl) rfl
theorem qs1 : (Cond.selects "GridPointsModel" ⟨"GridPointsModel", "count", "(I)I"⟩ ⟨"GridPointsModel", "count", "(I)I"⟩) ∈ lw_all := lw_g (lw_at lw_ms 1 rfl) rfl
theorem qs2 : (Cond.selects "GridPointsModel" ⟨"GridPointsModel", "place", "(II)I"⟩ ⟨"GridPointsModel", "place", "(II)I"⟩) ∈ lw_all := lw_g (lw_at lw_ms 2 rfl) rfl
theorem qs3 : (Cond.selects "GridPointsModel" ⟨"GridPointsModel", "turn", "(IIII)I"⟩ ⟨"GridPointsModel", "turn", "(IIII)I"⟩) ∈ lw_all := lw_g (lw_at lw_ms 3 rfl) rfl
end
section
/-! GridPoints -/
set_option maxRecDepth 100000
def RX0 : String := "GridPoints"
def TX0 : u_T := fun k => match k with
  | 0 => ("GridPoints", "x", "[I", true)
  | 1 => ("GridPoints", "y", "[I", true)
  | _ => ("GridPoints", "alone", "[I", true)
def tyX0 : Nat → FieldType := fun k => match k with
  | 0 => .array .int
  | 1 => .array .int
  | _ => .array .int
abbrev wsX00 : List Cond := u_ws RX0 TX0 3
theorem nmX0 : ∀ a, a < 3 → ∀ b, b < 3 → a ≠ b → (TX0 a).2.1 ≠ (TX0 b).2.1 := by decide +kernel
theorem tyX0_ok : ∀ k, k < 3 → parseFieldDescriptor (TX0 k).2.2.1 = some (tyX0 k) := by decide +kernel
abbrev cX0_init : ByteArray := prog_1_method_1_code
def yX0_init : MethodName := ⟨RX0, "<init>", "()V"⟩
theorem dX0_init_0 : decode cX0_init 0 = .ok (.aload_n 0, 1) := by decide +kernel
theorem dX0_init_1 : decode cX0_init 1 = .ok (.invokespecial 1, 3) := by decide +kernel
theorem dX0_init_4 : decode cX0_init 4 = .ok (.aload_n 0, 1) := by decide +kernel
theorem dX0_init_5 : decode cX0_init 5 = .ok (.iconst 3, 1) := by decide +kernel
theorem dX0_init_6 : decode cX0_init 6 = .ok (.newarray .int, 2) := by decide +kernel
theorem dX0_init_8 : decode cX0_init 8 = .ok (.putfield 9, 3) := by decide +kernel
theorem dX0_init_11 : decode cX0_init 11 = .ok (.aload_n 0, 1) := by decide +kernel
theorem dX0_init_12 : decode cX0_init 12 = .ok (.iconst 3, 1) := by decide +kernel
theorem dX0_init_13 : decode cX0_init 13 = .ok (.newarray .int, 2) := by decide +kernel
theorem dX0_init_15 : decode cX0_init 15 = .ok (.putfield 13, 3) := by decide +kernel
theorem dX0_init_18 : decode cX0_init 18 = .ok (.aload_n 0, 1) := by decide +kernel
theorem dX0_init_19 : decode cX0_init 19 = .ok (.bipush 65, 2) := by decide +kernel
theorem dX0_init_21 : decode cX0_init 21 = .ok (.newarray .int, 2) := by decide +kernel
theorem dX0_init_23 : decode cX0_init 23 = .ok (.putfield 16, 3) := by decide +kernel
theorem dX0_init_26 : decode cX0_init 26 = .ok (.return_, 1) := by decide +kernel
abbrev cX0_corner : ByteArray := prog_1_method_3_code
def yX0_corner : MethodName := ⟨RX0, "corner", "(III)V"⟩
theorem dX0_corner_0 : decode cX0_corner 0 = .ok (.iload_n 1, 1) := by decide +kernel
theorem dX0_corner_1 : decode cX0_corner 1 = .ok (.invokestatic 22, 3) := by decide +kernel
theorem dX0_corner_4 : decode cX0_corner 4 = .ok (.istore 4, 2) := by decide +kernel
theorem dX0_corner_6 : decode cX0_corner 6 = .ok (.aload_n 0, 1) := by decide +kernel
theorem dX0_corner_7 : decode cX0_corner 7 = .ok (.getfield 9, 3) := by decide +kernel
theorem dX0_corner_10 : decode cX0_corner 10 = .ok (.iload 4, 2) := by decide +kernel
theorem dX0_corner_12 : decode cX0_corner 12 = .ok (.iload_n 2, 1) := by decide +kernel
theorem dX0_corner_13 : decode cX0_corner 13 = .ok (.bipush 31, 2) := by decide +kernel
theorem dX0_corner_15 : decode cX0_corner 15 = .ok (.iand, 1) := by decide +kernel
theorem dX0_corner_16 : decode cX0_corner 16 = .ok (.iastore, 1) := by decide +kernel
theorem dX0_corner_17 : decode cX0_corner 17 = .ok (.aload_n 0, 1) := by decide +kernel
theorem dX0_corner_18 : decode cX0_corner 18 = .ok (.getfield 13, 3) := by decide +kernel
theorem dX0_corner_21 : decode cX0_corner 21 = .ok (.iload 4, 2) := by decide +kernel
theorem dX0_corner_23 : decode cX0_corner 23 = .ok (.iload_n 3, 1) := by decide +kernel
theorem dX0_corner_24 : decode cX0_corner 24 = .ok (.bipush 31, 2) := by decide +kernel
theorem dX0_corner_26 : decode cX0_corner 26 = .ok (.iand, 1) := by decide +kernel
theorem dX0_corner_27 : decode cX0_corner 27 = .ok (.iastore, 1) := by decide +kernel
theorem dX0_corner_28 : decode cX0_corner 28 = .ok (.return_, 1) := by decide +kernel
abbrev cX0_number : ByteArray := prog_1_method_2_code
def yX0_number : MethodName := ⟨RX0, "number", "(I)I"⟩
theorem dX0_number_0 : decode cX0_number 0 = .ok (.iload_n 0, 1) := by decide +kernel
theorem dX0_number_1 : decode cX0_number 1 = .ok (.ldc 21, 2) := by decide +kernel
theorem dX0_number_3 : decode cX0_number 3 = .ok (.iand, 1) := by decide +kernel
theorem dX0_number_4 : decode cX0_number 4 = .ok (.iconst 3, 1) := by decide +kernel
theorem dX0_number_5 : decode cX0_number 5 = .ok (.irem, 1) := by decide +kernel
theorem dX0_number_6 : decode cX0_number 6 = .ok (.ireturn, 1) := by decide +kernel
abbrev cX0_twiceArea : ByteArray := prog_1_method_5_code
def yX0_twiceArea : MethodName := ⟨RX0, "twiceArea", "()I"⟩
theorem dX0_twiceArea_0 : decode cX0_twiceArea 0 = .ok (.iconst 0, 1) := by decide +kernel
theorem dX0_twiceArea_1 : decode cX0_twiceArea 1 = .ok (.istore_n 1, 1) := by decide +kernel
theorem dX0_twiceArea_2 : decode cX0_twiceArea 2 = .ok (.iconst 0, 1) := by decide +kernel
theorem dX0_twiceArea_3 : decode cX0_twiceArea 3 = .ok (.istore_n 2, 1) := by decide +kernel
theorem dX0_twiceArea_4 : decode cX0_twiceArea 4 = .ok (.iload_n 2, 1) := by decide +kernel
theorem dX0_twiceArea_5 : decode cX0_twiceArea 5 = .ok (.iconst 3, 1) := by decide +kernel
theorem dX0_twiceArea_6 : decode cX0_twiceArea 6 = .ok (.if_icmp .ge 45, 3) := by decide +kernel
theorem dX0_twiceArea_9 : decode cX0_twiceArea 9 = .ok (.iload_n 2, 1) := by decide +kernel
theorem dX0_twiceArea_10 : decode cX0_twiceArea 10 = .ok (.iconst 1, 1) := by decide +kernel
theorem dX0_twiceArea_11 : decode cX0_twiceArea 11 = .ok (.iadd, 1) := by decide +kernel
theorem dX0_twiceArea_12 : decode cX0_twiceArea 12 = .ok (.iconst 3, 1) := by decide +kernel
theorem dX0_twiceArea_13 : decode cX0_twiceArea 13 = .ok (.irem, 1) := by decide +kernel
theorem dX0_twiceArea_14 : decode cX0_twiceArea 14 = .ok (.istore_n 3, 1) := by decide +kernel
theorem dX0_twiceArea_15 : decode cX0_twiceArea 15 = .ok (.iload_n 1, 1) := by decide +kernel
theorem dX0_twiceArea_16 : decode cX0_twiceArea 16 = .ok (.aload_n 0, 1) := by decide +kernel
theorem dX0_twiceArea_17 : decode cX0_twiceArea 17 = .ok (.getfield 9, 3) := by decide +kernel
theorem dX0_twiceArea_20 : decode cX0_twiceArea 20 = .ok (.iload_n 2, 1) := by decide +kernel
theorem dX0_twiceArea_21 : decode cX0_twiceArea 21 = .ok (.iaload, 1) := by decide +kernel
theorem dX0_twiceArea_22 : decode cX0_twiceArea 22 = .ok (.aload_n 0, 1) := by decide +kernel
theorem dX0_twiceArea_23 : decode cX0_twiceArea 23 = .ok (.getfield 13, 3) := by decide +kernel
theorem dX0_twiceArea_26 : decode cX0_twiceArea 26 = .ok (.iload_n 3, 1) := by decide +kernel
theorem dX0_twiceArea_27 : decode cX0_twiceArea 27 = .ok (.iaload, 1) := by decide +kernel
theorem dX0_twiceArea_28 : decode cX0_twiceArea 28 = .ok (.imul, 1) := by decide +kernel
theorem dX0_twiceArea_29 : decode cX0_twiceArea 29 = .ok (.aload_n 0, 1) := by decide +kernel
theorem dX0_twiceArea_30 : decode cX0_twiceArea 30 = .ok (.getfield 9, 3) := by decide +kernel
theorem dX0_twiceArea_33 : decode cX0_twiceArea 33 = .ok (.iload_n 3, 1) := by decide +kernel
theorem dX0_twiceArea_34 : decode cX0_twiceArea 34 = .ok (.iaload, 1) := by decide +kernel
theorem dX0_twiceArea_35 : decode cX0_twiceArea 35 = .ok (.aload_n 0, 1) := by decide +kernel
theorem dX0_twiceArea_36 : decode cX0_twiceArea 36 = .ok (.getfield 13, 3) := by decide +kernel
theorem dX0_twiceArea_39 : decode cX0_twiceArea 39 = .ok (.iload_n 2, 1) := by decide +kernel
theorem dX0_twiceArea_40 : decode cX0_twiceArea 40 = .ok (.iaload, 1) := by decide +kernel
theorem dX0_twiceArea_41 : decode cX0_twiceArea 41 = .ok (.imul, 1) := by decide +kernel
theorem dX0_twiceArea_42 : decode cX0_twiceArea 42 = .ok (.isub, 1) := by decide +kernel
theorem dX0_twiceArea_43 : decode cX0_twiceArea 43 = .ok (.iadd, 1) := by decide +kernel
theorem dX0_twiceArea_44 : decode cX0_twiceArea 44 = .ok (.istore_n 1, 1) := by decide +kernel
theorem dX0_twiceArea_45 : decode cX0_twiceArea 45 = .ok (.iinc 2 1, 3) := by decide +kernel
theorem dX0_twiceArea_48 : decode cX0_twiceArea 48 = .ok (.goto (-44), 3) := by decide +kernel
theorem dX0_twiceArea_51 : decode cX0_twiceArea 51 = .ok (.iload_n 1, 1) := by decide +kernel
theorem dX0_twiceArea_52 : decode cX0_twiceArea 52 = .ok (.invokestatic 32, 3) := by decide +kernel
theorem dX0_twiceArea_55 : decode cX0_twiceArea 55 = .ok (.ireturn, 1) := by decide +kernel
abbrev cX0_side : ByteArray := prog_1_method_6_code
def yX0_side : MethodName := ⟨RX0, "side", "(I)I"⟩
theorem dX0_side_0 : decode cX0_side 0 = .ok (.aload_n 0, 1) := by decide +kernel
theorem dX0_side_1 : decode cX0_side 1 = .ok (.iload_n 1, 1) := by decide +kernel
theorem dX0_side_2 : decode cX0_side 2 = .ok (.invokestatic 22, 3) := by decide +kernel
theorem dX0_side_5 : decode cX0_side 5 = .ok (.invokevirtual 37, 3) := by decide +kernel
theorem dX0_side_8 : decode cX0_side 8 = .ok (.iconst 1, 1) := by decide +kernel
theorem dX0_side_9 : decode cX0_side 9 = .ok (.iadd, 1) := by decide +kernel
theorem dX0_side_10 : decode cX0_side 10 = .ok (.ireturn, 1) := by decide +kernel
abbrev cX0_steps : ByteArray := prog_1_method_4_code
def yX0_steps : MethodName := ⟨RX0, "steps", "(I)I"⟩
theorem dX0_steps_0 : decode cX0_steps 0 = .ok (.iload_n 1, 1) := by decide +kernel
theorem dX0_steps_1 : decode cX0_steps 1 = .ok (.iconst 1, 1) := by decide +kernel
theorem dX0_steps_2 : decode cX0_steps 2 = .ok (.iadd, 1) := by decide +kernel
theorem dX0_steps_3 : decode cX0_steps 3 = .ok (.iconst 3, 1) := by decide +kernel
theorem dX0_steps_4 : decode cX0_steps 4 = .ok (.irem, 1) := by decide +kernel
theorem dX0_steps_5 : decode cX0_steps 5 = .ok (.istore_n 2, 1) := by decide +kernel
theorem dX0_steps_6 : decode cX0_steps 6 = .ok (.aload_n 0, 1) := by decide +kernel
theorem dX0_steps_7 : decode cX0_steps 7 = .ok (.getfield 9, 3) := by decide +kernel
theorem dX0_steps_10 : decode cX0_steps 10 = .ok (.iload_n 2, 1) := by decide +kernel
theorem dX0_steps_11 : decode cX0_steps 11 = .ok (.iaload, 1) := by decide +kernel
theorem dX0_steps_12 : decode cX0_steps 12 = .ok (.aload_n 0, 1) := by decide +kernel
theorem dX0_steps_13 : decode cX0_steps 13 = .ok (.getfield 9, 3) := by decide +kernel
theorem dX0_steps_16 : decode cX0_steps 16 = .ok (.iload_n 1, 1) := by decide +kernel
theorem dX0_steps_17 : decode cX0_steps 17 = .ok (.iaload, 1) := by decide +kernel
theorem dX0_steps_18 : decode cX0_steps 18 = .ok (.isub, 1) := by decide +kernel
theorem dX0_steps_19 : decode cX0_steps 19 = .ok (.aload_n 0, 1) := by decide +kernel
theorem dX0_steps_20 : decode cX0_steps 20 = .ok (.getfield 13, 3) := by decide +kernel
theorem dX0_steps_23 : decode cX0_steps 23 = .ok (.iload_n 2, 1) := by decide +kernel
theorem dX0_steps_24 : decode cX0_steps 24 = .ok (.iaload, 1) := by decide +kernel
theorem dX0_steps_25 : decode cX0_steps 25 = .ok (.aload_n 0, 1) := by decide +kernel
theorem dX0_steps_26 : decode cX0_steps 26 = .ok (.getfield 13, 3) := by decide +kernel
theorem dX0_steps_29 : decode cX0_steps 29 = .ok (.iload_n 1, 1) := by decide +kernel
theorem dX0_steps_30 : decode cX0_steps 30 = .ok (.iaload, 1) := by decide +kernel
theorem dX0_steps_31 : decode cX0_steps 31 = .ok (.isub, 1) := by decide +kernel
theorem dX0_steps_32 : decode cX0_steps 32 = .ok (.invokestatic 26, 3) := by decide +kernel
theorem dX0_steps_35 : decode cX0_steps 35 = .ok (.ireturn, 1) := by decide +kernel
abbrev cX0_edge : ByteArray := prog_1_method_7_code
def yX0_edge : MethodName := ⟨RX0, "edge", "()I"⟩
theorem dX0_edge_0 : decode cX0_edge 0 = .ok (.iconst 0, 1) := by decide +kernel
theorem dX0_edge_1 : decode cX0_edge 1 = .ok (.istore_n 1, 1) := by decide +kernel
theorem dX0_edge_2 : decode cX0_edge 2 = .ok (.iconst 0, 1) := by decide +kernel
theorem dX0_edge_3 : decode cX0_edge 3 = .ok (.istore_n 2, 1) := by decide +kernel
theorem dX0_edge_4 : decode cX0_edge 4 = .ok (.iconst 0, 1) := by decide +kernel
theorem dX0_edge_5 : decode cX0_edge 5 = .ok (.istore_n 3, 1) := by decide +kernel
theorem dX0_edge_6 : decode cX0_edge 6 = .ok (.iload_n 3, 1) := by decide +kernel
theorem dX0_edge_7 : decode cX0_edge 7 = .ok (.iconst 3, 1) := by decide +kernel
theorem dX0_edge_8 : decode cX0_edge 8 = .ok (.if_icmp .ge 27, 3) := by decide +kernel
theorem dX0_edge_11 : decode cX0_edge 11 = .ok (.iload_n 1, 1) := by decide +kernel
theorem dX0_edge_12 : decode cX0_edge 12 = .ok (.aload_n 0, 1) := by decide +kernel
theorem dX0_edge_13 : decode cX0_edge 13 = .ok (.iload_n 3, 1) := by decide +kernel
theorem dX0_edge_14 : decode cX0_edge 14 = .ok (.invokevirtual 37, 3) := by decide +kernel
theorem dX0_edge_17 : decode cX0_edge 17 = .ok (.iadd, 1) := by decide +kernel
theorem dX0_edge_18 : decode cX0_edge 18 = .ok (.istore_n 1, 1) := by decide +kernel
theorem dX0_edge_19 : decode cX0_edge 19 = .ok (.iload_n 2, 1) := by decide +kernel
theorem dX0_edge_20 : decode cX0_edge 20 = .ok (.aload_n 0, 1) := by decide +kernel
theorem dX0_edge_21 : decode cX0_edge 21 = .ok (.iload_n 3, 1) := by decide +kernel
theorem dX0_edge_22 : decode cX0_edge 22 = .ok (.invokevirtual 37, 3) := by decide +kernel
theorem dX0_edge_25 : decode cX0_edge 25 = .ok (.invokestatic 40, 3) := by decide +kernel
theorem dX0_edge_28 : decode cX0_edge 28 = .ok (.istore_n 2, 1) := by decide +kernel
theorem dX0_edge_29 : decode cX0_edge 29 = .ok (.iinc 3 1, 3) := by decide +kernel
theorem dX0_edge_32 : decode cX0_edge 32 = .ok (.goto (-26), 3) := by decide +kernel
theorem dX0_edge_35 : decode cX0_edge 35 = .ok (.aload_n 0, 1) := by decide +kernel
theorem dX0_edge_36 : decode cX0_edge 36 = .ok (.invokevirtual 43, 3) := by decide +kernel
theorem dX0_edge_39 : decode cX0_edge 39 = .ok (.ifCond .ne 9, 3) := by decide +kernel
theorem dX0_edge_42 : decode cX0_edge 42 = .ok (.iload_n 2, 1) := by decide +kernel
theorem dX0_edge_43 : decode cX0_edge 43 = .ok (.iconst 1, 1) := by decide +kernel
theorem dX0_edge_44 : decode cX0_edge 44 = .ok (.iadd, 1) := by decide +kernel
theorem dX0_edge_45 : decode cX0_edge 45 = .ok (.goto 4, 3) := by decide +kernel
theorem dX0_edge_48 : decode cX0_edge 48 = .ok (.iload_n 1, 1) := by decide +kernel
theorem dX0_edge_49 : decode cX0_edge 49 = .ok (.ireturn, 1) := by decide +kernel
abbrev cX0_inside : ByteArray := prog_1_method_8_code
def yX0_inside : MethodName := ⟨RX0, "inside", "()I"⟩
theorem dX0_inside_0 : decode cX0_inside 0 = .ok (.aload_n 0, 1) := by decide +kernel
theorem dX0_inside_1 : decode cX0_inside 1 = .ok (.invokevirtual 43, 3) := by decide +kernel
theorem dX0_inside_4 : decode cX0_inside 4 = .ok (.ifCond .ne 7, 3) := by decide +kernel
theorem dX0_inside_7 : decode cX0_inside 7 = .ok (.iconst 0, 1) := by decide +kernel
theorem dX0_inside_8 : decode cX0_inside 8 = .ok (.goto 16, 3) := by decide +kernel
theorem dX0_inside_11 : decode cX0_inside 11 = .ok (.aload_n 0, 1) := by decide +kernel
theorem dX0_inside_12 : decode cX0_inside 12 = .ok (.invokevirtual 43, 3) := by decide +kernel
theorem dX0_inside_15 : decode cX0_inside 15 = .ok (.aload_n 0, 1) := by decide +kernel
theorem dX0_inside_16 : decode cX0_inside 16 = .ok (.invokevirtual 47, 3) := by decide +kernel
theorem dX0_inside_19 : decode cX0_inside 19 = .ok (.isub, 1) := by decide +kernel
theorem dX0_inside_20 : decode cX0_inside 20 = .ok (.iconst 2, 1) := by decide +kernel
theorem dX0_inside_21 : decode cX0_inside 21 = .ok (.iadd, 1) := by decide +kernel
theorem dX0_inside_22 : decode cX0_inside 22 = .ok (.iconst 2, 1) := by decide +kernel
theorem dX0_inside_23 : decode cX0_inside 23 = .ok (.idiv, 1) := by decide +kernel
theorem dX0_inside_24 : decode cX0_inside 24 = .ok (.ireturn, 1) := by decide +kernel
abbrev cX0_under : ByteArray := prog_1_method_9_code
def yX0_under : MethodName := ⟨RX0, "under", "(IIII)J"⟩
theorem dX0_under_0 : decode cX0_under 0 = .ok (.iload_n 1, 1) := by decide +kernel
theorem dX0_under_1 : decode cX0_under 1 = .ok (.sipush 255, 3) := by decide +kernel
theorem dX0_under_4 : decode cX0_under 4 = .ok (.iand, 1) := by decide +kernel
theorem dX0_under_5 : decode cX0_under 5 = .ok (.i2l, 1) := by decide +kernel
theorem dX0_under_6 : decode cX0_under 6 = .ok (.iload_n 2, 1) := by decide +kernel
theorem dX0_under_7 : decode cX0_under 7 = .ok (.sipush 1023, 3) := by decide +kernel
theorem dX0_under_10 : decode cX0_under 10 = .ok (.iand, 1) := by decide +kernel
theorem dX0_under_11 : decode cX0_under 11 = .ok (.i2l, 1) := by decide +kernel
theorem dX0_under_12 : decode cX0_under 12 = .ok (.iload_n 3, 1) := by decide +kernel
theorem dX0_under_13 : decode cX0_under 13 = .ok (.sipush 1023, 3) := by decide +kernel
theorem dX0_under_16 : decode cX0_under 16 = .ok (.iand, 1) := by decide +kernel
theorem dX0_under_17 : decode cX0_under 17 = .ok (.i2l, 1) := by decide +kernel
theorem dX0_under_18 : decode cX0_under 18 = .ok (.iconst 1, 1) := by decide +kernel
theorem dX0_under_19 : decode cX0_under 19 = .ok (.iload 4, 2) := by decide +kernel
theorem dX0_under_21 : decode cX0_under 21 = .ok (.sipush 1023, 3) := by decide +kernel
theorem dX0_under_24 : decode cX0_under 24 = .ok (.iand, 1) := by decide +kernel
theorem dX0_under_25 : decode cX0_under 25 = .ok (.iadd, 1) := by decide +kernel
theorem dX0_under_26 : decode cX0_under 26 = .ok (.i2l, 1) := by decide +kernel
theorem dX0_under_27 : decode cX0_under 27 = .ok (.invokestatic 50, 3) := by decide +kernel
theorem dX0_under_30 : decode cX0_under 30 = .ok (.lreturn, 1) := by decide +kernel
abbrev cX0_seen : ByteArray := prog_1_method_10_code
def yX0_seen : MethodName := ⟨RX0, "seen", "(I)I"⟩
theorem dX0_seen_0 : decode cX0_seen 0 = .ok (.iconst 1, 1) := by decide +kernel
theorem dX0_seen_1 : decode cX0_seen 1 = .ok (.iload_n 1, 1) := by decide +kernel
theorem dX0_seen_2 : decode cX0_seen 2 = .ok (.bipush 63, 2) := by decide +kernel
theorem dX0_seen_4 : decode cX0_seen 4 = .ok (.iand, 1) := by decide +kernel
theorem dX0_seen_5 : decode cX0_seen 5 = .ok (.iadd, 1) := by decide +kernel
theorem dX0_seen_6 : decode cX0_seen 6 = .ok (.istore_n 2, 1) := by decide +kernel
theorem dX0_seen_7 : decode cX0_seen 7 = .ok (.iconst 1, 1) := by decide +kernel
theorem dX0_seen_8 : decode cX0_seen 8 = .ok (.istore_n 3, 1) := by decide +kernel
theorem dX0_seen_9 : decode cX0_seen 9 = .ok (.iconst 1, 1) := by decide +kernel
theorem dX0_seen_10 : decode cX0_seen 10 = .ok (.istore 4, 2) := by decide +kernel
theorem dX0_seen_12 : decode cX0_seen 12 = .ok (.iload 4, 2) := by decide +kernel
theorem dX0_seen_14 : decode cX0_seen 14 = .ok (.iload_n 2, 1) := by decide +kernel
theorem dX0_seen_15 : decode cX0_seen 15 = .ok (.if_icmp .gt 18, 3) := by decide +kernel
theorem dX0_seen_18 : decode cX0_seen 18 = .ok (.aload_n 0, 1) := by decide +kernel
theorem dX0_seen_19 : decode cX0_seen 19 = .ok (.getfield 16, 3) := by decide +kernel
theorem dX0_seen_22 : decode cX0_seen 22 = .ok (.iload 4, 2) := by decide +kernel
theorem dX0_seen_24 : decode cX0_seen 24 = .ok (.iload 4, 2) := by decide +kernel
theorem dX0_seen_26 : decode cX0_seen 26 = .ok (.iastore, 1) := by decide +kernel
theorem dX0_seen_27 : decode cX0_seen 27 = .ok (.iinc 4 1, 3) := by decide +kernel
theorem dX0_seen_30 : decode cX0_seen 30 = .ok (.goto (-18), 3) := by decide +kernel
theorem dX0_seen_33 : decode cX0_seen 33 = .ok (.iconst 2, 1) := by decide +kernel
theorem dX0_seen_34 : decode cX0_seen 34 = .ok (.istore 4, 2) := by decide +kernel
theorem dX0_seen_36 : decode cX0_seen 36 = .ok (.iload 4, 2) := by decide +kernel
theorem dX0_seen_38 : decode cX0_seen 38 = .ok (.iload_n 2, 1) := by decide +kernel
theorem dX0_seen_39 : decode cX0_seen 39 = .ok (.if_icmp .gt 61, 3) := by decide +kernel
theorem dX0_seen_42 : decode cX0_seen 42 = .ok (.aload_n 0, 1) := by decide +kernel
theorem dX0_seen_43 : decode cX0_seen 43 = .ok (.getfield 16, 3) := by decide +kernel
theorem dX0_seen_46 : decode cX0_seen 46 = .ok (.iload 4, 2) := by decide +kernel
theorem dX0_seen_48 : decode cX0_seen 48 = .ok (.iaload, 1) := by decide +kernel
theorem dX0_seen_49 : decode cX0_seen 49 = .ok (.iload 4, 2) := by decide +kernel
theorem dX0_seen_51 : decode cX0_seen 51 = .ok (.if_icmp .ne 43, 3) := by decide +kernel
theorem dX0_seen_54 : decode cX0_seen 54 = .ok (.iload 4, 2) := by decide +kernel
theorem dX0_seen_56 : decode cX0_seen 56 = .ok (.istore 5, 2) := by decide +kernel
theorem dX0_seen_58 : decode cX0_seen 58 = .ok (.iload 5, 2) := by decide +kernel
theorem dX0_seen_60 : decode cX0_seen 60 = .ok (.iload_n 2, 1) := by decide +kernel
theorem dX0_seen_61 : decode cX0_seen 61 = .ok (.if_icmp .gt 33, 3) := by decide +kernel
theorem dX0_seen_64 : decode cX0_seen 64 = .ok (.aload_n 0, 1) := by decide +kernel
theorem dX0_seen_65 : decode cX0_seen 65 = .ok (.getfield 16, 3) := by decide +kernel
theorem dX0_seen_68 : decode cX0_seen 68 = .ok (.iload 5, 2) := by decide +kernel
theorem dX0_seen_70 : decode cX0_seen 70 = .ok (.dup2, 1) := by decide +kernel
theorem dX0_seen_71 : decode cX0_seen 71 = .ok (.iaload, 1) := by decide +kernel
theorem dX0_seen_72 : decode cX0_seen 72 = .ok (.aload_n 0, 1) := by decide +kernel
theorem dX0_seen_73 : decode cX0_seen 73 = .ok (.getfield 16, 3) := by decide +kernel
theorem dX0_seen_76 : decode cX0_seen 76 = .ok (.iload 5, 2) := by decide +kernel
theorem dX0_seen_78 : decode cX0_seen 78 = .ok (.iaload, 1) := by decide +kernel
theorem dX0_seen_79 : decode cX0_seen 79 = .ok (.iload 4, 2) := by decide +kernel
theorem dX0_seen_81 : decode cX0_seen 81 = .ok (.idiv, 1) := by decide +kernel
theorem dX0_seen_82 : decode cX0_seen 82 = .ok (.isub, 1) := by decide +kernel
theorem dX0_seen_83 : decode cX0_seen 83 = .ok (.iastore, 1) := by decide +kernel
theorem dX0_seen_84 : decode cX0_seen 84 = .ok (.iload 5, 2) := by decide +kernel
theorem dX0_seen_86 : decode cX0_seen 86 = .ok (.iload 4, 2) := by decide +kernel
theorem dX0_seen_88 : decode cX0_seen 88 = .ok (.iadd, 1) := by decide +kernel
theorem dX0_seen_89 : decode cX0_seen 89 = .ok (.istore 5, 2) := by decide +kernel
theorem dX0_seen_91 : decode cX0_seen 91 = .ok (.goto (-33), 3) := by decide +kernel
theorem dX0_seen_94 : decode cX0_seen 94 = .ok (.iinc 4 1, 3) := by decide +kernel
theorem dX0_seen_97 : decode cX0_seen 97 = .ok (.goto (-61), 3) := by decide +kernel
theorem dX0_seen_100 : decode cX0_seen 100 = .ok (.iconst 1, 1) := by decide +kernel
theorem dX0_seen_101 : decode cX0_seen 101 = .ok (.istore 4, 2) := by decide +kernel
theorem dX0_seen_103 : decode cX0_seen 103 = .ok (.iload 4, 2) := by decide +kernel
theorem dX0_seen_105 : decode cX0_seen 105 = .ok (.iload_n 2, 1) := by decide +kernel
theorem dX0_seen_106 : decode cX0_seen 106 = .ok (.if_icmp .gt 21, 3) := by decide +kernel
theorem dX0_seen_109 : decode cX0_seen 109 = .ok (.iload_n 3, 1) := by decide +kernel
theorem dX0_seen_110 : decode cX0_seen 110 = .ok (.iconst 2, 1) := by decide +kernel
theorem dX0_seen_111 : decode cX0_seen 111 = .ok (.aload_n 0, 1) := by decide +kernel
theorem dX0_seen_112 : decode cX0_seen 112 = .ok (.getfield 16, 3) := by decide +kernel
theorem dX0_seen_115 : decode cX0_seen 115 = .ok (.iload 4, 2) := by decide +kernel
theorem dX0_seen_117 : decode cX0_seen 117 = .ok (.iaload, 1) := by decide +kernel
theorem dX0_seen_118 : decode cX0_seen 118 = .ok (.imul, 1) := by decide +kernel
theorem dX0_seen_119 : decode cX0_seen 119 = .ok (.iadd, 1) := by decide +kernel
theorem dX0_seen_120 : decode cX0_seen 120 = .ok (.istore_n 3, 1) := by decide +kernel
theorem dX0_seen_121 : decode cX0_seen 121 = .ok (.iinc 4 1, 3) := by decide +kernel
theorem dX0_seen_124 : decode cX0_seen 124 = .ok (.goto (-21), 3) := by decide +kernel
theorem dX0_seen_127 : decode cX0_seen 127 = .ok (.iload_n 3, 1) := by decide +kernel
theorem dX0_seen_128 : decode cX0_seen 128 = .ok (.ireturn, 1) := by decide +kernel
theorem q5 : (Jvm.Cond.initialized "GridPoints") ∈ lw_all := lw_g (lw_at lw_m0 1 rfl) rfl
theorem q10 : (Jvm.Cond.instantiable "GridPoints" (3 : Nat)) ∈ lw_all := lw_g (lw_at lw_m0 6 rfl) rfl
theorem q12 : (Jvm.Cond.instanceMethod ({ cls := "GridPoints", name := "<init>", desc := "()V" } : Jvm.MethodName)) ∈ lw_all := lw_g (lw_at lw_m0 8 rfl) rfl
theorem q13 : (Jvm.Cond.code ({ cls := "GridPoints", name := "<init>", desc := "()V" } : Jvm.MethodName) prog_1_method_1_code (1 : Nat) (Option.none : Option Jvm.ClassFile.FieldType)) ∈ lw_all := lw_g (lw_at lw_m0 9 rfl) rfl
theorem q14 : (Jvm.Cond.methodLink "GridPoints" (1 : Nat) ({ cls := "java/lang/Object", name := "<init>", desc := "()V" } : Jvm.MethodName)) ∈ lw_all := lw_g (lw_at lw_m0 10 rfl) rfl
theorem q17 : (Jvm.Cond.fieldLink "GridPoints" (9 : Nat) "GridPoints" "x" "[I") ∈ lw_all := lw_g (lw_at lw_m0 13 rfl) rfl
theorem q18 : (Jvm.Cond.fieldLink "GridPoints" (13 : Nat) "GridPoints" "y" "[I") ∈ lw_all := lw_g (lw_at lw_m0 14 rfl) rfl
theorem q19 : (Jvm.Cond.fieldLink "GridPoints" (16 : Nat) "GridPoints" "alone" "[I") ∈ lw_all := lw_g (lw_at lw_m0 15 rfl) rfl
theorem q20 : (Jvm.Cond.laysFinal "GridPoints" "GridPoints" "x" "[I") ∈ lw_all := lw_g (lw_at lw_m0 16 rfl) rfl
theorem q21 : (Jvm.Cond.soleField "GridPoints" "x") ∈ lw_all := lw_g (lw_at lw_m0 17 rfl) rfl
theorem q22 : (Jvm.Cond.laysFinal "GridPoints" "GridPoints" "y" "[I") ∈ lw_all := lw_g (lw_at lw_m0 18 rfl) rfl
theorem q23 : (Jvm.Cond.soleField "GridPoints" "y") ∈ lw_all := lw_g (lw_at lw_m0 19 rfl) rfl
theorem q24 : (Jvm.Cond.laysFinal "GridPoints" "GridPoints" "alone" "[I") ∈ lw_all := lw_g (lw_at lw_m0 20 rfl) rfl
theorem q25 : (Jvm.Cond.soleField "GridPoints" "alone") ∈ lw_all := lw_g (lw_at lw_m0 21 rfl) rfl
theorem q26 : (Jvm.Cond.superclass "GridPoints" "java/lang/Object") ∈ lw_all := lw_g (lw_at lw_m0 22 rfl) rfl
theorem q29 : (Jvm.Cond.instanceMethod ({ cls := "GridPoints", name := "corner", desc := "(III)V" } : Jvm.MethodName)) ∈ lw_all := lw_g (lw_at lw_m0 25 rfl) rfl
theorem q30 : (Jvm.Cond.selects "GridPoints" ({ cls := "GridPoints", name := "corner", desc := "(III)V" } : Jvm.MethodName) ({ cls := "GridPoints", name := "corner", desc := "(III)V" } : Jvm.MethodName)) ∈ lw_all := lw_g (lw_at lw_m0 26 rfl) rfl
theorem q31 : (Jvm.Cond.code ({ cls := "GridPoints", name := "corner", desc := "(III)V" } : Jvm.MethodName) prog_1_method_3_code (5 : Nat) (Option.none : Option Jvm.ClassFile.FieldType)) ∈ lw_all := lw_g (lw_at lw_m0 27 rfl) rfl
theorem q32 : (Jvm.Cond.methodLink "GridPoints" (22 : Nat) ({ cls := "GridPoints", name := "number", desc := "(I)I" } : Jvm.MethodName)) ∈ lw_all := lw_g (lw_at lw_m0 28 rfl) rfl
theorem q33 : (Jvm.Cond.static ({ cls := "GridPoints", name := "number", desc := "(I)I" } : Jvm.MethodName)) ∈ lw_all := lw_g (lw_at lw_m0 29 rfl) rfl
theorem q34 : (Jvm.Cond.code ({ cls := "GridPoints", name := "number", desc := "(I)I" } : Jvm.MethodName) prog_1_method_2_code (1 : Nat) (Option.some Jvm.ClassFile.FieldType.int)) ∈ lw_all := lw_g (lw_at lw_m0 30 rfl) rfl
theorem q35 : (Jvm.Cond.constant "GridPoints" (21 : Nat) (2147483647 : Int32)) ∈ lw_all := lw_g (lw_at lw_m0 31 rfl) rfl
theorem q37 : (Jvm.Cond.instanceMethod ({ cls := "GridPoints", name := "twiceArea", desc := "()I" } : Jvm.MethodName)) ∈ lw_all := lw_g (lw_at lw_m0 33 rfl) rfl
theorem q38 : (Jvm.Cond.selects "GridPoints" ({ cls := "GridPoints", name := "twiceArea", desc := "()I" } : Jvm.MethodName) ({ cls := "GridPoints", name := "twiceArea", desc := "()I" } : Jvm.MethodName)) ∈ lw_all := lw_g (lw_at lw_m0 34 rfl) rfl
theorem q39 : (Jvm.Cond.code ({ cls := "GridPoints", name := "twiceArea", desc := "()I" } : Jvm.MethodName) prog_1_method_5_code (4 : Nat) (Option.some Jvm.ClassFile.FieldType.int)) ∈ lw_all := lw_g (lw_at lw_m0 35 rfl) rfl
theorem q40 : (Jvm.Cond.methodLink "GridPoints" (32 : Nat) ({ cls := "java/lang/Math", name := "abs", desc := "(I)I" } : Jvm.MethodName)) ∈ lw_all := lw_g (lw_at lw_m0 36 rfl) rfl
theorem q44 : (Jvm.Cond.instanceMethod ({ cls := "GridPoints", name := "side", desc := "(I)I" } : Jvm.MethodName)) ∈ lw_all := lw_g (lw_at lw_m0 40 rfl) rfl
theorem q45 : (Jvm.Cond.selects "GridPoints" ({ cls := "GridPoints", name := "side", desc := "(I)I" } : Jvm.MethodName) ({ cls := "GridPoints", name := "side", desc := "(I)I" } : Jvm.MethodName)) ∈ lw_all := lw_g (lw_at lw_m0 41 rfl) rfl
theorem q46 : (Jvm.Cond.code ({ cls := "GridPoints", name := "side", desc := "(I)I" } : Jvm.MethodName) prog_1_method_6_code (2 : Nat) (Option.some Jvm.ClassFile.FieldType.int)) ∈ lw_all := lw_g (lw_at lw_m0 42 rfl) rfl
theorem q47 : (Jvm.Cond.methodLink "GridPoints" (37 : Nat) ({ cls := "GridPoints", name := "steps", desc := "(I)I" } : Jvm.MethodName)) ∈ lw_all := lw_g (lw_at lw_m0 43 rfl) rfl
theorem q48 : (Jvm.Cond.privateMethod ({ cls := "GridPoints", name := "steps", desc := "(I)I" } : Jvm.MethodName)) ∈ lw_tbl := lw_at lw_m0 44 rfl
theorem q49 : (Jvm.Cond.instanceMethod ({ cls := "GridPoints", name := "steps", desc := "(I)I" } : Jvm.MethodName)) ∈ lw_all := lw_g (lw_at lw_m0 45 rfl) rfl
theorem q50 : (Jvm.Cond.code ({ cls := "GridPoints", name := "steps", desc := "(I)I" } : Jvm.MethodName) prog_1_method_4_code (3 : Nat) (Option.some Jvm.ClassFile.FieldType.int)) ∈ lw_all := lw_g (lw_at lw_m0 46 rfl) rfl
theorem q51 : (Jvm.Cond.methodLink "GridPoints" (26 : Nat) ({ cls := "GridPoints$Steps", name := "common", desc := "(II)I" } : Jvm.MethodName)) ∈ lw_all := lw_g (lw_at lw_m0 47 rfl) rfl
theorem q56 : (Jvm.Cond.instanceMethod ({ cls := "GridPoints", name := "edge", desc := "()I" } : Jvm.MethodName)) ∈ lw_all := lw_g (lw_at lw_m0 52 rfl) rfl
theorem q57 : (Jvm.Cond.selects "GridPoints" ({ cls := "GridPoints", name := "edge", desc := "()I" } : Jvm.MethodName) ({ cls := "GridPoints", name := "edge", desc := "()I" } : Jvm.MethodName)) ∈ lw_all := lw_g (lw_at lw_m0 53 rfl) rfl
theorem q58 : (Jvm.Cond.code ({ cls := "GridPoints", name := "edge", desc := "()I" } : Jvm.MethodName) prog_1_method_7_code (4 : Nat) (Option.some Jvm.ClassFile.FieldType.int)) ∈ lw_all := lw_g (lw_at lw_m0 54 rfl) rfl
theorem q59 : (Jvm.Cond.methodLink "GridPoints" (40 : Nat) ({ cls := "java/lang/Math", name := "max", desc := "(II)I" } : Jvm.MethodName)) ∈ lw_all := lw_g (lw_at lw_m0 55 rfl) rfl
theorem q62 : (Jvm.Cond.methodLink "GridPoints" (43 : Nat) ({ cls := "GridPoints", name := "twiceArea", desc := "()I" } : Jvm.MethodName)) ∈ lw_all := lw_g (lw_at lw_m0 58 rfl) rfl
theorem q64 : (Jvm.Cond.instanceMethod ({ cls := "GridPoints", name := "inside", desc := "()I" } : Jvm.MethodName)) ∈ lw_all := lw_g (lw_at lw_m0 60 rfl) rfl
theorem q65 : (Jvm.Cond.selects "GridPoints" ({ cls := "GridPoints", name := "inside", desc := "()I" } : Jvm.MethodName) ({ cls := "GridPoints", name := "inside", desc := "()I" } : Jvm.MethodName)) ∈ lw_all := lw_g (lw_at lw_m0 61 rfl) rfl
theorem q66 : (Jvm.Cond.code ({ cls := "GridPoints", name := "inside", desc := "()I" } : Jvm.MethodName) prog_1_method_8_code (1 : Nat) (Option.some Jvm.ClassFile.FieldType.int)) ∈ lw_all := lw_g (lw_at lw_m0 62 rfl) rfl
theorem q67 : (Jvm.Cond.methodLink "GridPoints" (47 : Nat) ({ cls := "GridPoints", name := "edge", desc := "()I" } : Jvm.MethodName)) ∈ lw_all := lw_g (lw_at lw_m0 63 rfl) rfl
theorem q69 : (Jvm.Cond.instanceMethod ({ cls := "GridPoints", name := "under", desc := "(IIII)J" } : Jvm.MethodName)) ∈ lw_all := lw_g (lw_at lw_m0 65 rfl) rfl
theorem q70 : (Jvm.Cond.selects "GridPoints" ({ cls := "GridPoints", name := "under", desc := "(IIII)J" } : Jvm.MethodName) ({ cls := "GridPoints", name := "under", desc := "(IIII)J" } : Jvm.MethodName)) ∈ lw_all := lw_g (lw_at lw_m0 66 rfl) rfl
theorem q71 : (Jvm.Cond.code ({ cls := "GridPoints", name := "under", desc := "(IIII)J" } : Jvm.MethodName) prog_1_method_9_code (5 : Nat) (Option.some Jvm.ClassFile.FieldType.long)) ∈ lw_all := lw_g (lw_at lw_m0 67 rfl) rfl
theorem q72 : (Jvm.Cond.methodLink "GridPoints" (50 : Nat) ({ cls := "GridPoints$Steps", name := "sum", desc := "(JJJJ)J" } : Jvm.MethodName)) ∈ lw_all := lw_g (lw_at lw_m0 68 rfl) rfl
theorem q77 : (Jvm.Cond.instanceMethod ({ cls := "GridPoints", name := "seen", desc := "(I)I" } : Jvm.MethodName)) ∈ lw_all := lw_g (lw_at lw_m0 73 rfl) rfl
theorem q78 : (Jvm.Cond.selects "GridPoints" ({ cls := "GridPoints", name := "seen", desc := "(I)I" } : Jvm.MethodName) ({ cls := "GridPoints", name := "seen", desc := "(I)I" } : Jvm.MethodName)) ∈ lw_all := lw_g (lw_at lw_m0 74 rfl) rfl
theorem q79 : (Jvm.Cond.code ({ cls := "GridPoints", name := "seen", desc := "(I)I" } : Jvm.MethodName) prog_1_method_10_code (6 : Nat) (Option.some Jvm.ClassFile.FieldType.int)) ∈ lw_all := lw_g (lw_at lw_m0 75 rfl) rfl
theorem in_X0 : ∀ w ∈ wsX00, w ∈ lw_all := lw_in wsX00 [20, 22, 24] (by decide +kernel) (by decide +kernel)
end
section
/-! GridPointsModel -/
set_option maxRecDepth 100000
def RX1 : String := "GridPointsModel"
def TX1 : u_T := fun k => match k with
  | 0 => ("GridPointsModel", "x", "[I", true)
  | _ => ("GridPointsModel", "y", "[I", true)
def tyX1 : Nat → FieldType := fun k => match k with
  | 0 => .array .int
  | _ => .array .int
abbrev wsX10 : List Cond := u_ws RX1 TX1 2
theorem nmX1 : ∀ a, a < 2 → ∀ b, b < 2 → a ≠ b → (TX1 a).2.1 ≠ (TX1 b).2.1 := by decide +kernel
theorem tyX1_ok : ∀ k, k < 2 → parseFieldDescriptor (TX1 k).2.2.1 = some (tyX1 k) := by decide +kernel
abbrev cX1_init : ByteArray := prog_4_method_1_code
def yX1_init : MethodName := ⟨RX1, "<init>", "()V"⟩
theorem dX1_init_0 : decode cX1_init 0 = .ok (.aload_n 0, 1) := by decide +kernel
theorem dX1_init_1 : decode cX1_init 1 = .ok (.invokespecial 1, 3) := by decide +kernel
theorem dX1_init_4 : decode cX1_init 4 = .ok (.aload_n 0, 1) := by decide +kernel
theorem dX1_init_5 : decode cX1_init 5 = .ok (.iconst 3, 1) := by decide +kernel
theorem dX1_init_6 : decode cX1_init 6 = .ok (.newarray .int, 2) := by decide +kernel
theorem dX1_init_8 : decode cX1_init 8 = .ok (.putfield 7, 3) := by decide +kernel
theorem dX1_init_11 : decode cX1_init 11 = .ok (.aload_n 0, 1) := by decide +kernel
theorem dX1_init_12 : decode cX1_init 12 = .ok (.iconst 3, 1) := by decide +kernel
theorem dX1_init_13 : decode cX1_init 13 = .ok (.newarray .int, 2) := by decide +kernel
theorem dX1_init_15 : decode cX1_init 15 = .ok (.putfield 13, 3) := by decide +kernel
theorem dX1_init_18 : decode cX1_init 18 = .ok (.return_, 1) := by decide +kernel
abbrev cX1_corner : ByteArray := prog_4_method_2_code
def yX1_corner : MethodName := ⟨RX1, "corner", "(III)V"⟩
theorem dX1_corner_0 : decode cX1_corner 0 = .ok (.iload_n 1, 1) := by decide +kernel
theorem dX1_corner_1 : decode cX1_corner 1 = .ok (.ldc 16, 2) := by decide +kernel
theorem dX1_corner_3 : decode cX1_corner 3 = .ok (.iand, 1) := by decide +kernel
theorem dX1_corner_4 : decode cX1_corner 4 = .ok (.iconst 3, 1) := by decide +kernel
theorem dX1_corner_5 : decode cX1_corner 5 = .ok (.irem, 1) := by decide +kernel
theorem dX1_corner_6 : decode cX1_corner 6 = .ok (.istore 4, 2) := by decide +kernel
theorem dX1_corner_8 : decode cX1_corner 8 = .ok (.aload_n 0, 1) := by decide +kernel
theorem dX1_corner_9 : decode cX1_corner 9 = .ok (.getfield 7, 3) := by decide +kernel
theorem dX1_corner_12 : decode cX1_corner 12 = .ok (.iload 4, 2) := by decide +kernel
theorem dX1_corner_14 : decode cX1_corner 14 = .ok (.iload_n 2, 1) := by decide +kernel
theorem dX1_corner_15 : decode cX1_corner 15 = .ok (.bipush 31, 2) := by decide +kernel
theorem dX1_corner_17 : decode cX1_corner 17 = .ok (.iand, 1) := by decide +kernel
theorem dX1_corner_18 : decode cX1_corner 18 = .ok (.iastore, 1) := by decide +kernel
theorem dX1_corner_19 : decode cX1_corner 19 = .ok (.aload_n 0, 1) := by decide +kernel
theorem dX1_corner_20 : decode cX1_corner 20 = .ok (.getfield 13, 3) := by decide +kernel
theorem dX1_corner_23 : decode cX1_corner 23 = .ok (.iload 4, 2) := by decide +kernel
theorem dX1_corner_25 : decode cX1_corner 25 = .ok (.iload_n 3, 1) := by decide +kernel
theorem dX1_corner_26 : decode cX1_corner 26 = .ok (.bipush 31, 2) := by decide +kernel
theorem dX1_corner_28 : decode cX1_corner 28 = .ok (.iand, 1) := by decide +kernel
theorem dX1_corner_29 : decode cX1_corner 29 = .ok (.iastore, 1) := by decide +kernel
theorem dX1_corner_30 : decode cX1_corner 30 = .ok (.return_, 1) := by decide +kernel
abbrev cX1_inside : ByteArray := prog_4_method_6_code
def yX1_inside : MethodName := ⟨RX1, "inside", "()I"⟩
theorem dX1_inside_0 : decode cX1_inside 0 = .ok (.aload_n 0, 1) := by decide +kernel
theorem dX1_inside_1 : decode cX1_inside 1 = .ok (.iconst 2, 1) := by decide +kernel
theorem dX1_inside_2 : decode cX1_inside 2 = .ok (.invokevirtual 25, 3) := by decide +kernel
theorem dX1_inside_5 : decode cX1_inside 5 = .ok (.ireturn, 1) := by decide +kernel
abbrev cX1_count : ByteArray := prog_4_method_5_code
def yX1_count : MethodName := ⟨RX1, "count", "(I)I"⟩
theorem dX1_count_0 : decode cX1_count 0 = .ok (.iconst 0, 1) := by decide +kernel
theorem dX1_count_1 : decode cX1_count 1 = .ok (.istore_n 2, 1) := by decide +kernel
theorem dX1_count_2 : decode cX1_count 2 = .ok (.iconst 0, 1) := by decide +kernel
theorem dX1_count_3 : decode cX1_count 3 = .ok (.istore_n 3, 1) := by decide +kernel
theorem dX1_count_4 : decode cX1_count 4 = .ok (.iload_n 3, 1) := by decide +kernel
theorem dX1_count_5 : decode cX1_count 5 = .ok (.bipush 32, 2) := by decide +kernel
theorem dX1_count_7 : decode cX1_count 7 = .ok (.if_icmp .ge 40, 3) := by decide +kernel
theorem dX1_count_10 : decode cX1_count 10 = .ok (.iconst 0, 1) := by decide +kernel
theorem dX1_count_11 : decode cX1_count 11 = .ok (.istore 4, 2) := by decide +kernel
theorem dX1_count_13 : decode cX1_count 13 = .ok (.iload 4, 2) := by decide +kernel
theorem dX1_count_15 : decode cX1_count 15 = .ok (.bipush 32, 2) := by decide +kernel
theorem dX1_count_17 : decode cX1_count 17 = .ok (.if_icmp .ge 24, 3) := by decide +kernel
theorem dX1_count_20 : decode cX1_count 20 = .ok (.aload_n 0, 1) := by decide +kernel
theorem dX1_count_21 : decode cX1_count 21 = .ok (.iload_n 3, 1) := by decide +kernel
theorem dX1_count_22 : decode cX1_count 22 = .ok (.iload 4, 2) := by decide +kernel
theorem dX1_count_24 : decode cX1_count 24 = .ok (.invokevirtual 21, 3) := by decide +kernel
theorem dX1_count_27 : decode cX1_count 27 = .ok (.iload_n 1, 1) := by decide +kernel
theorem dX1_count_28 : decode cX1_count 28 = .ok (.if_icmp .ne 7, 3) := by decide +kernel
theorem dX1_count_31 : decode cX1_count 31 = .ok (.iload_n 2, 1) := by decide +kernel
theorem dX1_count_32 : decode cX1_count 32 = .ok (.iconst 1, 1) := by decide +kernel
theorem dX1_count_33 : decode cX1_count 33 = .ok (.iadd, 1) := by decide +kernel
theorem dX1_count_34 : decode cX1_count 34 = .ok (.istore_n 2, 1) := by decide +kernel
theorem dX1_count_35 : decode cX1_count 35 = .ok (.iinc 4 1, 3) := by decide +kernel
theorem dX1_count_38 : decode cX1_count 38 = .ok (.goto (-25), 3) := by decide +kernel
theorem dX1_count_41 : decode cX1_count 41 = .ok (.iinc 3 1, 3) := by decide +kernel
theorem dX1_count_44 : decode cX1_count 44 = .ok (.goto (-40), 3) := by decide +kernel
theorem dX1_count_47 : decode cX1_count 47 = .ok (.iload_n 2, 1) := by decide +kernel
theorem dX1_count_48 : decode cX1_count 48 = .ok (.ireturn, 1) := by decide +kernel
abbrev cX1_place : ByteArray := prog_4_method_4_code
def yX1_place : MethodName := ⟨RX1, "place", "(II)I"⟩
theorem dX1_place_0 : decode cX1_place 0 = .ok (.aload_n 0, 1) := by decide +kernel
theorem dX1_place_1 : decode cX1_place 1 = .ok (.iconst 0, 1) := by decide +kernel
theorem dX1_place_2 : decode cX1_place 2 = .ok (.iconst 1, 1) := by decide +kernel
theorem dX1_place_3 : decode cX1_place 3 = .ok (.aload_n 0, 1) := by decide +kernel
theorem dX1_place_4 : decode cX1_place 4 = .ok (.getfield 7, 3) := by decide +kernel
theorem dX1_place_7 : decode cX1_place 7 = .ok (.iconst 2, 1) := by decide +kernel
theorem dX1_place_8 : decode cX1_place 8 = .ok (.iaload, 1) := by decide +kernel
theorem dX1_place_9 : decode cX1_place 9 = .ok (.aload_n 0, 1) := by decide +kernel
theorem dX1_place_10 : decode cX1_place 10 = .ok (.getfield 13, 3) := by decide +kernel
theorem dX1_place_13 : decode cX1_place 13 = .ok (.iconst 2, 1) := by decide +kernel
theorem dX1_place_14 : decode cX1_place 14 = .ok (.iaload, 1) := by decide +kernel
theorem dX1_place_15 : decode cX1_place 15 = .ok (.invokevirtual 17, 3) := by decide +kernel
theorem dX1_place_18 : decode cX1_place 18 = .ok (.istore_n 3, 1) := by decide +kernel
theorem dX1_place_19 : decode cX1_place 19 = .ok (.aload_n 0, 1) := by decide +kernel
theorem dX1_place_20 : decode cX1_place 20 = .ok (.iconst 0, 1) := by decide +kernel
theorem dX1_place_21 : decode cX1_place 21 = .ok (.iconst 1, 1) := by decide +kernel
theorem dX1_place_22 : decode cX1_place 22 = .ok (.iload_n 1, 1) := by decide +kernel
theorem dX1_place_23 : decode cX1_place 23 = .ok (.iload_n 2, 1) := by decide +kernel
theorem dX1_place_24 : decode cX1_place 24 = .ok (.invokevirtual 17, 3) := by decide +kernel
theorem dX1_place_27 : decode cX1_place 27 = .ok (.istore 4, 2) := by decide +kernel
theorem dX1_place_29 : decode cX1_place 29 = .ok (.aload_n 0, 1) := by decide +kernel
theorem dX1_place_30 : decode cX1_place 30 = .ok (.iconst 1, 1) := by decide +kernel
theorem dX1_place_31 : decode cX1_place 31 = .ok (.iconst 2, 1) := by decide +kernel
theorem dX1_place_32 : decode cX1_place 32 = .ok (.iload_n 1, 1) := by decide +kernel
theorem dX1_place_33 : decode cX1_place 33 = .ok (.iload_n 2, 1) := by decide +kernel
theorem dX1_place_34 : decode cX1_place 34 = .ok (.invokevirtual 17, 3) := by decide +kernel
theorem dX1_place_37 : decode cX1_place 37 = .ok (.istore 5, 2) := by decide +kernel
theorem dX1_place_39 : decode cX1_place 39 = .ok (.aload_n 0, 1) := by decide +kernel
theorem dX1_place_40 : decode cX1_place 40 = .ok (.iconst 2, 1) := by decide +kernel
theorem dX1_place_41 : decode cX1_place 41 = .ok (.iconst 0, 1) := by decide +kernel
theorem dX1_place_42 : decode cX1_place 42 = .ok (.iload_n 1, 1) := by decide +kernel
theorem dX1_place_43 : decode cX1_place 43 = .ok (.iload_n 2, 1) := by decide +kernel
theorem dX1_place_44 : decode cX1_place 44 = .ok (.invokevirtual 17, 3) := by decide +kernel
theorem dX1_place_47 : decode cX1_place 47 = .ok (.istore 6, 2) := by decide +kernel
theorem dX1_place_49 : decode cX1_place 49 = .ok (.iload_n 3, 1) := by decide +kernel
theorem dX1_place_50 : decode cX1_place 50 = .ok (.ifCond .ge 18, 3) := by decide +kernel
theorem dX1_place_53 : decode cX1_place 53 = .ok (.iload 4, 2) := by decide +kernel
theorem dX1_place_55 : decode cX1_place 55 = .ok (.ineg, 1) := by decide +kernel
theorem dX1_place_56 : decode cX1_place 56 = .ok (.istore 4, 2) := by decide +kernel
theorem dX1_place_58 : decode cX1_place 58 = .ok (.iload 5, 2) := by decide +kernel
theorem dX1_place_60 : decode cX1_place 60 = .ok (.ineg, 1) := by decide +kernel
theorem dX1_place_61 : decode cX1_place 61 = .ok (.istore 5, 2) := by decide +kernel
theorem dX1_place_63 : decode cX1_place 63 = .ok (.iload 6, 2) := by decide +kernel
theorem dX1_place_65 : decode cX1_place 65 = .ok (.ineg, 1) := by decide +kernel
theorem dX1_place_66 : decode cX1_place 66 = .ok (.istore 6, 2) := by decide +kernel
theorem dX1_place_68 : decode cX1_place 68 = .ok (.iload_n 3, 1) := by decide +kernel
theorem dX1_place_69 : decode cX1_place 69 = .ok (.ifCond .eq 43, 3) := by decide +kernel
theorem dX1_place_72 : decode cX1_place 72 = .ok (.iload 4, 2) := by decide +kernel
theorem dX1_place_74 : decode cX1_place 74 = .ok (.ifCond .lt 13, 3) := by decide +kernel
theorem dX1_place_77 : decode cX1_place 77 = .ok (.iload 5, 2) := by decide +kernel
theorem dX1_place_79 : decode cX1_place 79 = .ok (.ifCond .lt 8, 3) := by decide +kernel
theorem dX1_place_82 : decode cX1_place 82 = .ok (.iload 6, 2) := by decide +kernel
theorem dX1_place_84 : decode cX1_place 84 = .ok (.ifCond .ge 7, 3) := by decide +kernel
theorem dX1_place_87 : decode cX1_place 87 = .ok (.iconst 0, 1) := by decide +kernel
theorem dX1_place_88 : decode cX1_place 88 = .ok (.goto 23, 3) := by decide +kernel
theorem dX1_place_91 : decode cX1_place 91 = .ok (.iload 4, 2) := by decide +kernel
theorem dX1_place_93 : decode cX1_place 93 = .ok (.ifCond .le 17, 3) := by decide +kernel
theorem dX1_place_96 : decode cX1_place 96 = .ok (.iload 5, 2) := by decide +kernel
theorem dX1_place_98 : decode cX1_place 98 = .ok (.ifCond .le 12, 3) := by decide +kernel
theorem dX1_place_101 : decode cX1_place 101 = .ok (.iload 6, 2) := by decide +kernel
theorem dX1_place_103 : decode cX1_place 103 = .ok (.ifCond .le 7, 3) := by decide +kernel
theorem dX1_place_106 : decode cX1_place 106 = .ok (.iconst 2, 1) := by decide +kernel
theorem dX1_place_107 : decode cX1_place 107 = .ok (.goto 4, 3) := by decide +kernel
theorem dX1_place_110 : decode cX1_place 110 = .ok (.iconst 1, 1) := by decide +kernel
theorem dX1_place_111 : decode cX1_place 111 = .ok (.ireturn, 1) := by decide +kernel
theorem dX1_place_112 : decode cX1_place 112 = .ok (.iconst 0, 1) := by decide +kernel
theorem dX1_place_113 : decode cX1_place 113 = .ok (.istore 7, 2) := by decide +kernel
theorem dX1_place_115 : decode cX1_place 115 = .ok (.iload 7, 2) := by decide +kernel
theorem dX1_place_117 : decode cX1_place 117 = .ok (.iconst 3, 1) := by decide +kernel
theorem dX1_place_118 : decode cX1_place 118 = .ok (.if_icmp .ge 76, 3) := by decide +kernel
theorem dX1_place_121 : decode cX1_place 121 = .ok (.iload 7, 2) := by decide +kernel
theorem dX1_place_123 : decode cX1_place 123 = .ok (.iconst 1, 1) := by decide +kernel
theorem dX1_place_124 : decode cX1_place 124 = .ok (.iadd, 1) := by decide +kernel
theorem dX1_place_125 : decode cX1_place 125 = .ok (.iconst 3, 1) := by decide +kernel
theorem dX1_place_126 : decode cX1_place 126 = .ok (.irem, 1) := by decide +kernel
theorem dX1_place_127 : decode cX1_place 127 = .ok (.istore 8, 2) := by decide +kernel
theorem dX1_place_129 : decode cX1_place 129 = .ok (.aload_n 0, 1) := by decide +kernel
theorem dX1_place_130 : decode cX1_place 130 = .ok (.iload 7, 2) := by decide +kernel
theorem dX1_place_132 : decode cX1_place 132 = .ok (.iload 8, 2) := by decide +kernel
theorem dX1_place_134 : decode cX1_place 134 = .ok (.iload_n 1, 1) := by decide +kernel
theorem dX1_place_135 : decode cX1_place 135 = .ok (.iload_n 2, 1) := by decide +kernel
theorem dX1_place_136 : decode cX1_place 136 = .ok (.invokevirtual 17, 3) := by decide +kernel
theorem dX1_place_139 : decode cX1_place 139 = .ok (.ifCond .ne 49, 3) := by decide +kernel
theorem dX1_place_142 : decode cX1_place 142 = .ok (.iload_n 1, 1) := by decide +kernel
theorem dX1_place_143 : decode cX1_place 143 = .ok (.aload_n 0, 1) := by decide +kernel
theorem dX1_place_144 : decode cX1_place 144 = .ok (.getfield 7, 3) := by decide +kernel
theorem dX1_place_147 : decode cX1_place 147 = .ok (.iload 7, 2) := by decide +kernel
theorem dX1_place_149 : decode cX1_place 149 = .ok (.iaload, 1) := by decide +kernel
theorem dX1_place_150 : decode cX1_place 150 = .ok (.isub, 1) := by decide +kernel
theorem dX1_place_151 : decode cX1_place 151 = .ok (.iload_n 1, 1) := by decide +kernel
theorem dX1_place_152 : decode cX1_place 152 = .ok (.aload_n 0, 1) := by decide +kernel
theorem dX1_place_153 : decode cX1_place 153 = .ok (.getfield 7, 3) := by decide +kernel
theorem dX1_place_156 : decode cX1_place 156 = .ok (.iload 8, 2) := by decide +kernel
theorem dX1_place_158 : decode cX1_place 158 = .ok (.iaload, 1) := by decide +kernel
theorem dX1_place_159 : decode cX1_place 159 = .ok (.isub, 1) := by decide +kernel
theorem dX1_place_160 : decode cX1_place 160 = .ok (.imul, 1) := by decide +kernel
theorem dX1_place_161 : decode cX1_place 161 = .ok (.ifCond .gt 27, 3) := by decide +kernel
theorem dX1_place_164 : decode cX1_place 164 = .ok (.iload_n 2, 1) := by decide +kernel
theorem dX1_place_165 : decode cX1_place 165 = .ok (.aload_n 0, 1) := by decide +kernel
theorem dX1_place_166 : decode cX1_place 166 = .ok (.getfield 13, 3) := by decide +kernel
theorem dX1_place_169 : decode cX1_place 169 = .ok (.iload 7, 2) := by decide +kernel
theorem dX1_place_171 : decode cX1_place 171 = .ok (.iaload, 1) := by decide +kernel
theorem dX1_place_172 : decode cX1_place 172 = .ok (.isub, 1) := by decide +kernel
theorem dX1_place_173 : decode cX1_place 173 = .ok (.iload_n 2, 1) := by decide +kernel
theorem dX1_place_174 : decode cX1_place 174 = .ok (.aload_n 0, 1) := by decide +kernel
theorem dX1_place_175 : decode cX1_place 175 = .ok (.getfield 13, 3) := by decide +kernel
theorem dX1_place_178 : decode cX1_place 178 = .ok (.iload 8, 2) := by decide +kernel
theorem dX1_place_180 : decode cX1_place 180 = .ok (.iaload, 1) := by decide +kernel
theorem dX1_place_181 : decode cX1_place 181 = .ok (.isub, 1) := by decide +kernel
theorem dX1_place_182 : decode cX1_place 182 = .ok (.imul, 1) := by decide +kernel
theorem dX1_place_183 : decode cX1_place 183 = .ok (.ifCond .gt 5, 3) := by decide +kernel
theorem dX1_place_186 : decode cX1_place 186 = .ok (.iconst 1, 1) := by decide +kernel
theorem dX1_place_187 : decode cX1_place 187 = .ok (.ireturn, 1) := by decide +kernel
theorem dX1_place_188 : decode cX1_place 188 = .ok (.iinc 7 1, 3) := by decide +kernel
theorem dX1_place_191 : decode cX1_place 191 = .ok (.goto (-76), 3) := by decide +kernel
theorem dX1_place_194 : decode cX1_place 194 = .ok (.iconst 0, 1) := by decide +kernel
theorem dX1_place_195 : decode cX1_place 195 = .ok (.ireturn, 1) := by decide +kernel
abbrev cX1_turn : ByteArray := prog_4_method_3_code
def yX1_turn : MethodName := ⟨RX1, "turn", "(IIII)I"⟩
theorem dX1_turn_0 : decode cX1_turn 0 = .ok (.aload_n 0, 1) := by decide +kernel
theorem dX1_turn_1 : decode cX1_turn 1 = .ok (.getfield 7, 3) := by decide +kernel
theorem dX1_turn_4 : decode cX1_turn 4 = .ok (.iload_n 2, 1) := by decide +kernel
theorem dX1_turn_5 : decode cX1_turn 5 = .ok (.iaload, 1) := by decide +kernel
theorem dX1_turn_6 : decode cX1_turn 6 = .ok (.aload_n 0, 1) := by decide +kernel
theorem dX1_turn_7 : decode cX1_turn 7 = .ok (.getfield 7, 3) := by decide +kernel
theorem dX1_turn_10 : decode cX1_turn 10 = .ok (.iload_n 1, 1) := by decide +kernel
theorem dX1_turn_11 : decode cX1_turn 11 = .ok (.iaload, 1) := by decide +kernel
theorem dX1_turn_12 : decode cX1_turn 12 = .ok (.isub, 1) := by decide +kernel
theorem dX1_turn_13 : decode cX1_turn 13 = .ok (.iload 4, 2) := by decide +kernel
theorem dX1_turn_15 : decode cX1_turn 15 = .ok (.aload_n 0, 1) := by decide +kernel
theorem dX1_turn_16 : decode cX1_turn 16 = .ok (.getfield 13, 3) := by decide +kernel
theorem dX1_turn_19 : decode cX1_turn 19 = .ok (.iload_n 1, 1) := by decide +kernel
theorem dX1_turn_20 : decode cX1_turn 20 = .ok (.iaload, 1) := by decide +kernel
theorem dX1_turn_21 : decode cX1_turn 21 = .ok (.isub, 1) := by decide +kernel
theorem dX1_turn_22 : decode cX1_turn 22 = .ok (.imul, 1) := by decide +kernel
theorem dX1_turn_23 : decode cX1_turn 23 = .ok (.aload_n 0, 1) := by decide +kernel
theorem dX1_turn_24 : decode cX1_turn 24 = .ok (.getfield 13, 3) := by decide +kernel
theorem dX1_turn_27 : decode cX1_turn 27 = .ok (.iload_n 2, 1) := by decide +kernel
theorem dX1_turn_28 : decode cX1_turn 28 = .ok (.iaload, 1) := by decide +kernel
theorem dX1_turn_29 : decode cX1_turn 29 = .ok (.aload_n 0, 1) := by decide +kernel
theorem dX1_turn_30 : decode cX1_turn 30 = .ok (.getfield 13, 3) := by decide +kernel
theorem dX1_turn_33 : decode cX1_turn 33 = .ok (.iload_n 1, 1) := by decide +kernel
theorem dX1_turn_34 : decode cX1_turn 34 = .ok (.iaload, 1) := by decide +kernel
theorem dX1_turn_35 : decode cX1_turn 35 = .ok (.isub, 1) := by decide +kernel
theorem dX1_turn_36 : decode cX1_turn 36 = .ok (.iload_n 3, 1) := by decide +kernel
theorem dX1_turn_37 : decode cX1_turn 37 = .ok (.aload_n 0, 1) := by decide +kernel
theorem dX1_turn_38 : decode cX1_turn 38 = .ok (.getfield 7, 3) := by decide +kernel
theorem dX1_turn_41 : decode cX1_turn 41 = .ok (.iload_n 1, 1) := by decide +kernel
theorem dX1_turn_42 : decode cX1_turn 42 = .ok (.iaload, 1) := by decide +kernel
theorem dX1_turn_43 : decode cX1_turn 43 = .ok (.isub, 1) := by decide +kernel
theorem dX1_turn_44 : decode cX1_turn 44 = .ok (.imul, 1) := by decide +kernel
theorem dX1_turn_45 : decode cX1_turn 45 = .ok (.isub, 1) := by decide +kernel
theorem dX1_turn_46 : decode cX1_turn 46 = .ok (.ireturn, 1) := by decide +kernel
abbrev cX1_edge : ByteArray := prog_4_method_7_code
def yX1_edge : MethodName := ⟨RX1, "edge", "()I"⟩
theorem dX1_edge_0 : decode cX1_edge 0 = .ok (.aload_n 0, 1) := by decide +kernel
theorem dX1_edge_1 : decode cX1_edge 1 = .ok (.iconst 1, 1) := by decide +kernel
theorem dX1_edge_2 : decode cX1_edge 2 = .ok (.invokevirtual 25, 3) := by decide +kernel
theorem dX1_edge_5 : decode cX1_edge 5 = .ok (.ireturn, 1) := by decide +kernel
abbrev cX1_twiceArea : ByteArray := prog_4_method_8_code
def yX1_twiceArea : MethodName := ⟨RX1, "twiceArea", "()I"⟩
theorem dX1_twiceArea_0 : decode cX1_twiceArea 0 = .ok (.aload_n 0, 1) := by decide +kernel
theorem dX1_twiceArea_1 : decode cX1_twiceArea 1 = .ok (.iconst 0, 1) := by decide +kernel
theorem dX1_twiceArea_2 : decode cX1_twiceArea 2 = .ok (.iconst 1, 1) := by decide +kernel
theorem dX1_twiceArea_3 : decode cX1_twiceArea 3 = .ok (.aload_n 0, 1) := by decide +kernel
theorem dX1_twiceArea_4 : decode cX1_twiceArea 4 = .ok (.getfield 7, 3) := by decide +kernel
theorem dX1_twiceArea_7 : decode cX1_twiceArea 7 = .ok (.iconst 2, 1) := by decide +kernel
theorem dX1_twiceArea_8 : decode cX1_twiceArea 8 = .ok (.iaload, 1) := by decide +kernel
theorem dX1_twiceArea_9 : decode cX1_twiceArea 9 = .ok (.aload_n 0, 1) := by decide +kernel
theorem dX1_twiceArea_10 : decode cX1_twiceArea 10 = .ok (.getfield 13, 3) := by decide +kernel
theorem dX1_twiceArea_13 : decode cX1_twiceArea 13 = .ok (.iconst 2, 1) := by decide +kernel
theorem dX1_twiceArea_14 : decode cX1_twiceArea 14 = .ok (.iaload, 1) := by decide +kernel
theorem dX1_twiceArea_15 : decode cX1_twiceArea 15 = .ok (.invokevirtual 17, 3) := by decide +kernel
theorem dX1_twiceArea_18 : decode cX1_twiceArea 18 = .ok (.istore_n 1, 1) := by decide +kernel
theorem dX1_twiceArea_19 : decode cX1_twiceArea 19 = .ok (.iload_n 1, 1) := by decide +kernel
theorem dX1_twiceArea_20 : decode cX1_twiceArea 20 = .ok (.ifCond .ge 8, 3) := by decide +kernel
theorem dX1_twiceArea_23 : decode cX1_twiceArea 23 = .ok (.iload_n 1, 1) := by decide +kernel
theorem dX1_twiceArea_24 : decode cX1_twiceArea 24 = .ok (.ineg, 1) := by decide +kernel
theorem dX1_twiceArea_25 : decode cX1_twiceArea 25 = .ok (.goto 4, 3) := by decide +kernel
theorem dX1_twiceArea_28 : decode cX1_twiceArea 28 = .ok (.iload_n 1, 1) := by decide +kernel
theorem dX1_twiceArea_29 : decode cX1_twiceArea 29 = .ok (.ireturn, 1) := by decide +kernel
abbrev cX1_side : ByteArray := prog_4_method_9_code
def yX1_side : MethodName := ⟨RX1, "side", "(I)I"⟩
theorem dX1_side_0 : decode cX1_side 0 = .ok (.iload_n 1, 1) := by decide +kernel
theorem dX1_side_1 : decode cX1_side 1 = .ok (.ldc 16, 2) := by decide +kernel
theorem dX1_side_3 : decode cX1_side 3 = .ok (.iand, 1) := by decide +kernel
theorem dX1_side_4 : decode cX1_side 4 = .ok (.iconst 3, 1) := by decide +kernel
theorem dX1_side_5 : decode cX1_side 5 = .ok (.irem, 1) := by decide +kernel
theorem dX1_side_6 : decode cX1_side 6 = .ok (.istore_n 2, 1) := by decide +kernel
theorem dX1_side_7 : decode cX1_side 7 = .ok (.iload_n 2, 1) := by decide +kernel
theorem dX1_side_8 : decode cX1_side 8 = .ok (.iconst 1, 1) := by decide +kernel
theorem dX1_side_9 : decode cX1_side 9 = .ok (.iadd, 1) := by decide +kernel
theorem dX1_side_10 : decode cX1_side 10 = .ok (.iconst 3, 1) := by decide +kernel
theorem dX1_side_11 : decode cX1_side 11 = .ok (.irem, 1) := by decide +kernel
theorem dX1_side_12 : decode cX1_side 12 = .ok (.istore_n 3, 1) := by decide +kernel
theorem dX1_side_13 : decode cX1_side 13 = .ok (.iconst 0, 1) := by decide +kernel
theorem dX1_side_14 : decode cX1_side 14 = .ok (.istore 4, 2) := by decide +kernel
theorem dX1_side_16 : decode cX1_side 16 = .ok (.iconst 0, 1) := by decide +kernel
theorem dX1_side_17 : decode cX1_side 17 = .ok (.istore 5, 2) := by decide +kernel
theorem dX1_side_19 : decode cX1_side 19 = .ok (.iload 5, 2) := by decide +kernel
theorem dX1_side_21 : decode cX1_side 21 = .ok (.bipush 32, 2) := by decide +kernel
theorem dX1_side_23 : decode cX1_side 23 = .ok (.if_icmp .ge 88, 3) := by decide +kernel
theorem dX1_side_26 : decode cX1_side 26 = .ok (.iconst 0, 1) := by decide +kernel
theorem dX1_side_27 : decode cX1_side 27 = .ok (.istore 6, 2) := by decide +kernel
theorem dX1_side_29 : decode cX1_side 29 = .ok (.iload 6, 2) := by decide +kernel
theorem dX1_side_31 : decode cX1_side 31 = .ok (.bipush 32, 2) := by decide +kernel
theorem dX1_side_33 : decode cX1_side 33 = .ok (.if_icmp .ge 72, 3) := by decide +kernel
theorem dX1_side_36 : decode cX1_side 36 = .ok (.aload_n 0, 1) := by decide +kernel
theorem dX1_side_37 : decode cX1_side 37 = .ok (.iload_n 2, 1) := by decide +kernel
theorem dX1_side_38 : decode cX1_side 38 = .ok (.iload_n 3, 1) := by decide +kernel
theorem dX1_side_39 : decode cX1_side 39 = .ok (.iload 5, 2) := by decide +kernel
theorem dX1_side_41 : decode cX1_side 41 = .ok (.iload 6, 2) := by decide +kernel
theorem dX1_side_43 : decode cX1_side 43 = .ok (.invokevirtual 17, 3) := by decide +kernel
theorem dX1_side_46 : decode cX1_side 46 = .ok (.ifCond .ne 53, 3) := by decide +kernel
theorem dX1_side_49 : decode cX1_side 49 = .ok (.iload 5, 2) := by decide +kernel
theorem dX1_side_51 : decode cX1_side 51 = .ok (.aload_n 0, 1) := by decide +kernel
theorem dX1_side_52 : decode cX1_side 52 = .ok (.getfield 7, 3) := by decide +kernel
theorem dX1_side_55 : decode cX1_side 55 = .ok (.iload_n 2, 1) := by decide +kernel
theorem dX1_side_56 : decode cX1_side 56 = .ok (.iaload, 1) := by decide +kernel
theorem dX1_side_57 : decode cX1_side 57 = .ok (.isub, 1) := by decide +kernel
theorem dX1_side_58 : decode cX1_side 58 = .ok (.iload 5, 2) := by decide +kernel
theorem dX1_side_60 : decode cX1_side 60 = .ok (.aload_n 0, 1) := by decide +kernel
theorem dX1_side_61 : decode cX1_side 61 = .ok (.getfield 7, 3) := by decide +kernel
theorem dX1_side_64 : decode cX1_side 64 = .ok (.iload_n 3, 1) := by decide +kernel
theorem dX1_side_65 : decode cX1_side 65 = .ok (.iaload, 1) := by decide +kernel
theorem dX1_side_66 : decode cX1_side 66 = .ok (.isub, 1) := by decide +kernel
theorem dX1_side_67 : decode cX1_side 67 = .ok (.imul, 1) := by decide +kernel
theorem dX1_side_68 : decode cX1_side 68 = .ok (.ifCond .gt 31, 3) := by decide +kernel
theorem dX1_side_71 : decode cX1_side 71 = .ok (.iload 6, 2) := by decide +kernel
theorem dX1_side_73 : decode cX1_side 73 = .ok (.aload_n 0, 1) := by decide +kernel
theorem dX1_side_74 : decode cX1_side 74 = .ok (.getfield 13, 3) := by decide +kernel
theorem dX1_side_77 : decode cX1_side 77 = .ok (.iload_n 2, 1) := by decide +kernel
theorem dX1_side_78 : decode cX1_side 78 = .ok (.iaload, 1) := by decide +kernel
theorem dX1_side_79 : decode cX1_side 79 = .ok (.isub, 1) := by decide +kernel
theorem dX1_side_80 : decode cX1_side 80 = .ok (.iload 6, 2) := by decide +kernel
theorem dX1_side_82 : decode cX1_side 82 = .ok (.aload_n 0, 1) := by decide +kernel
theorem dX1_side_83 : decode cX1_side 83 = .ok (.getfield 13, 3) := by decide +kernel
theorem dX1_side_86 : decode cX1_side 86 = .ok (.iload_n 3, 1) := by decide +kernel
theorem dX1_side_87 : decode cX1_side 87 = .ok (.iaload, 1) := by decide +kernel
theorem dX1_side_88 : decode cX1_side 88 = .ok (.isub, 1) := by decide +kernel
theorem dX1_side_89 : decode cX1_side 89 = .ok (.imul, 1) := by decide +kernel
theorem dX1_side_90 : decode cX1_side 90 = .ok (.ifCond .gt 9, 3) := by decide +kernel
theorem dX1_side_93 : decode cX1_side 93 = .ok (.iload 4, 2) := by decide +kernel
theorem dX1_side_95 : decode cX1_side 95 = .ok (.iconst 1, 1) := by decide +kernel
theorem dX1_side_96 : decode cX1_side 96 = .ok (.iadd, 1) := by decide +kernel
theorem dX1_side_97 : decode cX1_side 97 = .ok (.istore 4, 2) := by decide +kernel
theorem dX1_side_99 : decode cX1_side 99 = .ok (.iinc 6 1, 3) := by decide +kernel
theorem dX1_side_102 : decode cX1_side 102 = .ok (.goto (-73), 3) := by decide +kernel
theorem dX1_side_105 : decode cX1_side 105 = .ok (.iinc 5 1, 3) := by decide +kernel
theorem dX1_side_108 : decode cX1_side 108 = .ok (.goto (-89), 3) := by decide +kernel
theorem dX1_side_111 : decode cX1_side 111 = .ok (.iload 4, 2) := by decide +kernel
theorem dX1_side_113 : decode cX1_side 113 = .ok (.ireturn, 1) := by decide +kernel
abbrev cX1_under : ByteArray := prog_4_method_10_code
def yX1_under : MethodName := ⟨RX1, "under", "(IIII)J"⟩
theorem dX1_under_0 : decode cX1_under 0 = .ok (.iload_n 1, 1) := by decide +kernel
theorem dX1_under_1 : decode cX1_under 1 = .ok (.sipush 255, 3) := by decide +kernel
theorem dX1_under_4 : decode cX1_under 4 = .ok (.iand, 1) := by decide +kernel
theorem dX1_under_5 : decode cX1_under 5 = .ok (.istore 5, 2) := by decide +kernel
theorem dX1_under_7 : decode cX1_under 7 = .ok (.iload_n 2, 1) := by decide +kernel
theorem dX1_under_8 : decode cX1_under 8 = .ok (.sipush 1023, 3) := by decide +kernel
theorem dX1_under_11 : decode cX1_under 11 = .ok (.iand, 1) := by decide +kernel
theorem dX1_under_12 : decode cX1_under 12 = .ok (.istore 6, 2) := by decide +kernel
theorem dX1_under_14 : decode cX1_under 14 = .ok (.iload_n 3, 1) := by decide +kernel
theorem dX1_under_15 : decode cX1_under 15 = .ok (.sipush 1023, 3) := by decide +kernel
theorem dX1_under_18 : decode cX1_under 18 = .ok (.iand, 1) := by decide +kernel
theorem dX1_under_19 : decode cX1_under 19 = .ok (.istore 7, 2) := by decide +kernel
theorem dX1_under_21 : decode cX1_under 21 = .ok (.iconst 1, 1) := by decide +kernel
theorem dX1_under_22 : decode cX1_under 22 = .ok (.iload 4, 2) := by decide +kernel
theorem dX1_under_24 : decode cX1_under 24 = .ok (.sipush 1023, 3) := by decide +kernel
theorem dX1_under_27 : decode cX1_under 27 = .ok (.iand, 1) := by decide +kernel
theorem dX1_under_28 : decode cX1_under 28 = .ok (.iadd, 1) := by decide +kernel
theorem dX1_under_29 : decode cX1_under 29 = .ok (.istore 8, 2) := by decide +kernel
theorem dX1_under_31 : decode cX1_under 31 = .ok (.lconst 0, 1) := by decide +kernel
theorem dX1_under_32 : decode cX1_under 32 = .ok (.lstore 9, 2) := by decide +kernel
theorem dX1_under_34 : decode cX1_under 34 = .ok (.iconst 0, 1) := by decide +kernel
theorem dX1_under_35 : decode cX1_under 35 = .ok (.istore 11, 2) := by decide +kernel
theorem dX1_under_37 : decode cX1_under 37 = .ok (.iload 11, 2) := by decide +kernel
theorem dX1_under_39 : decode cX1_under 39 = .ok (.iload 5, 2) := by decide +kernel
theorem dX1_under_41 : decode cX1_under 41 = .ok (.if_icmp .ge 26, 3) := by decide +kernel
theorem dX1_under_44 : decode cX1_under 44 = .ok (.lload 9, 2) := by decide +kernel
theorem dX1_under_46 : decode cX1_under 46 = .ok (.iload 6, 2) := by decide +kernel
theorem dX1_under_48 : decode cX1_under 48 = .ok (.iload 11, 2) := by decide +kernel
theorem dX1_under_50 : decode cX1_under 50 = .ok (.imul, 1) := by decide +kernel
theorem dX1_under_51 : decode cX1_under 51 = .ok (.iload 7, 2) := by decide +kernel
theorem dX1_under_53 : decode cX1_under 53 = .ok (.iadd, 1) := by decide +kernel
theorem dX1_under_54 : decode cX1_under 54 = .ok (.iload 8, 2) := by decide +kernel
theorem dX1_under_56 : decode cX1_under 56 = .ok (.idiv, 1) := by decide +kernel
theorem dX1_under_57 : decode cX1_under 57 = .ok (.i2l, 1) := by decide +kernel
theorem dX1_under_58 : decode cX1_under 58 = .ok (.ladd, 1) := by decide +kernel
theorem dX1_under_59 : decode cX1_under 59 = .ok (.lstore 9, 2) := by decide +kernel
theorem dX1_under_61 : decode cX1_under 61 = .ok (.iinc 11 1, 3) := by decide +kernel
theorem dX1_under_64 : decode cX1_under 64 = .ok (.goto (-27), 3) := by decide +kernel
theorem dX1_under_67 : decode cX1_under 67 = .ok (.lload 9, 2) := by decide +kernel
theorem dX1_under_69 : decode cX1_under 69 = .ok (.lreturn, 1) := by decide +kernel
abbrev cX1_seen : ByteArray := prog_4_method_11_code
def yX1_seen : MethodName := ⟨RX1, "seen", "(I)I"⟩
theorem dX1_seen_0 : decode cX1_seen 0 = .ok (.iconst 1, 1) := by decide +kernel
theorem dX1_seen_1 : decode cX1_seen 1 = .ok (.iload_n 1, 1) := by decide +kernel
theorem dX1_seen_2 : decode cX1_seen 2 = .ok (.bipush 63, 2) := by decide +kernel
theorem dX1_seen_4 : decode cX1_seen 4 = .ok (.iand, 1) := by decide +kernel
theorem dX1_seen_5 : decode cX1_seen 5 = .ok (.iadd, 1) := by decide +kernel
theorem dX1_seen_6 : decode cX1_seen 6 = .ok (.istore_n 2, 1) := by decide +kernel
theorem dX1_seen_7 : decode cX1_seen 7 = .ok (.iconst 0, 1) := by decide +kernel
theorem dX1_seen_8 : decode cX1_seen 8 = .ok (.istore_n 3, 1) := by decide +kernel
theorem dX1_seen_9 : decode cX1_seen 9 = .ok (.iconst 0, 1) := by decide +kernel
theorem dX1_seen_10 : decode cX1_seen 10 = .ok (.istore 4, 2) := by decide +kernel
theorem dX1_seen_12 : decode cX1_seen 12 = .ok (.iload 4, 2) := by decide +kernel
theorem dX1_seen_14 : decode cX1_seen 14 = .ok (.iload_n 2, 1) := by decide +kernel
theorem dX1_seen_15 : decode cX1_seen 15 = .ok (.if_icmp .gt 48, 3) := by decide +kernel
theorem dX1_seen_18 : decode cX1_seen 18 = .ok (.iconst 0, 1) := by decide +kernel
theorem dX1_seen_19 : decode cX1_seen 19 = .ok (.istore 5, 2) := by decide +kernel
theorem dX1_seen_21 : decode cX1_seen 21 = .ok (.iload 5, 2) := by decide +kernel
theorem dX1_seen_23 : decode cX1_seen 23 = .ok (.iload_n 2, 1) := by decide +kernel
theorem dX1_seen_24 : decode cX1_seen 24 = .ok (.if_icmp .gt 33, 3) := by decide +kernel
theorem dX1_seen_27 : decode cX1_seen 27 = .ok (.iload 4, 2) := by decide +kernel
theorem dX1_seen_29 : decode cX1_seen 29 = .ok (.ifCond .ne 8, 3) := by decide +kernel
theorem dX1_seen_32 : decode cX1_seen 32 = .ok (.iload 5, 2) := by decide +kernel
theorem dX1_seen_34 : decode cX1_seen 34 = .ok (.ifCond .eq 17, 3) := by decide +kernel
theorem dX1_seen_37 : decode cX1_seen 37 = .ok (.iload 4, 2) := by decide +kernel
theorem dX1_seen_39 : decode cX1_seen 39 = .ok (.iload 5, 2) := by decide +kernel
theorem dX1_seen_41 : decode cX1_seen 41 = .ok (.invokestatic 29, 3) := by decide +kernel
theorem dX1_seen_44 : decode cX1_seen 44 = .ok (.ifCond .eq 7, 3) := by decide +kernel
theorem dX1_seen_47 : decode cX1_seen 47 = .ok (.iload_n 3, 1) := by decide +kernel
theorem dX1_seen_48 : decode cX1_seen 48 = .ok (.iconst 1, 1) := by decide +kernel
theorem dX1_seen_49 : decode cX1_seen 49 = .ok (.iadd, 1) := by decide +kernel
theorem dX1_seen_50 : decode cX1_seen 50 = .ok (.istore_n 3, 1) := by decide +kernel
theorem dX1_seen_51 : decode cX1_seen 51 = .ok (.iinc 5 1, 3) := by decide +kernel
theorem dX1_seen_54 : decode cX1_seen 54 = .ok (.goto (-33), 3) := by decide +kernel
theorem dX1_seen_57 : decode cX1_seen 57 = .ok (.iinc 4 1, 3) := by decide +kernel
theorem dX1_seen_60 : decode cX1_seen 60 = .ok (.goto (-48), 3) := by decide +kernel
theorem dX1_seen_63 : decode cX1_seen 63 = .ok (.iload_n 3, 1) := by decide +kernel
theorem dX1_seen_64 : decode cX1_seen 64 = .ok (.ireturn, 1) := by decide +kernel
abbrev cX1_free : ByteArray := prog_4_method_12_code
def yX1_free : MethodName := ⟨RX1, "free", "(II)Z"⟩
theorem dX1_free_0 : decode cX1_free 0 = .ok (.iload_n 0, 1) := by decide +kernel
theorem dX1_free_1 : decode cX1_free 1 = .ok (.istore_n 2, 1) := by decide +kernel
theorem dX1_free_2 : decode cX1_free 2 = .ok (.iload_n 1, 1) := by decide +kernel
theorem dX1_free_3 : decode cX1_free 3 = .ok (.istore_n 3, 1) := by decide +kernel
theorem dX1_free_4 : decode cX1_free 4 = .ok (.iload_n 3, 1) := by decide +kernel
theorem dX1_free_5 : decode cX1_free 5 = .ok (.ifCond .eq 16, 3) := by decide +kernel
theorem dX1_free_8 : decode cX1_free 8 = .ok (.iload_n 2, 1) := by decide +kernel
theorem dX1_free_9 : decode cX1_free 9 = .ok (.iload_n 3, 1) := by decide +kernel
theorem dX1_free_10 : decode cX1_free 10 = .ok (.irem, 1) := by decide +kernel
theorem dX1_free_11 : decode cX1_free 11 = .ok (.istore 4, 2) := by decide +kernel
theorem dX1_free_13 : decode cX1_free 13 = .ok (.iload_n 3, 1) := by decide +kernel
theorem dX1_free_14 : decode cX1_free 14 = .ok (.istore_n 2, 1) := by decide +kernel
theorem dX1_free_15 : decode cX1_free 15 = .ok (.iload 4, 2) := by decide +kernel
theorem dX1_free_17 : decode cX1_free 17 = .ok (.istore_n 3, 1) := by decide +kernel
theorem dX1_free_18 : decode cX1_free 18 = .ok (.goto (-14), 3) := by decide +kernel
theorem dX1_free_21 : decode cX1_free 21 = .ok (.iload_n 2, 1) := by decide +kernel
theorem dX1_free_22 : decode cX1_free 22 = .ok (.iconst 1, 1) := by decide +kernel
theorem dX1_free_23 : decode cX1_free 23 = .ok (.if_icmp .ne 7, 3) := by decide +kernel
theorem dX1_free_26 : decode cX1_free 26 = .ok (.iconst 1, 1) := by decide +kernel
theorem dX1_free_27 : decode cX1_free 27 = .ok (.goto 4, 3) := by decide +kernel
theorem dX1_free_30 : decode cX1_free 30 = .ok (.iconst 0, 1) := by decide +kernel
theorem dX1_free_31 : decode cX1_free 31 = .ok (.ireturn, 1) := by decide +kernel
theorem q6 : (Jvm.Cond.initialized "GridPointsModel") ∈ lw_all := lw_g (lw_at lw_m0 2 rfl) rfl
theorem q81 : (Jvm.Cond.instantiable "GridPointsModel" (2 : Nat)) ∈ lw_all := lw_g (lw_at lw_m0 77 rfl) rfl
theorem q83 : (Jvm.Cond.instanceMethod ({ cls := "GridPointsModel", name := "<init>", desc := "()V" } : Jvm.MethodName)) ∈ lw_all := lw_g (lw_at lw_m0 79 rfl) rfl
theorem q84 : (Jvm.Cond.code ({ cls := "GridPointsModel", name := "<init>", desc := "()V" } : Jvm.MethodName) prog_4_method_1_code (1 : Nat) (Option.none : Option Jvm.ClassFile.FieldType)) ∈ lw_all := lw_g (lw_at lw_m0 80 rfl) rfl
theorem q85 : (Jvm.Cond.methodLink "GridPointsModel" (1 : Nat) ({ cls := "java/lang/Object", name := "<init>", desc := "()V" } : Jvm.MethodName)) ∈ lw_all := lw_g (lw_at lw_m0 81 rfl) rfl
theorem q86 : (Jvm.Cond.fieldLink "GridPointsModel" (7 : Nat) "GridPointsModel" "x" "[I") ∈ lw_all := lw_g (lw_at lw_m0 82 rfl) rfl
theorem q87 : (Jvm.Cond.fieldLink "GridPointsModel" (13 : Nat) "GridPointsModel" "y" "[I") ∈ lw_all := lw_g (lw_at lw_m0 83 rfl) rfl
theorem q88 : (Jvm.Cond.laysFinal "GridPointsModel" "GridPointsModel" "x" "[I") ∈ lw_all := lw_g (lw_at lw_m0 84 rfl) rfl
theorem q89 : (Jvm.Cond.soleField "GridPointsModel" "x") ∈ lw_all := lw_g (lw_at lw_m0 85 rfl) rfl
theorem q90 : (Jvm.Cond.laysFinal "GridPointsModel" "GridPointsModel" "y" "[I") ∈ lw_all := lw_g (lw_at lw_m0 86 rfl) rfl
theorem q91 : (Jvm.Cond.soleField "GridPointsModel" "y") ∈ lw_all := lw_g (lw_at lw_m0 87 rfl) rfl
theorem q92 : (Jvm.Cond.superclass "GridPointsModel" "java/lang/Object") ∈ lw_all := lw_g (lw_at lw_m0 88 rfl) rfl
theorem q94 : (Jvm.Cond.instanceMethod ({ cls := "GridPointsModel", name := "corner", desc := "(III)V" } : Jvm.MethodName)) ∈ lw_all := lw_g (lw_at lw_m0 90 rfl) rfl
theorem q95 : (Jvm.Cond.selects "GridPointsModel" ({ cls := "GridPointsModel", name := "corner", desc := "(III)V" } : Jvm.MethodName) ({ cls := "GridPointsModel", name := "corner", desc := "(III)V" } : Jvm.MethodName)) ∈ lw_all := lw_g (lw_at lw_m0 91 rfl) rfl
theorem q96 : (Jvm.Cond.code ({ cls := "GridPointsModel", name := "corner", desc := "(III)V" } : Jvm.MethodName) prog_4_method_2_code (5 : Nat) (Option.none : Option Jvm.ClassFile.FieldType)) ∈ lw_all := lw_g (lw_at lw_m0 92 rfl) rfl
theorem q97 : (Jvm.Cond.constant "GridPointsModel" (16 : Nat) (2147483647 : Int32)) ∈ lw_all := lw_g (lw_at lw_m0 93 rfl) rfl
theorem q99 : (Jvm.Cond.instanceMethod ({ cls := "GridPointsModel", name := "inside", desc := "()I" } : Jvm.MethodName)) ∈ lw_all := lw_g (lw_at lw_m0 95 rfl) rfl
theorem q100 : (Jvm.Cond.selects "GridPointsModel" ({ cls := "GridPointsModel", name := "inside", desc := "()I" } : Jvm.MethodName) ({ cls := "GridPointsModel", name := "inside", desc := "()I" } : Jvm.MethodName)) ∈ lw_all := lw_g (lw_at lw_m0 96 rfl) rfl
theorem q101 : (Jvm.Cond.code ({ cls := "GridPointsModel", name := "inside", desc := "()I" } : Jvm.MethodName) prog_4_method_6_code (1 : Nat) (Option.some Jvm.ClassFile.FieldType.int)) ∈ lw_all := lw_g (lw_at lw_m0 97 rfl) rfl
theorem q102 : (Jvm.Cond.methodLink "GridPointsModel" (25 : Nat) ({ cls := "GridPointsModel", name := "count", desc := "(I)I" } : Jvm.MethodName)) ∈ lw_all := lw_g (lw_at lw_m0 98 rfl) rfl
theorem q103 : (Jvm.Cond.privateMethod ({ cls := "GridPointsModel", name := "count", desc := "(I)I" } : Jvm.MethodName)) ∈ lw_tbl := lw_at lw_m0 99 rfl
theorem q104 : (Jvm.Cond.instanceMethod ({ cls := "GridPointsModel", name := "count", desc := "(I)I" } : Jvm.MethodName)) ∈ lw_all := lw_g (lw_at lw_m0 100 rfl) rfl
theorem q105 : (Jvm.Cond.code ({ cls := "GridPointsModel", name := "count", desc := "(I)I" } : Jvm.MethodName) prog_4_method_5_code (5 : Nat) (Option.some Jvm.ClassFile.FieldType.int)) ∈ lw_all := lw_g (lw_at lw_m0 101 rfl) rfl
theorem q106 : (Jvm.Cond.methodLink "GridPointsModel" (21 : Nat) ({ cls := "GridPointsModel", name := "place", desc := "(II)I" } : Jvm.MethodName)) ∈ lw_all := lw_g (lw_at lw_m0 102 rfl) rfl
theorem q107 : (Jvm.Cond.privateMethod ({ cls := "GridPointsModel", name := "place", desc := "(II)I" } : Jvm.MethodName)) ∈ lw_tbl := lw_at lw_m0 103 rfl
theorem q108 : (Jvm.Cond.instanceMethod ({ cls := "GridPointsModel", name := "place", desc := "(II)I" } : Jvm.MethodName)) ∈ lw_all := lw_g (lw_at lw_m0 104 rfl) rfl
theorem q109 : (Jvm.Cond.code ({ cls := "GridPointsModel", name := "place", desc := "(II)I" } : Jvm.MethodName) prog_4_method_4_code (9 : Nat) (Option.some Jvm.ClassFile.FieldType.int)) ∈ lw_all := lw_g (lw_at lw_m0 105 rfl) rfl
theorem q110 : (Jvm.Cond.methodLink "GridPointsModel" (17 : Nat) ({ cls := "GridPointsModel", name := "turn", desc := "(IIII)I" } : Jvm.MethodName)) ∈ lw_all := lw_g (lw_at lw_m0 106 rfl) rfl
theorem q111 : (Jvm.Cond.privateMethod ({ cls := "GridPointsModel", name := "turn", desc := "(IIII)I" } : Jvm.MethodName)) ∈ lw_tbl := lw_at lw_m0 107 rfl
theorem q112 : (Jvm.Cond.instanceMethod ({ cls := "GridPointsModel", name := "turn", desc := "(IIII)I" } : Jvm.MethodName)) ∈ lw_all := lw_g (lw_at lw_m0 108 rfl) rfl
theorem q113 : (Jvm.Cond.code ({ cls := "GridPointsModel", name := "turn", desc := "(IIII)I" } : Jvm.MethodName) prog_4_method_3_code (5 : Nat) (Option.some Jvm.ClassFile.FieldType.int)) ∈ lw_all := lw_g (lw_at lw_m0 109 rfl) rfl
theorem q115 : (Jvm.Cond.instanceMethod ({ cls := "GridPointsModel", name := "edge", desc := "()I" } : Jvm.MethodName)) ∈ lw_all := lw_g (lw_at lw_m0 111 rfl) rfl
theorem q116 : (Jvm.Cond.selects "GridPointsModel" ({ cls := "GridPointsModel", name := "edge", desc := "()I" } : Jvm.MethodName) ({ cls := "GridPointsModel", name := "edge", desc := "()I" } : Jvm.MethodName)) ∈ lw_all := lw_g (lw_at lw_m0 112 rfl) rfl
theorem q117 : (Jvm.Cond.code ({ cls := "GridPointsModel", name := "edge", desc := "()I" } : Jvm.MethodName) prog_4_method_7_code (1 : Nat) (Option.some Jvm.ClassFile.FieldType.int)) ∈ lw_all := lw_g (lw_at lw_m0 113 rfl) rfl
theorem q119 : (Jvm.Cond.instanceMethod ({ cls := "GridPointsModel", name := "twiceArea", desc := "()I" } : Jvm.MethodName)) ∈ lw_all := lw_g (lw_at lw_m0 115 rfl) rfl
theorem q120 : (Jvm.Cond.selects "GridPointsModel" ({ cls := "GridPointsModel", name := "twiceArea", desc := "()I" } : Jvm.MethodName) ({ cls := "GridPointsModel", name := "twiceArea", desc := "()I" } : Jvm.MethodName)) ∈ lw_all := lw_g (lw_at lw_m0 116 rfl) rfl
theorem q121 : (Jvm.Cond.code ({ cls := "GridPointsModel", name := "twiceArea", desc := "()I" } : Jvm.MethodName) prog_4_method_8_code (2 : Nat) (Option.some Jvm.ClassFile.FieldType.int)) ∈ lw_all := lw_g (lw_at lw_m0 117 rfl) rfl
theorem q123 : (Jvm.Cond.instanceMethod ({ cls := "GridPointsModel", name := "side", desc := "(I)I" } : Jvm.MethodName)) ∈ lw_all := lw_g (lw_at lw_m0 119 rfl) rfl
theorem q124 : (Jvm.Cond.selects "GridPointsModel" ({ cls := "GridPointsModel", name := "side", desc := "(I)I" } : Jvm.MethodName) ({ cls := "GridPointsModel", name := "side", desc := "(I)I" } : Jvm.MethodName)) ∈ lw_all := lw_g (lw_at lw_m0 120 rfl) rfl
theorem q125 : (Jvm.Cond.code ({ cls := "GridPointsModel", name := "side", desc := "(I)I" } : Jvm.MethodName) prog_4_method_9_code (7 : Nat) (Option.some Jvm.ClassFile.FieldType.int)) ∈ lw_all := lw_g (lw_at lw_m0 121 rfl) rfl
theorem q127 : (Jvm.Cond.instanceMethod ({ cls := "GridPointsModel", name := "under", desc := "(IIII)J" } : Jvm.MethodName)) ∈ lw_all := lw_g (lw_at lw_m0 123 rfl) rfl
theorem q128 : (Jvm.Cond.selects "GridPointsModel" ({ cls := "GridPointsModel", name := "under", desc := "(IIII)J" } : Jvm.MethodName) ({ cls := "GridPointsModel", name := "under", desc := "(IIII)J" } : Jvm.MethodName)) ∈ lw_all := lw_g (lw_at lw_m0 124 rfl) rfl
theorem q129 : (Jvm.Cond.code ({ cls := "GridPointsModel", name := "under", desc := "(IIII)J" } : Jvm.MethodName) prog_4_method_10_code (12 : Nat) (Option.some Jvm.ClassFile.FieldType.long)) ∈ lw_all := lw_g (lw_at lw_m0 125 rfl) rfl
theorem q131 : (Jvm.Cond.instanceMethod ({ cls := "GridPointsModel", name := "seen", desc := "(I)I" } : Jvm.MethodName)) ∈ lw_all := lw_g (lw_at lw_m0 127 rfl) rfl
theorem q132 : (Jvm.Cond.selects "GridPointsModel" ({ cls := "GridPointsModel", name := "seen", desc := "(I)I" } : Jvm.MethodName) ({ cls := "GridPointsModel", name := "seen", desc := "(I)I" } : Jvm.MethodName)) ∈ lw_all := lw_g (lw_at lw_m0 128 rfl) rfl
theorem q133 : (Jvm.Cond.code ({ cls := "GridPointsModel", name := "seen", desc := "(I)I" } : Jvm.MethodName) prog_4_method_11_code (6 : Nat) (Option.some Jvm.ClassFile.FieldType.int)) ∈ lw_all := lw_g (lw_at lw_m0 129 rfl) rfl
theorem q134 : (Jvm.Cond.methodLink "GridPointsModel" (29 : Nat) ({ cls := "GridPointsModel", name := "free", desc := "(II)Z" } : Jvm.MethodName)) ∈ lw_all := lw_g (lw_at lw_m0 130 rfl) rfl
theorem q135 : (Jvm.Cond.static ({ cls := "GridPointsModel", name := "free", desc := "(II)Z" } : Jvm.MethodName)) ∈ lw_all := lw_g (lw_at lw_m0 131 rfl) rfl
theorem q136 : (Jvm.Cond.code ({ cls := "GridPointsModel", name := "free", desc := "(II)Z" } : Jvm.MethodName) prog_4_method_12_code (5 : Nat) (Option.some Jvm.ClassFile.FieldType.boolean)) ∈ lw_all := lw_g (lw_at lw_m0 132 rfl) rfl
theorem in_X1 : ∀ w ∈ wsX10, w ∈ lw_all := lw_in wsX10 [88, 90] (by decide +kernel) (by decide +kernel)
end
section
/-! java/lang/Math -/
set_option maxRecDepth 100000
def RJ0 : String := "java/lang/Math"
abbrev cJ0_abs : ByteArray := prog_5_method_59_code
def yJ0_abs : MethodName := ⟨RJ0, "abs", "(I)I"⟩
theorem dJ0_abs_0 : decode cJ0_abs 0 = .ok (.iload_n 0, 1) := by decide +kernel
theorem dJ0_abs_1 : decode cJ0_abs 1 = .ok (.ifCond .ge 8, 3) := by decide +kernel
theorem dJ0_abs_4 : decode cJ0_abs 4 = .ok (.iload_n 0, 1) := by decide +kernel
theorem dJ0_abs_5 : decode cJ0_abs 5 = .ok (.ineg, 1) := by decide +kernel
theorem dJ0_abs_6 : decode cJ0_abs 6 = .ok (.goto 4, 3) := by decide +kernel
theorem dJ0_abs_9 : decode cJ0_abs 9 = .ok (.iload_n 0, 1) := by decide +kernel
theorem dJ0_abs_10 : decode cJ0_abs 10 = .ok (.ireturn, 1) := by decide +kernel
abbrev cJ0_max : ByteArray := prog_5_method_65_code
def yJ0_max : MethodName := ⟨RJ0, "max", "(II)I"⟩
theorem dJ0_max_0 : decode cJ0_max 0 = .ok (.iload_n 0, 1) := by decide +kernel
theorem dJ0_max_1 : decode cJ0_max 1 = .ok (.iload_n 1, 1) := by decide +kernel
theorem dJ0_max_2 : decode cJ0_max 2 = .ok (.if_icmp .lt 7, 3) := by decide +kernel
theorem dJ0_max_5 : decode cJ0_max 5 = .ok (.iload_n 0, 1) := by decide +kernel
theorem dJ0_max_6 : decode cJ0_max 6 = .ok (.goto 4, 3) := by decide +kernel
theorem dJ0_max_9 : decode cJ0_max 9 = .ok (.iload_n 1, 1) := by decide +kernel
theorem dJ0_max_10 : decode cJ0_max 10 = .ok (.ireturn, 1) := by decide +kernel
theorem q7 : (Jvm.Cond.initialized "java/lang/Math") ∈ lw_all := lw_g (lw_at lw_m0 3 rfl) rfl
theorem q41 : (Jvm.Cond.static ({ cls := "java/lang/Math", name := "abs", desc := "(I)I" } : Jvm.MethodName)) ∈ lw_all := lw_g (lw_at lw_m0 37 rfl) rfl
theorem q42 : (Jvm.Cond.code ({ cls := "java/lang/Math", name := "abs", desc := "(I)I" } : Jvm.MethodName) prog_5_method_59_code (1 : Nat) (Option.some Jvm.ClassFile.FieldType.int)) ∈ lw_all := lw_g (lw_at lw_m0 38 rfl) rfl
theorem q60 : (Jvm.Cond.static ({ cls := "java/lang/Math", name := "max", desc := "(II)I" } : Jvm.MethodName)) ∈ lw_all := lw_g (lw_at lw_m0 56 rfl) rfl
theorem q61 : (Jvm.Cond.code ({ cls := "java/lang/Math", name := "max", desc := "(II)I" } : Jvm.MethodName) prog_5_method_65_code (2 : Nat) (Option.some Jvm.ClassFile.FieldType.int)) ∈ lw_all := lw_g (lw_at lw_m0 57 rfl) rfl
/-! java/lang/Object -/
set_option maxRecDepth 100000
def RJ1 : String := "java/lang/Object"
abbrev cJ1_init : ByteArray := object_method_1_code
def yJ1_init : MethodName := ⟨RJ1, "<init>", "()V"⟩
theorem dJ1_init_0 : decode cJ1_init 0 = .ok (.return_, 1) := by decide +kernel
theorem q15 : (Jvm.Cond.instanceMethod ({ cls := "java/lang/Object", name := "<init>", desc := "()V" } : Jvm.MethodName)) ∈ lw_all := lw_g (lw_at lw_m0 11 rfl) rfl
theorem q16 : (Jvm.Cond.code ({ cls := "java/lang/Object", name := "<init>", desc := "()V" } : Jvm.MethodName) object_method_1_code (1 : Nat) (Option.none : Option Jvm.ClassFile.FieldType)) ∈ lw_all := lw_g (lw_at lw_m0 12 rfl) rfl
/-! GridPoints$Steps -/
set_option maxRecDepth 100000
def RX2 : String := "GridPoints$Steps"
abbrev cX2_common : ByteArray := prog_2_method_2_code
def yX2_common : MethodName := ⟨RX2, "common", "(II)I"⟩
theorem dX2_common_0 : decode cX2_common 0 = .ok (.iload_n 0, 1) := by decide +kernel
theorem dX2_common_1 : decode cX2_common 1 = .ok (.invokestatic 7, 3) := by decide +kernel
theorem dX2_common_4 : decode cX2_common 4 = .ok (.istore_n 2, 1) := by decide +kernel
theorem dX2_common_5 : decode cX2_common 5 = .ok (.iload_n 1, 1) := by decide +kernel
theorem dX2_common_6 : decode cX2_common 6 = .ok (.invokestatic 7, 3) := by decide +kernel
theorem dX2_common_9 : decode cX2_common 9 = .ok (.istore_n 3, 1) := by decide +kernel
theorem dX2_common_10 : decode cX2_common 10 = .ok (.iload_n 3, 1) := by decide +kernel
theorem dX2_common_11 : decode cX2_common 11 = .ok (.ifCond .eq 16, 3) := by decide +kernel
theorem dX2_common_14 : decode cX2_common 14 = .ok (.iload_n 2, 1) := by decide +kernel
theorem dX2_common_15 : decode cX2_common 15 = .ok (.iload_n 3, 1) := by decide +kernel
theorem dX2_common_16 : decode cX2_common 16 = .ok (.irem, 1) := by decide +kernel
theorem dX2_common_17 : decode cX2_common 17 = .ok (.istore 4, 2) := by decide +kernel
theorem dX2_common_19 : decode cX2_common 19 = .ok (.iload_n 3, 1) := by decide +kernel
theorem dX2_common_20 : decode cX2_common 20 = .ok (.istore_n 2, 1) := by decide +kernel
theorem dX2_common_21 : decode cX2_common 21 = .ok (.iload 4, 2) := by decide +kernel
theorem dX2_common_23 : decode cX2_common 23 = .ok (.istore_n 3, 1) := by decide +kernel
theorem dX2_common_24 : decode cX2_common 24 = .ok (.goto (-14), 3) := by decide +kernel
theorem dX2_common_27 : decode cX2_common 27 = .ok (.iload_n 2, 1) := by decide +kernel
theorem dX2_common_28 : decode cX2_common 28 = .ok (.ireturn, 1) := by decide +kernel
abbrev cX2_sum : ByteArray := prog_2_method_3_code
def yX2_sum : MethodName := ⟨RX2, "sum", "(JJJJ)J"⟩
theorem dX2_sum_0 : decode cX2_sum 0 = .ok (.lload_n 0, 1) := by decide +kernel
theorem dX2_sum_1 : decode cX2_sum 1 = .ok (.lstore 8, 2) := by decide +kernel
theorem dX2_sum_3 : decode cX2_sum 3 = .ok (.lload_n 2, 1) := by decide +kernel
theorem dX2_sum_4 : decode cX2_sum 4 = .ok (.lstore 10, 2) := by decide +kernel
theorem dX2_sum_6 : decode cX2_sum 6 = .ok (.lload 4, 2) := by decide +kernel
theorem dX2_sum_8 : decode cX2_sum 8 = .ok (.lstore 12, 2) := by decide +kernel
theorem dX2_sum_10 : decode cX2_sum 10 = .ok (.lload 6, 2) := by decide +kernel
theorem dX2_sum_12 : decode cX2_sum 12 = .ok (.lstore 14, 2) := by decide +kernel
theorem dX2_sum_14 : decode cX2_sum 14 = .ok (.lconst 0, 1) := by decide +kernel
theorem dX2_sum_15 : decode cX2_sum 15 = .ok (.lstore 16, 2) := by decide +kernel
theorem dX2_sum_17 : decode cX2_sum 17 = .ok (.lload 8, 2) := by decide +kernel
theorem dX2_sum_19 : decode cX2_sum 19 = .ok (.lconst 0, 1) := by decide +kernel
theorem dX2_sum_20 : decode cX2_sum 20 = .ok (.lcmp, 1) := by decide +kernel
theorem dX2_sum_21 : decode cX2_sum 21 = .ok (.ifCond .le 98, 3) := by decide +kernel
theorem dX2_sum_24 : decode cX2_sum 24 = .ok (.lload 16, 2) := by decide +kernel
theorem dX2_sum_26 : decode cX2_sum 26 = .ok (.lload 8, 2) := by decide +kernel
theorem dX2_sum_28 : decode cX2_sum 28 = .ok (.lconst 1, 1) := by decide +kernel
theorem dX2_sum_29 : decode cX2_sum 29 = .ok (.lsub, 1) := by decide +kernel
theorem dX2_sum_30 : decode cX2_sum 30 = .ok (.lload 8, 2) := by decide +kernel
theorem dX2_sum_32 : decode cX2_sum 32 = .ok (.lmul, 1) := by decide +kernel
theorem dX2_sum_33 : decode cX2_sum 33 = .ok (.ldc2_w 13, 3) := by decide +kernel
theorem dX2_sum_36 : decode cX2_sum 36 = .ok (.ldiv, 1) := by decide +kernel
theorem dX2_sum_37 : decode cX2_sum 37 = .ok (.lload 10, 2) := by decide +kernel
theorem dX2_sum_39 : decode cX2_sum 39 = .ok (.lload 14, 2) := by decide +kernel
theorem dX2_sum_41 : decode cX2_sum 41 = .ok (.ldiv, 1) := by decide +kernel
theorem dX2_sum_42 : decode cX2_sum 42 = .ok (.lmul, 1) := by decide +kernel
theorem dX2_sum_43 : decode cX2_sum 43 = .ok (.lload 8, 2) := by decide +kernel
theorem dX2_sum_45 : decode cX2_sum 45 = .ok (.lload 12, 2) := by decide +kernel
theorem dX2_sum_47 : decode cX2_sum 47 = .ok (.lload 14, 2) := by decide +kernel
theorem dX2_sum_49 : decode cX2_sum 49 = .ok (.ldiv, 1) := by decide +kernel
theorem dX2_sum_50 : decode cX2_sum 50 = .ok (.lmul, 1) := by decide +kernel
theorem dX2_sum_51 : decode cX2_sum 51 = .ok (.ladd, 1) := by decide +kernel
theorem dX2_sum_52 : decode cX2_sum 52 = .ok (.ladd, 1) := by decide +kernel
theorem dX2_sum_53 : decode cX2_sum 53 = .ok (.lstore 16, 2) := by decide +kernel
theorem dX2_sum_55 : decode cX2_sum 55 = .ok (.lload 10, 2) := by decide +kernel
theorem dX2_sum_57 : decode cX2_sum 57 = .ok (.lload 14, 2) := by decide +kernel
theorem dX2_sum_59 : decode cX2_sum 59 = .ok (.lrem, 1) := by decide +kernel
theorem dX2_sum_60 : decode cX2_sum 60 = .ok (.lstore 10, 2) := by decide +kernel
theorem dX2_sum_62 : decode cX2_sum 62 = .ok (.lload 12, 2) := by decide +kernel
theorem dX2_sum_64 : decode cX2_sum 64 = .ok (.lload 14, 2) := by decide +kernel
theorem dX2_sum_66 : decode cX2_sum 66 = .ok (.lrem, 1) := by decide +kernel
theorem dX2_sum_67 : decode cX2_sum 67 = .ok (.lstore 12, 2) := by decide +kernel
theorem dX2_sum_69 : decode cX2_sum 69 = .ok (.lload 10, 2) := by decide +kernel
theorem dX2_sum_71 : decode cX2_sum 71 = .ok (.lload 8, 2) := by decide +kernel
theorem dX2_sum_73 : decode cX2_sum 73 = .ok (.lmul, 1) := by decide +kernel
theorem dX2_sum_74 : decode cX2_sum 74 = .ok (.lload 12, 2) := by decide +kernel
theorem dX2_sum_76 : decode cX2_sum 76 = .ok (.ladd, 1) := by decide +kernel
theorem dX2_sum_77 : decode cX2_sum 77 = .ok (.lstore 18, 2) := by decide +kernel
theorem dX2_sum_79 : decode cX2_sum 79 = .ok (.lload 18, 2) := by decide +kernel
theorem dX2_sum_81 : decode cX2_sum 81 = .ok (.lload 14, 2) := by decide +kernel
theorem dX2_sum_83 : decode cX2_sum 83 = .ok (.lcmp, 1) := by decide +kernel
theorem dX2_sum_84 : decode cX2_sum 84 = .ok (.ifCond .ge 6, 3) := by decide +kernel
theorem dX2_sum_87 : decode cX2_sum 87 = .ok (.goto 32, 3) := by decide +kernel
theorem dX2_sum_90 : decode cX2_sum 90 = .ok (.lload 18, 2) := by decide +kernel
theorem dX2_sum_92 : decode cX2_sum 92 = .ok (.lload 14, 2) := by decide +kernel
theorem dX2_sum_94 : decode cX2_sum 94 = .ok (.ldiv, 1) := by decide +kernel
theorem dX2_sum_95 : decode cX2_sum 95 = .ok (.lstore 8, 2) := by decide +kernel
theorem dX2_sum_97 : decode cX2_sum 97 = .ok (.lload 18, 2) := by decide +kernel
theorem dX2_sum_99 : decode cX2_sum 99 = .ok (.lload 14, 2) := by decide +kernel
theorem dX2_sum_101 : decode cX2_sum 101 = .ok (.lrem, 1) := by decide +kernel
theorem dX2_sum_102 : decode cX2_sum 102 = .ok (.lstore 12, 2) := by decide +kernel
theorem dX2_sum_104 : decode cX2_sum 104 = .ok (.lload 14, 2) := by decide +kernel
theorem dX2_sum_106 : decode cX2_sum 106 = .ok (.lstore 20, 2) := by decide +kernel
theorem dX2_sum_108 : decode cX2_sum 108 = .ok (.lload 10, 2) := by decide +kernel
theorem dX2_sum_110 : decode cX2_sum 110 = .ok (.lstore 14, 2) := by decide +kernel
theorem dX2_sum_112 : decode cX2_sum 112 = .ok (.lload 20, 2) := by decide +kernel
theorem dX2_sum_114 : decode cX2_sum 114 = .ok (.lstore 10, 2) := by decide +kernel
theorem dX2_sum_116 : decode cX2_sum 116 = .ok (.goto (-99), 3) := by decide +kernel
theorem dX2_sum_119 : decode cX2_sum 119 = .ok (.lload 16, 2) := by decide +kernel
theorem dX2_sum_121 : decode cX2_sum 121 = .ok (.lreturn, 1) := by decide +kernel
theorem q8 : (Jvm.Cond.initialized "GridPoints$Steps") ∈ lw_all := lw_g (lw_at lw_m0 4 rfl) rfl
theorem q52 : (Jvm.Cond.static ({ cls := "GridPoints$Steps", name := "common", desc := "(II)I" } : Jvm.MethodName)) ∈ lw_all := lw_g (lw_at lw_m0 48 rfl) rfl
theorem q53 : (Jvm.Cond.code ({ cls := "GridPoints$Steps", name := "common", desc := "(II)I" } : Jvm.MethodName) prog_2_method_2_code (5 : Nat) (Option.some Jvm.ClassFile.FieldType.int)) ∈ lw_all := lw_g (lw_at lw_m0 49 rfl) rfl
theorem q54 : (Jvm.Cond.methodLink "GridPoints$Steps" (7 : Nat) ({ cls := "java/lang/Math", name := "abs", desc := "(I)I" } : Jvm.MethodName)) ∈ lw_all := lw_g (lw_at lw_m0 50 rfl) rfl
theorem q73 : (Jvm.Cond.static ({ cls := "GridPoints$Steps", name := "sum", desc := "(JJJJ)J" } : Jvm.MethodName)) ∈ lw_all := lw_g (lw_at lw_m0 69 rfl) rfl
theorem q74 : (Jvm.Cond.code ({ cls := "GridPoints$Steps", name := "sum", desc := "(JJJJ)J" } : Jvm.MethodName) prog_2_method_3_code (22 : Nat) (Option.some Jvm.ClassFile.FieldType.long)) ∈ lw_all := lw_g (lw_at lw_m0 70 rfl) rfl
theorem q75 : (Jvm.Cond.constantLong "GridPoints$Steps" (13 : Nat) (2 : Int64)) ∈ lw_all := lw_g (lw_at lw_m0 71 rfl) rfl
end
section
theorem q27 : (Jvm.Cond.arrayClass Jvm.ClassFile.FieldType.int) ∈ lw_all := lw_g (lw_at lw_m0 23 rfl) rfl
set_option maxRecDepth 100000
theorem q4 : (Jvm.Cond.initialized "GridPointsLaw") ∈ lw_all := lw_g (lw_at lw_m0 0 rfl) rfl
set_option maxRecDepth 100000
theorem q9 : (Jvm.Cond.classLink "GridPointsLaw" (7 : Nat) "GridPoints") ∈ lw_all := lw_g (lw_at lw_m0 5 rfl) rfl
theorem q11 : (Jvm.Cond.methodLink "GridPointsLaw" (9 : Nat) ({ cls := "GridPoints", name := "<init>", desc := "()V" } : Jvm.MethodName)) ∈ lw_all := lw_g (lw_at lw_m0 7 rfl) rfl
theorem q28 : (Jvm.Cond.methodLink "GridPointsLaw" (13 : Nat) ({ cls := "GridPoints", name := "corner", desc := "(III)V" } : Jvm.MethodName)) ∈ lw_all := lw_g (lw_at lw_m0 24 rfl) rfl
theorem q36 : (Jvm.Cond.methodLink "GridPointsLaw" (27 : Nat) ({ cls := "GridPoints", name := "twiceArea", desc := "()I" } : Jvm.MethodName)) ∈ lw_all := lw_g (lw_at lw_m0 32 rfl) rfl
theorem q43 : (Jvm.Cond.methodLink "GridPointsLaw" (31 : Nat) ({ cls := "GridPoints", name := "side", desc := "(I)I" } : Jvm.MethodName)) ∈ lw_all := lw_g (lw_at lw_m0 39 rfl) rfl
theorem q55 : (Jvm.Cond.methodLink "GridPointsLaw" (23 : Nat) ({ cls := "GridPoints", name := "edge", desc := "()I" } : Jvm.MethodName)) ∈ lw_all := lw_g (lw_at lw_m0 51 rfl) rfl
theorem q63 : (Jvm.Cond.methodLink "GridPointsLaw" (18 : Nat) ({ cls := "GridPoints", name := "inside", desc := "()I" } : Jvm.MethodName)) ∈ lw_all := lw_g (lw_at lw_m0 59 rfl) rfl
theorem q68 : (Jvm.Cond.methodLink "GridPointsLaw" (36 : Nat) ({ cls := "GridPoints", name := "under", desc := "(IIII)J" } : Jvm.MethodName)) ∈ lw_all := lw_g (lw_at lw_m0 64 rfl) rfl
theorem q76 : (Jvm.Cond.methodLink "GridPointsLaw" (41 : Nat) ({ cls := "GridPoints", name := "seen", desc := "(I)I" } : Jvm.MethodName)) ∈ lw_all := lw_g (lw_at lw_m0 72 rfl) rfl
theorem q80 : (Jvm.Cond.classLink "GridPointsLaw" (10 : Nat) "GridPointsModel") ∈ lw_all := lw_g (lw_at lw_m0 76 rfl) rfl
theorem q82 : (Jvm.Cond.methodLink "GridPointsLaw" (12 : Nat) ({ cls := "GridPointsModel", name := "<init>", desc := "()V" } : Jvm.MethodName)) ∈ lw_all := lw_g (lw_at lw_m0 78 rfl) rfl
theorem q93 : (Jvm.Cond.methodLink "GridPointsLaw" (17 : Nat) ({ cls := "GridPointsModel", name := "corner", desc := "(III)V" } : Jvm.MethodName)) ∈ lw_all := lw_g (lw_at lw_m0 89 rfl) rfl
theorem q98 : (Jvm.Cond.methodLink "GridPointsLaw" (22 : Nat) ({ cls := "GridPointsModel", name := "inside", desc := "()I" } : Jvm.MethodName)) ∈ lw_all := lw_g (lw_at lw_m0 94 rfl) rfl
theorem q114 : (Jvm.Cond.methodLink "GridPointsLaw" (26 : Nat) ({ cls := "GridPointsModel", name := "edge", desc := "()I" } : Jvm.MethodName)) ∈ lw_all := lw_g (lw_at lw_m0 110 rfl) rfl
theorem q118 : (Jvm.Cond.methodLink "GridPointsLaw" (30 : Nat) ({ cls := "GridPointsModel", name := "twiceArea", desc := "()I" } : Jvm.MethodName)) ∈ lw_all := lw_g (lw_at lw_m0 114 rfl) rfl
theorem q122 : (Jvm.Cond.methodLink "GridPointsLaw" (35 : Nat) ({ cls := "GridPointsModel", name := "side", desc := "(I)I" } : Jvm.MethodName)) ∈ lw_all := lw_g (lw_at lw_m0 118 rfl) rfl
theorem q126 : (Jvm.Cond.methodLink "GridPointsLaw" (40 : Nat) ({ cls := "GridPointsModel", name := "under", desc := "(IIII)J" } : Jvm.MethodName)) ∈ lw_all := lw_g (lw_at lw_m0 122 rfl) rfl
theorem q130 : (Jvm.Cond.methodLink "GridPointsLaw" (44 : Nat) ({ cls := "GridPointsModel", name := "seen", desc := "(I)I" } : Jvm.MethodName)) ∈ lw_all := lw_g (lw_at lw_m0 126 rfl) rfl
end
section
/-! the law's own entry -/
set_option maxRecDepth 100000
abbrev cL_law : ByteArray := code
theorem dL_law_0 : decode cL_law 0 = .ok (.new 7, 3) := by decide +kernel
theorem dL_law_3 : decode cL_law 3 = .ok (.dup, 1) := by decide +kernel
theorem dL_law_4 : decode cL_law 4 = .ok (.invokespecial 9, 3) := by decide +kernel
theorem dL_law_7 : decode cL_law 7 = .ok (.astore_n 1, 1) := by decide +kernel
theorem dL_law_8 : decode cL_law 8 = .ok (.new 10, 3) := by decide +kernel
theorem dL_law_11 : decode cL_law 11 = .ok (.dup, 1) := by decide +kernel
theorem dL_law_12 : decode cL_law 12 = .ok (.invokespecial 12, 3) := by decide +kernel
theorem dL_law_15 : decode cL_law 15 = .ok (.astore_n 2, 1) := by decide +kernel
theorem dL_law_16 : decode cL_law 16 = .ok (.iconst 0, 1) := by decide +kernel
theorem dL_law_17 : decode cL_law 17 = .ok (.istore_n 3, 1) := by decide +kernel
theorem dL_law_18 : decode cL_law 18 = .ok (.iload_n 3, 1) := by decide +kernel
theorem dL_law_19 : decode cL_law 19 = .ok (.aload_n 0, 1) := by decide +kernel
theorem dL_law_20 : decode cL_law 20 = .ok (.arraylength, 1) := by decide +kernel
theorem dL_law_21 : decode cL_law 21 = .ok (.iconst 5, 1) := by decide +kernel
theorem dL_law_22 : decode cL_law 22 = .ok (.isub, 1) := by decide +kernel
theorem dL_law_23 : decode cL_law 23 = .ok (.if_icmp .gt 239, 3) := by decide +kernel
theorem dL_law_26 : decode cL_law 26 = .ok (.aload_n 0, 1) := by decide +kernel
theorem dL_law_27 : decode cL_law 27 = .ok (.iload_n 3, 1) := by decide +kernel
theorem dL_law_28 : decode cL_law 28 = .ok (.iaload, 1) := by decide +kernel
theorem dL_law_29 : decode cL_law 29 = .ok (.bipush 7, 2) := by decide +kernel
theorem dL_law_31 : decode cL_law 31 = .ok (.iand, 1) := by decide +kernel
theorem dL_law_32 : decode cL_law 32 = .ok (.tableswitch 224 0 6 #[44, 85, 98, 111, 124, 147, 201], 44) := by decide +kernel
theorem dL_law_76 : decode cL_law 76 = .ok (.aload_n 1, 1) := by decide +kernel
theorem dL_law_77 : decode cL_law 77 = .ok (.aload_n 0, 1) := by decide +kernel
theorem dL_law_78 : decode cL_law 78 = .ok (.iload_n 3, 1) := by decide +kernel
theorem dL_law_79 : decode cL_law 79 = .ok (.iconst 1, 1) := by decide +kernel
theorem dL_law_80 : decode cL_law 80 = .ok (.iadd, 1) := by decide +kernel
theorem dL_law_81 : decode cL_law 81 = .ok (.iaload, 1) := by decide +kernel
theorem dL_law_82 : decode cL_law 82 = .ok (.aload_n 0, 1) := by decide +kernel
theorem dL_law_83 : decode cL_law 83 = .ok (.iload_n 3, 1) := by decide +kernel
theorem dL_law_84 : decode cL_law 84 = .ok (.iconst 2, 1) := by decide +kernel
theorem dL_law_85 : decode cL_law 85 = .ok (.iadd, 1) := by decide +kernel
theorem dL_law_86 : decode cL_law 86 = .ok (.iaload, 1) := by decide +kernel
theorem dL_law_87 : decode cL_law 87 = .ok (.aload_n 0, 1) := by decide +kernel
theorem dL_law_88 : decode cL_law 88 = .ok (.iload_n 3, 1) := by decide +kernel
theorem dL_law_89 : decode cL_law 89 = .ok (.iconst 3, 1) := by decide +kernel
theorem dL_law_90 : decode cL_law 90 = .ok (.iadd, 1) := by decide +kernel
theorem dL_law_91 : decode cL_law 91 = .ok (.iaload, 1) := by decide +kernel
theorem dL_law_92 : decode cL_law 92 = .ok (.invokevirtual 13, 3) := by decide +kernel
theorem dL_law_95 : decode cL_law 95 = .ok (.aload_n 2, 1) := by decide +kernel
theorem dL_law_96 : decode cL_law 96 = .ok (.aload_n 0, 1) := by decide +kernel
theorem dL_law_97 : decode cL_law 97 = .ok (.iload_n 3, 1) := by decide +kernel
theorem dL_law_98 : decode cL_law 98 = .ok (.iconst 1, 1) := by decide +kernel
theorem dL_law_99 : decode cL_law 99 = .ok (.iadd, 1) := by decide +kernel
theorem dL_law_100 : decode cL_law 100 = .ok (.iaload, 1) := by decide +kernel
theorem dL_law_101 : decode cL_law 101 = .ok (.aload_n 0, 1) := by decide +kernel
theorem dL_law_102 : decode cL_law 102 = .ok (.iload_n 3, 1) := by decide +kernel
theorem dL_law_103 : decode cL_law 103 = .ok (.iconst 2, 1) := by decide +kernel
theorem dL_law_104 : decode cL_law 104 = .ok (.iadd, 1) := by decide +kernel
theorem dL_law_105 : decode cL_law 105 = .ok (.iaload, 1) := by decide +kernel
theorem dL_law_106 : decode cL_law 106 = .ok (.aload_n 0, 1) := by decide +kernel
theorem dL_law_107 : decode cL_law 107 = .ok (.iload_n 3, 1) := by decide +kernel
theorem dL_law_108 : decode cL_law 108 = .ok (.iconst 3, 1) := by decide +kernel
theorem dL_law_109 : decode cL_law 109 = .ok (.iadd, 1) := by decide +kernel
theorem dL_law_110 : decode cL_law 110 = .ok (.iaload, 1) := by decide +kernel
theorem dL_law_111 : decode cL_law 111 = .ok (.invokevirtual 17, 3) := by decide +kernel
theorem dL_law_114 : decode cL_law 114 = .ok (.goto 142, 3) := by decide +kernel
theorem dL_law_117 : decode cL_law 117 = .ok (.aload_n 1, 1) := by decide +kernel
theorem dL_law_118 : decode cL_law 118 = .ok (.invokevirtual 18, 3) := by decide +kernel
theorem dL_law_121 : decode cL_law 121 = .ok (.aload_n 2, 1) := by decide +kernel
theorem dL_law_122 : decode cL_law 122 = .ok (.invokevirtual 22, 3) := by decide +kernel
theorem dL_law_125 : decode cL_law 125 = .ok (.if_icmp .eq 131, 3) := by decide +kernel
theorem dL_law_128 : decode cL_law 128 = .ok (.iconst 0, 1) := by decide +kernel
theorem dL_law_129 : decode cL_law 129 = .ok (.ireturn, 1) := by decide +kernel
theorem dL_law_130 : decode cL_law 130 = .ok (.aload_n 1, 1) := by decide +kernel
theorem dL_law_131 : decode cL_law 131 = .ok (.invokevirtual 23, 3) := by decide +kernel
theorem dL_law_134 : decode cL_law 134 = .ok (.aload_n 2, 1) := by decide +kernel
theorem dL_law_135 : decode cL_law 135 = .ok (.invokevirtual 26, 3) := by decide +kernel
theorem dL_law_138 : decode cL_law 138 = .ok (.if_icmp .eq 118, 3) := by decide +kernel
theorem dL_law_141 : decode cL_law 141 = .ok (.iconst 0, 1) := by decide +kernel
theorem dL_law_142 : decode cL_law 142 = .ok (.ireturn, 1) := by decide +kernel
theorem dL_law_143 : decode cL_law 143 = .ok (.aload_n 1, 1) := by decide +kernel
theorem dL_law_144 : decode cL_law 144 = .ok (.invokevirtual 27, 3) := by decide +kernel
theorem dL_law_147 : decode cL_law 147 = .ok (.aload_n 2, 1) := by decide +kernel
theorem dL_law_148 : decode cL_law 148 = .ok (.invokevirtual 30, 3) := by decide +kernel
theorem dL_law_151 : decode cL_law 151 = .ok (.if_icmp .eq 105, 3) := by decide +kernel
theorem dL_law_154 : decode cL_law 154 = .ok (.iconst 0, 1) := by decide +kernel
theorem dL_law_155 : decode cL_law 155 = .ok (.ireturn, 1) := by decide +kernel
theorem dL_law_156 : decode cL_law 156 = .ok (.aload_n 1, 1) := by decide +kernel
theorem dL_law_157 : decode cL_law 157 = .ok (.aload_n 0, 1) := by decide +kernel
theorem dL_law_158 : decode cL_law 158 = .ok (.iload_n 3, 1) := by decide +kernel
theorem dL_law_159 : decode cL_law 159 = .ok (.iconst 1, 1) := by decide +kernel
theorem dL_law_160 : decode cL_law 160 = .ok (.iadd, 1) := by decide +kernel
theorem dL_law_161 : decode cL_law 161 = .ok (.iaload, 1) := by decide +kernel
theorem dL_law_162 : decode cL_law 162 = .ok (.invokevirtual 31, 3) := by decide +kernel
theorem dL_law_165 : decode cL_law 165 = .ok (.aload_n 2, 1) := by decide +kernel
theorem dL_law_166 : decode cL_law 166 = .ok (.aload_n 0, 1) := by decide +kernel
theorem dL_law_167 : decode cL_law 167 = .ok (.iload_n 3, 1) := by decide +kernel
theorem dL_law_168 : decode cL_law 168 = .ok (.iconst 1, 1) := by decide +kernel
theorem dL_law_169 : decode cL_law 169 = .ok (.iadd, 1) := by decide +kernel
theorem dL_law_170 : decode cL_law 170 = .ok (.iaload, 1) := by decide +kernel
theorem dL_law_171 : decode cL_law 171 = .ok (.invokevirtual 35, 3) := by decide +kernel
theorem dL_law_174 : decode cL_law 174 = .ok (.if_icmp .eq 82, 3) := by decide +kernel
theorem dL_law_177 : decode cL_law 177 = .ok (.iconst 0, 1) := by decide +kernel
theorem dL_law_178 : decode cL_law 178 = .ok (.ireturn, 1) := by decide +kernel
theorem dL_law_179 : decode cL_law 179 = .ok (.aload_n 1, 1) := by decide +kernel
theorem dL_law_180 : decode cL_law 180 = .ok (.aload_n 0, 1) := by decide +kernel
theorem dL_law_181 : decode cL_law 181 = .ok (.iload_n 3, 1) := by decide +kernel
theorem dL_law_182 : decode cL_law 182 = .ok (.iconst 1, 1) := by decide +kernel
theorem dL_law_183 : decode cL_law 183 = .ok (.iadd, 1) := by decide +kernel
theorem dL_law_184 : decode cL_law 184 = .ok (.iaload, 1) := by decide +kernel
theorem dL_law_185 : decode cL_law 185 = .ok (.aload_n 0, 1) := by decide +kernel
theorem dL_law_186 : decode cL_law 186 = .ok (.iload_n 3, 1) := by decide +kernel
theorem dL_law_187 : decode cL_law 187 = .ok (.iconst 2, 1) := by decide +kernel
theorem dL_law_188 : decode cL_law 188 = .ok (.iadd, 1) := by decide +kernel
theorem dL_law_189 : decode cL_law 189 = .ok (.iaload, 1) := by decide +kernel
theorem dL_law_190 : decode cL_law 190 = .ok (.aload_n 0, 1) := by decide +kernel
theorem dL_law_191 : decode cL_law 191 = .ok (.iload_n 3, 1) := by decide +kernel
theorem dL_law_192 : decode cL_law 192 = .ok (.iconst 3, 1) := by decide +kernel
theorem dL_law_193 : decode cL_law 193 = .ok (.iadd, 1) := by decide +kernel
theorem dL_law_194 : decode cL_law 194 = .ok (.iaload, 1) := by decide +kernel
theorem dL_law_195 : decode cL_law 195 = .ok (.aload_n 0, 1) := by decide +kernel
theorem dL_law_196 : decode cL_law 196 = .ok (.iload_n 3, 1) := by decide +kernel
theorem dL_law_197 : decode cL_law 197 = .ok (.iconst 4, 1) := by decide +kernel
theorem dL_law_198 : decode cL_law 198 = .ok (.iadd, 1) := by decide +kernel
theorem dL_law_199 : decode cL_law 199 = .ok (.iaload, 1) := by decide +kernel
theorem dL_law_200 : decode cL_law 200 = .ok (.invokevirtual 36, 3) := by decide +kernel
theorem dL_law_203 : decode cL_law 203 = .ok (.aload_n 2, 1) := by decide +kernel
theorem dL_law_204 : decode cL_law 204 = .ok (.aload_n 0, 1) := by decide +kernel
theorem dL_law_205 : decode cL_law 205 = .ok (.iload_n 3, 1) := by decide +kernel
theorem dL_law_206 : decode cL_law 206 = .ok (.iconst 1, 1) := by decide +kernel
theorem dL_law_207 : decode cL_law 207 = .ok (.iadd, 1) := by decide +kernel
theorem dL_law_208 : decode cL_law 208 = .ok (.iaload, 1) := by decide +kernel
theorem dL_law_209 : decode cL_law 209 = .ok (.aload_n 0, 1) := by decide +kernel
theorem dL_law_210 : decode cL_law 210 = .ok (.iload_n 3, 1) := by decide +kernel
theorem dL_law_211 : decode cL_law 211 = .ok (.iconst 2, 1) := by decide +kernel
theorem dL_law_212 : decode cL_law 212 = .ok (.iadd, 1) := by decide +kernel
theorem dL_law_213 : decode cL_law 213 = .ok (.iaload, 1) := by decide +kernel
theorem dL_law_214 : decode cL_law 214 = .ok (.aload_n 0, 1) := by decide +kernel
theorem dL_law_215 : decode cL_law 215 = .ok (.iload_n 3, 1) := by decide +kernel
theorem dL_law_216 : decode cL_law 216 = .ok (.iconst 3, 1) := by decide +kernel
theorem dL_law_217 : decode cL_law 217 = .ok (.iadd, 1) := by decide +kernel
theorem dL_law_218 : decode cL_law 218 = .ok (.iaload, 1) := by decide +kernel
theorem dL_law_219 : decode cL_law 219 = .ok (.aload_n 0, 1) := by decide +kernel
theorem dL_law_220 : decode cL_law 220 = .ok (.iload_n 3, 1) := by decide +kernel
theorem dL_law_221 : decode cL_law 221 = .ok (.iconst 4, 1) := by decide +kernel
theorem dL_law_222 : decode cL_law 222 = .ok (.iadd, 1) := by decide +kernel
theorem dL_law_223 : decode cL_law 223 = .ok (.iaload, 1) := by decide +kernel
theorem dL_law_224 : decode cL_law 224 = .ok (.invokevirtual 40, 3) := by decide +kernel
theorem dL_law_227 : decode cL_law 227 = .ok (.lcmp, 1) := by decide +kernel
theorem dL_law_228 : decode cL_law 228 = .ok (.ifCond .eq 28, 3) := by decide +kernel
theorem dL_law_231 : decode cL_law 231 = .ok (.iconst 0, 1) := by decide +kernel
theorem dL_law_232 : decode cL_law 232 = .ok (.ireturn, 1) := by decide +kernel
theorem dL_law_233 : decode cL_law 233 = .ok (.aload_n 1, 1) := by decide +kernel
theorem dL_law_234 : decode cL_law 234 = .ok (.aload_n 0, 1) := by decide +kernel
theorem dL_law_235 : decode cL_law 235 = .ok (.iload_n 3, 1) := by decide +kernel
theorem dL_law_236 : decode cL_law 236 = .ok (.iconst 1, 1) := by decide +kernel
theorem dL_law_237 : decode cL_law 237 = .ok (.iadd, 1) := by decide +kernel
theorem dL_law_238 : decode cL_law 238 = .ok (.iaload, 1) := by decide +kernel
theorem dL_law_239 : decode cL_law 239 = .ok (.invokevirtual 41, 3) := by decide +kernel
theorem dL_law_242 : decode cL_law 242 = .ok (.aload_n 2, 1) := by decide +kernel
theorem dL_law_243 : decode cL_law 243 = .ok (.aload_n 0, 1) := by decide +kernel
theorem dL_law_244 : decode cL_law 244 = .ok (.iload_n 3, 1) := by decide +kernel
theorem dL_law_245 : decode cL_law 245 = .ok (.iconst 1, 1) := by decide +kernel
theorem dL_law_246 : decode cL_law 246 = .ok (.iadd, 1) := by decide +kernel
theorem dL_law_247 : decode cL_law 247 = .ok (.iaload, 1) := by decide +kernel
theorem dL_law_248 : decode cL_law 248 = .ok (.invokevirtual 44, 3) := by decide +kernel
theorem dL_law_251 : decode cL_law 251 = .ok (.if_icmp .eq 5, 3) := by decide +kernel
theorem dL_law_254 : decode cL_law 254 = .ok (.iconst 0, 1) := by decide +kernel
theorem dL_law_255 : decode cL_law 255 = .ok (.ireturn, 1) := by decide +kernel
theorem dL_law_256 : decode cL_law 256 = .ok (.iinc 3 5, 3) := by decide +kernel
theorem dL_law_259 : decode cL_law 259 = .ok (.goto (-241), 3) := by decide +kernel
theorem dL_law_262 : decode cL_law 262 = .ok (.iconst 1, 1) := by decide +kernel
theorem dL_law_263 : decode cL_law 263 = .ok (.ireturn, 1) := by decide +kernel
end
section
/-! numbers: Int32.ofInt carries whole numbers; bounds only where they are compared -/
theorem oi_n (n : Nat) : Int32.ofInt (n : Int) = nI n := Int32.ofInt_eq_ofNat
theorem oi_le {a b : Int} (a1 : -2147483648 ≤ a) (a2 : a < 2147483648) (b1 : -2147483648 ≤ b) (b2 : b < 2147483648) : Int32.ofInt a ≤ Int32.ofInt b ↔ a ≤ b := by
  rw [Int32.le_iff_toInt_le, fb_ofI a1 a2, fb_ofI b1 b2]
theorem oi_lt {a b : Int} (a1 : -2147483648 ≤ a) (a2 : a < 2147483648) (b1 : -2147483648 ≤ b) (b2 : b < 2147483648) : Int32.ofInt a < Int32.ofInt b ↔ a < b := by
  rw [Int32.lt_iff_toInt_lt, fb_ofI a1 a2, fb_ofI b1 b2]
theorem oi_eq {a b : Int} (a1 : -2147483648 ≤ a) (a2 : a < 2147483648) (b1 : -2147483648 ≤ b) (b2 : b < 2147483648) : Int32.ofInt a = Int32.ofInt b ↔ a = b := by
  rw [← Int32.toInt_inj, fb_ofI a1 a2, fb_ofI b1 b2]
/-- small whole numbers against 0 -/
abbrev oB (a : Int) : Prop := -1000000 ≤ a ∧ a ≤ 1000000
theorem oz_eq {a : Int} (h : oB a) : Int32.ofInt a = 0 ↔ a = 0 := oi_eq (b := 0) (by omega) (by omega) (by decide) (by decide)
theorem oz_ge {a : Int} (h : oB a) : 0 ≤ Int32.ofInt a ↔ 0 ≤ a := oi_le (a := 0) (by decide) (by decide) (by omega) (by omega)
theorem oz_le {a : Int} (h : oB a) : Int32.ofInt a ≤ 0 ↔ a ≤ 0 := oi_le (b := 0) (by omega) (by omega) (by decide) (by decide)
theorem oz_gt {a : Int} (h : oB a) : 0 < Int32.ofInt a ↔ 0 < a := oi_lt (a := 0) (by decide) (by decide) (by omega) (by omega)
theorem oz_lt {a : Int} (h : oB a) : Int32.ofInt a < 0 ↔ a < 0 := oi_lt (b := 0) (by omega) (by omega) (by decide) (by decide)
theorem oi_abs {u : Int} (h : oB u) : (if 0 ≤ Int32.ofInt u then Int32.ofInt u else 0 - Int32.ofInt u) = nI u.natAbs := by
  rw [← oi_n]
  by_cases k : 0 ≤ u
  · rw [if_pos ((oz_ge h).mpr k)]
    exact congrArg Int32.ofInt (by omega)
  · rw [if_neg (fun z => k ((oz_ge h).mp z)), show (0 : Int32) - Int32.ofInt u = Int32.ofInt (0 - u) from (Int32.ofInt_sub 0 u).symm]
    exact congrArg Int32.ofInt (by omega)
theorem oi_sub (a b : Nat) : nI a - nI b = Int32.ofInt ((a : Int) - b) := by rw [Int32.ofInt_sub, oi_n, oi_n]
theorem oi_bd {a b : Int} (ha : -31 ≤ a ∧ a ≤ 31) (hb : -31 ≤ b ∧ b ≤ 31) : -961 ≤ a * b ∧ a * b ≤ 961 := by
  have h1 : (a * b).natAbs ≤ 31 * 31 := by
    rw [Int.natAbs_mul]
    exact Nat.mul_le_mul (by omega) (by omega)
  omega
theorem gT_bd {x1 y1 x2 y2 p q : Int} (a1 : gIn x1) (b1 : gIn y1) (a2 : gIn x2) (b2 : gIn y2) (a3 : gIn p) (b3 : gIn q) : -1922 ≤ gT x1 y1 x2 y2 p q ∧ gT x1 y1 x2 y2 p q ≤ 1922 := by
  have h1 := oi_bd (a := x2 - x1) (b := q - y1) (by omega) (by omega)
  have h2 := oi_bd (a := y2 - y1) (b := p - x1) (by omega) (by omega)
  unfold gT
  omega
/-! the classes whose objects the worlds hold -/
abbrev vwCl : List vw_C := [(RX0, TX0, 3), (RX1, TX1, 2)]
/-- a GridPoints with its corners; a GridPointsModel with its corners -/
abbrev wX (h0 hx hy ha : Nat) (d : ClassId) (X Y : Nat → Nat) : va_W := [(h0, .inr (0, [.ref hx, .ref hy, .ref ha])), (hx, .inl (d, 3, .inl (fun j => nI (X j)))), (hy, .inl (d, 3, .inl (fun j => nI (Y j))))]
abbrev wM (h0 hx hy : Nat) (d : ClassId) (X Y : Nat → Nat) : va_W := [(h0, .inr (1, [.ref hx, .ref hy])), (hx, .inl (d, 3, .inl (fun j => nI (X j)))), (hy, .inl (d, 3, .inl (fun j => nI (Y j))))]
/-! a method that changes nothing: the heap behind it is the heap before it -/
def RoI (l : Launch) (y : MethodName) (b : ByteArray) (L : Nat) (ret : FieldType) (rm : Room) (D : va_G) (av : List Value) (ws : va_W) (tys : List (ClassId × FieldType)) (post : Int32 → Prop) : Prop :=
  ∀ H0 : Heap, Met l y (ws_ y b L (some ret)) rm (va_Pc av (fun U => U.heap = H0 ∧ va_P D vwCl ws H0 ∧ va_K D vwCl tys U)) (va_Qi (fun r (_ : Unit) => post r) (fun _ t => t.heap = H0) (fun _ => False)) 0 0 (fun _ => False)
def RoL (l : Launch) (y : MethodName) (b : ByteArray) (L : Nat) (rm : Room) (D : va_G) (av : List Value) (ws : va_W) (tys : List (ClassId × FieldType)) (post : Int64 → Prop) : Prop :=
  ∀ H0 : Heap, Met l y (ws_ y b L (some .long)) rm (va_Pc av (fun U => U.heap = H0 ∧ va_P D vwCl ws H0 ∧ va_K D vwCl tys U)) (va_Ql (fun r (_ : Unit) => post r) (fun _ t => t.heap = H0) (fun _ => False)) 0 0 (fun _ => False)
/-- what such a method must come to -/
abbrev roQ (below : List Frame) (a : Array Value) (s : State) (post : Int32 → Prop) : State → Prop := MQ below (va_Qi (fun r (_ : Unit) => post r) (fun _ t => t.heap = s.heap) (fun _ => False)) a s 0 0 (fun _ => False)
abbrev rlQ (below : List Frame) (a : Array Value) (s : State) (post : Int64 → Prop) : State → Prop := MQ below (va_Ql (fun r (_ : Unit) => post r) (fun _ t => t.heap = s.heap) (fun _ => False)) a s 0 0 (fun _ => False)
/-- what holds all through a method's body -/
abbrev Cx (p : Program) (m : MethodId) (c : Code) (cc : ByteArray) (nL : Nat) (s : State) (args : Array Value) (own : String) (meth : Method) (ret : FieldType) : Prop :=
  CallFix p m c cc nL s args lw_all own ∧ meth.sig.returnType = some ret ∧ meth.locks = false
theorem RoI.of {l : Launch} {y : MethodName} {b : ByteArray} {L : Nat} {ret : FieldType} {rm : Room} {D : va_G} {av : List Value} {ws : va_W} {tys : List (ClassId × FieldType)} {post : Int32 → Prop} (hy : plainName y.cls = true) (hsl : (lg_sl av).length ≤ L)
    (body : ∀ (p : Program) (e : Env) (s : State) (m : MethodId) (below : List Frame) (meth : Method) (c : Code), Cx p m c b L s av.toArray y.cls meth ret → va_P D vwCl ws s.heap → va_K D vwCl tys s → ∀ ls : Array Slot, lv_has ls L (lv_args 0 av) →
      W p l e rm s m av.toArray below meth c s.heap [] 0 0 (roQ below av.toArray s post) (F0 m 0 ls [])) : RoI l y b L ret rm D av ws tys post := by
  intro H0
  refine Met.ofW (cc := b) (maxL := L) (ret := some ret) hy rfl ?_
  intro p e s m args below meth c s₁ B hml hv
  obtain ⟨rfl, hH, hP, hK⟩ := hv
  subst hH
  have hts := atoms_spec (ws := ws_ y b L (some ret)) B.pre
  have hts : ∀ w ∈ lw_all, w.before av.toArray s = true := fun w h => hts w (List.mem_cons_of_mem _ h)
  have hown : s.vm.findClass y.cls = some m.cls := findClass_of_methodNamed B.named
  rw [lg_entry_eq]
  exact body p e s m below meth c ⟨⟨B.exec, B.bytes, hml, hown, hts⟩, B.returns, B.notSynchronized⟩ hP hK _ (lv_entry av hsl)
theorem RoL.of {l : Launch} {y : MethodName} {b : ByteArray} {L : Nat} {rm : Room} {D : va_G} {av : List Value} {ws : va_W} {tys : List (ClassId × FieldType)} {post : Int64 → Prop} (hy : plainName y.cls = true) (hsl : (lg_sl av).length ≤ L)
    (body : ∀ (p : Program) (e : Env) (s : State) (m : MethodId) (below : List Frame) (meth : Method) (c : Code), Cx p m c b L s av.toArray y.cls meth .long → va_P D vwCl ws s.heap → va_K D vwCl tys s → ∀ ls : Array Slot, lv_has ls L (lv_args 0 av) →
      W p l e rm s m av.toArray below meth c s.heap [] 0 0 (rlQ below av.toArray s post) (F0 m 0 ls [])) : RoL l y b L rm D av ws tys post := by
  intro H0
  refine Met.ofW (cc := b) (maxL := L) (ret := some .long) hy rfl ?_
  intro p e s m args below meth c s₁ B hml hv
  obtain ⟨rfl, hH, hP, hK⟩ := hv
  subst hH
  have hts := atoms_spec (ws := ws_ y b L (some .long)) B.pre
  have hts : ∀ w ∈ lw_all, w.before av.toArray s = true := fun w h => hts w (List.mem_cons_of_mem _ h)
  have hown : s.vm.findClass y.cls = some m.cls := findClass_of_methodNamed B.named
  rw [lg_entry_eq]
  exact body p e s m below meth c ⟨⟨B.exec, B.bytes, hml, hown, hts⟩, B.returns, B.notSynchronized⟩ hP hK _ (lv_entry av hsl)
section RO
variable {p : Program} {l : Launch} {e : Env} {R : Room} {s : State} {m : MethodId} {args : Array Value} {below : List Frame} {meth : Method} {c : Code} {H : Heap} {locs : List Loc} {cells slots : Nat} {Q : State → Prop}
variable {pc : Nat} {ls : Array Slot} {rest st0 : List Value} {a : Array Value}
theorem ro_calli {post : Int32 → Prop} (hr : va_Run p l e R s m args below meth c H locs cells slots 0 0 (F0 m pc ls st0) rest (va_Qi (fun r (_ : Unit) => post r) (fun _ t => t.heap = H) (fun _ => False) a) (fun _ => False))
    (kk : ∀ r : Int32, post r → W p l e R s m args below meth c H locs cells slots Q (F0 m (pc + 3) ls (.int r :: rest))) : W p l e R s m args below meth c H locs cells slots Q (F0 m pc ls st0) := by
  intro T hT X
  obtain ⟨v, st₀, t, T', L, h0, X', hL, e1, e2, ⟨⟨r, u, hv, hp, hb⟩, hz, hk⟩, st⟩ := hr T hT X
  cases hv
  have hL0 : L = [] := by
    cases L with
    | nil => rfl
    | cons q _ => exact (hL q List.mem_cons_self).elim
  subst hL0
  rw [List.append_nil] at X'
  obtain ⟨t2, a1, b1⟩ := kk r hp T' (e1.trans hb) X'
  exact ⟨t2, st t2 a1, b1⟩
theorem ro_calll {post : Int64 → Prop} (hr : va_Run p l e R s m args below meth c H locs cells slots 0 0 (F0 m pc ls st0) rest (va_Ql (fun r (_ : Unit) => post r) (fun _ t => t.heap = H) (fun _ => False) a) (fun _ => False))
    (kk : ∀ r : Int64, post r → W p l e R s m args below meth c H locs cells slots Q (F0 m (pc + 3) ls (.long r :: rest))) : W p l e R s m args below meth c H locs cells slots Q (F0 m pc ls st0) := by
  intro T hT X
  obtain ⟨v, st₀, t, T', L, h0, X', hL, e1, e2, ⟨⟨r, u, hv, hp, hb⟩, hz, hk⟩, st⟩ := hr T hT X
  cases hv
  have hL0 : L = [] := by
    cases L with
    | nil => rfl
    | cons q _ => exact (hL q List.mem_cons_self).elim
  subst hL0
  rw [List.append_nil] at X'
  obtain ⟨t2, a1, b1⟩ := kk r hp T' (e1.trans hb) X'
  exact ⟨t2, st t2 a1, b1⟩
variable {cc b : ByteArray} {nL L index : Nat} {own : String} {y : MethodName} {rm : Room} {D : va_G} {av As : List Value} {ws : va_W} {tys : List (ClassId × FieldType)} {ret : FieldType} {h : Nat}
/-- a static call of a method that changes nothing -/
theorem ro_S {post : Int32 → Prop} (n : Nat) (S : CallFix p m c cc nL s args lw_all own) (hM : RoI l y b L ret rm D av ws tys post) (hw : GoodIn lw_all (va_wsS own index y (ws_ y b L (some ret)))) (hrc : rm.cells = 0) (hrs : rm.slots = 0)
    (hd : y.cls ≠ "java/lang/invoke/MethodHandle" ∧ y.cls ≠ "java/lang/invoke/VarHandle" ∧ (parseMethodDescriptor y.desc).map (fun d => d.parameters.length) = some n) (hn : av.length = n) (hR : rm.frames + 1 ≤ R.frames ∧ 8 + (L + 11) + rm.locals ≤ R.locals)
    (hP : va_P D vwCl ws H) (hK : va_K D vwCl tys s) (hsize : ls.size = nL) (hst : st0 = av.reverse ++ rest) (hW : (rest.map fun v => v.category).sum ≤ 8) (hdg : decode cc pc = .ok (.invokestatic index, 3)) (hc : cells ≤ R.cells ∧ slots ≤ R.slots)
    (kk : ∀ r : Int32, post r → W p l e R s m args below meth c H locs cells slots Q (F0 m (pc + 3) ls (.int r :: rest))) : W p l e R s m args below meth c H locs cells slots Q (F0 m pc ls st0) :=
  ro_calli (va_runS (n := n) S (hM H) (va_cwS n S.2.2.2.2 hw rfl hrc hrs hd hR) ⟨fun a U g mk q => by obtain ⟨q0, q1, qP, qK⟩ := q; exact ⟨q0, q1, qP, va_K.moved (u := U) (U := U.calling g mk a) (Vm.Alike.refl U.vm) qK⟩, fun U hU hW => ⟨rfl, hU, hP, va_K.moved hW.alike hK⟩⟩ rfl hn hsize hst (lv_room hW) hdg hc) kk
theorem ro_SL {post : Int64 → Prop} (n : Nat) (S : CallFix p m c cc nL s args lw_all own) (hM : RoL l y b L rm D av ws tys post) (hw : GoodIn lw_all (va_wsS own index y (ws_ y b L (some .long)))) (hrc : rm.cells = 0) (hrs : rm.slots = 0)
    (hd : y.cls ≠ "java/lang/invoke/MethodHandle" ∧ y.cls ≠ "java/lang/invoke/VarHandle" ∧ (parseMethodDescriptor y.desc).map (fun d => d.parameters.length) = some n) (hn : av.length = n) (hR : rm.frames + 1 ≤ R.frames ∧ 8 + (L + 11) + rm.locals ≤ R.locals)
    (hP : va_P D vwCl ws H) (hK : va_K D vwCl tys s) (hsize : ls.size = nL) (hst : st0 = av.reverse ++ rest) (hW : (rest.map fun v => v.category).sum ≤ 8) (hdg : decode cc pc = .ok (.invokestatic index, 3)) (hc : cells ≤ R.cells ∧ slots ≤ R.slots)
    (kk : ∀ r : Int64, post r → W p l e R s m args below meth c H locs cells slots Q (F0 m (pc + 3) ls (.long r :: rest))) : W p l e R s m args below meth c H locs cells slots Q (F0 m pc ls st0) :=
  ro_calll (va_runS (n := n) S (hM H) (va_cwS n S.2.2.2.2 hw rfl hrc hrs hd hR) ⟨fun a U g mk q => by obtain ⟨q0, q1, qP, qK⟩ := q; exact ⟨q0, q1, qP, va_K.moved (u := U) (U := U.calling g mk a) (Vm.Alike.refl U.vm) qK⟩, fun U hU hW => ⟨rfl, hU, hP, va_K.moved hW.alike hK⟩⟩ rfl hn hsize hst (lv_room hW) hdg hc) kk
/-- a call through an object of a method that changes nothing -/
theorem ro_V {C : String} {post : Int32 → Prop} (n : Nat) (S : CallFix p m c cc nL s args lw_all own) (hM : RoI l y b L ret rm D (.ref h :: As) ws tys post) (hw : GoodIn lw_all (wsV own index C y (ws_ y b L (some ret)))) (hrc : rm.cells = 0) (hrs : rm.slots = 0)
    (hd : y.cls = C ∧ y.cls ≠ "java/lang/invoke/MethodHandle" ∧ y.cls ≠ "java/lang/invoke/VarHandle" ∧ (parseMethodDescriptor y.desc).map (fun d => d.parameters.length) = some n) (hn : As.length = n) (hR : rm.frames + 1 ≤ R.frames ∧ 8 + (L + 11) + rm.locals ≤ R.locals)
    (hrv : ∃ cell : Cell, H[h]? = some cell ∧ cell.vm.isStatics = false ∧ s.vm.findClass C = some cell.cls)
    (hP : va_P D vwCl ws H) (hK : va_K D vwCl tys s) (hsize : ls.size = nL) (hst : st0 = As.reverse ++ .ref h :: rest) (hW : (rest.map fun v => v.category).sum ≤ 8) (hdg : decode cc pc = .ok (.invokevirtual index, 3)) (hc : cells ≤ R.cells ∧ slots ≤ R.slots)
    (kk : ∀ r : Int32, post r → W p l e R s m args below meth c H locs cells slots Q (F0 m (pc + 3) ls (.int r :: rest))) : W p l e R s m args below meth c H locs cells slots Q (F0 m pc ls st0) :=
  ro_calli (va_runV (n := n) S (hM H) (cwV n S.2.2.2.2 hw rfl hrc hrs hd hR) ⟨fun a U g mk q => by obtain ⟨q0, q1, qP, qK⟩ := q; exact ⟨q0, q1, qP, va_K.moved (u := U) (U := U.calling g mk a) (Vm.Alike.refl U.vm) qK⟩, hrv, fun U hU hW => ⟨rfl, hU, hP, va_K.moved hW.alike hK⟩⟩ rfl hn hsize hst (lv_room hW) hdg hc) kk
theorem ro_VL {C : String} {post : Int64 → Prop} (n : Nat) (S : CallFix p m c cc nL s args lw_all own) (hM : RoL l y b L rm D (.ref h :: As) ws tys post) (hw : GoodIn lw_all (wsV own index C y (ws_ y b L (some .long)))) (hrc : rm.cells = 0) (hrs : rm.slots = 0)
    (hd : y.cls = C ∧ y.cls ≠ "java/lang/invoke/MethodHandle" ∧ y.cls ≠ "java/lang/invoke/VarHandle" ∧ (parseMethodDescriptor y.desc).map (fun d => d.parameters.length) = some n) (hn : As.length = n) (hR : rm.frames + 1 ≤ R.frames ∧ 8 + (L + 11) + rm.locals ≤ R.locals)
    (hrv : ∃ cell : Cell, H[h]? = some cell ∧ cell.vm.isStatics = false ∧ s.vm.findClass C = some cell.cls)
    (hP : va_P D vwCl ws H) (hK : va_K D vwCl tys s) (hsize : ls.size = nL) (hst : st0 = As.reverse ++ .ref h :: rest) (hW : (rest.map fun v => v.category).sum ≤ 8) (hdg : decode cc pc = .ok (.invokevirtual index, 3)) (hc : cells ≤ R.cells ∧ slots ≤ R.slots)
    (kk : ∀ r : Int64, post r → W p l e R s m args below meth c H locs cells slots Q (F0 m (pc + 3) ls (.long r :: rest))) : W p l e R s m args below meth c H locs cells slots Q (F0 m pc ls st0) :=
  ro_calll (va_runV (n := n) S (hM H) (cwV n S.2.2.2.2 hw rfl hrc hrs hd hR) ⟨fun a U g mk q => by obtain ⟨q0, q1, qP, qK⟩ := q; exact ⟨q0, q1, qP, va_K.moved (u := U) (U := U.calling g mk a) (Vm.Alike.refl U.vm) qK⟩, hrv, fun U hU hW => ⟨rfl, hU, hP, va_K.moved hW.alike hK⟩⟩ rfl hn hsize hst (lv_room hW) hdg hc) kk
/-- the top of the stack by another name -/
theorem tp_i {x y : Int32} (hxy : x = y) (k : W p l e R s m args below meth c H locs cells slots Q (F0 m pc ls (.int y :: rest))) : W p l e R s m args below meth c H locs cells slots Q (F0 m pc ls (.int x :: rest)) := by
  rw [hxy]; exact k
theorem tp_l {x y : Int64} (hxy : x = y) (k : W p l e R s m args below meth c H locs cells slots Q (F0 m pc ls (.long y :: rest))) : W p l e R s m args below meth c H locs cells slots Q (F0 m pc ls (.long x :: rest)) := by
  rw [hxy]; exact k
/-- the answer of a method that changes nothing -/
theorem ro_iret {post : Int32 → Prop} {v : Int32} (C : Cx p m c cc nL s args own meth .int) (hdg : decode cc pc = .ok (.ireturn, 1)) (hp : post v) : W p l e R s m args below meth c s.heap [] 0 0 (roQ below args s post) (F0 m pc ls [.int v]) :=
  W.iret C.1.1 C.1.2.1 C.2.1 (fun t ht hW => ⟨⟨v, (), rfl, hp, ht⟩, va_S.rf.F ht⟩) (fun q hq => by cases hq) hdg C.2.2
theorem ro_zret {post : Int32 → Prop} {v : Int32} (C : Cx p m c cc nL s args own meth .boolean) (hn : narrow .boolean (.int v) = .int v) (hdg : decode cc pc = .ok (.ireturn, 1)) (hp : post v) : W p l e R s m args below meth c s.heap [] 0 0 (roQ below args s post) (F0 m pc ls [.int v]) :=
  W.zret C.1.1 C.1.2.1 C.2.1 hn (fun t ht hW => ⟨⟨v, (), rfl, hp, ht⟩, va_S.rf.F ht⟩) (fun q hq => by cases hq) hdg C.2.2
theorem ro_lret {post : Int64 → Prop} {v : Int64} (C : Cx p m c cc nL s args own meth .long) (hdg : decode cc pc = .ok (.lreturn, 1)) (hp : post v) : W p l e R s m args below meth c s.heap [] 0 0 (rlQ below args s post) (F0 m pc ls [.long v]) :=
  W.lret C.1.1 C.1.2.1 C.2.1 (fun t ht hW => ⟨⟨v, (), rfl, hp, ht⟩, va_S.rf.F ht⟩) (fun q hq => by cases hq) hdg C.2.2
/-! fields and elements -/
variable {hx hy ha h0 q0 t0 i n : Nat} {d : ClassId}
theorem x0_x (S : CallFix p m c cc nL s args lw_all RX0) (hK : va_K D vwCl tys s) (hP : va_P D vwCl ws H) (q0 : Nat) (he : ws[q0]? = some (h0, .inr (0, [.ref hx, .ref hy, .ref ha]))) (hdg : decode cc pc = .ok (.getfield 9, 3))
    (kk : W p l e R s m args below meth c H locs cells slots Q (F0 m (pc + 3) ls (.ref hx :: rest))) : W p l e R s m args below meth c H locs cells slots Q (F0 m pc ls (.ref h0 :: rest)) :=
  va_get (D := D) (ci := 0) (v := .ref hx) (C := RX0) (T := TX0) (N := 3) S.1 S.2.1 S.2.2.2.2 in_X0 S.2.2.2.1 hK hP q0 he rfl 0 (by decide) (S.2.2.2.2 _ q17) (fun _ h9 => h9) rfl hdg kk
theorem x0_y (S : CallFix p m c cc nL s args lw_all RX0) (hK : va_K D vwCl tys s) (hP : va_P D vwCl ws H) (q0 : Nat) (he : ws[q0]? = some (h0, .inr (0, [.ref hx, .ref hy, .ref ha]))) (hdg : decode cc pc = .ok (.getfield 13, 3))
    (kk : W p l e R s m args below meth c H locs cells slots Q (F0 m (pc + 3) ls (.ref hy :: rest))) : W p l e R s m args below meth c H locs cells slots Q (F0 m pc ls (.ref h0 :: rest)) :=
  va_get (D := D) (ci := 0) (v := .ref hy) (C := RX0) (T := TX0) (N := 3) S.1 S.2.1 S.2.2.2.2 in_X0 S.2.2.2.1 hK hP q0 he rfl 1 (by decide) (S.2.2.2.2 _ q18) (fun _ h9 => h9) rfl hdg kk
theorem x0_a (S : CallFix p m c cc nL s args lw_all RX0) (hK : va_K D vwCl tys s) (hP : va_P D vwCl ws H) (q0 : Nat) (he : ws[q0]? = some (h0, .inr (0, [.ref hx, .ref hy, .ref ha]))) (hdg : decode cc pc = .ok (.getfield 16, 3))
    (kk : W p l e R s m args below meth c H locs cells slots Q (F0 m (pc + 3) ls (.ref ha :: rest))) : W p l e R s m args below meth c H locs cells slots Q (F0 m pc ls (.ref h0 :: rest)) :=
  va_get (D := D) (ci := 0) (v := .ref ha) (C := RX0) (T := TX0) (N := 3) S.1 S.2.1 S.2.2.2.2 in_X0 S.2.2.2.1 hK hP q0 he rfl 2 (by decide) (S.2.2.2.2 _ q19) (fun _ h9 => h9) rfl hdg kk
theorem x1_x (S : CallFix p m c cc nL s args lw_all RX1) (hK : va_K D vwCl tys s) (hP : va_P D vwCl ws H) (q0 : Nat) (he : ws[q0]? = some (h0, .inr (1, [.ref hx, .ref hy]))) (hdg : decode cc pc = .ok (.getfield 7, 3))
    (kk : W p l e R s m args below meth c H locs cells slots Q (F0 m (pc + 3) ls (.ref hx :: rest))) : W p l e R s m args below meth c H locs cells slots Q (F0 m pc ls (.ref h0 :: rest)) :=
  va_get (D := D) (ci := 1) (v := .ref hx) (C := RX1) (T := TX1) (N := 2) S.1 S.2.1 S.2.2.2.2 in_X1 S.2.2.2.1 hK hP q0 he rfl 0 (by decide) (S.2.2.2.2 _ q86) (fun _ h9 => h9) rfl hdg kk
theorem x1_y (S : CallFix p m c cc nL s args lw_all RX1) (hK : va_K D vwCl tys s) (hP : va_P D vwCl ws H) (q0 : Nat) (he : ws[q0]? = some (h0, .inr (1, [.ref hx, .ref hy]))) (hdg : decode cc pc = .ok (.getfield 13, 3))
    (kk : W p l e R s m args below meth c H locs cells slots Q (F0 m (pc + 3) ls (.ref hy :: rest))) : W p l e R s m args below meth c H locs cells slots Q (F0 m pc ls (.ref h0 :: rest)) :=
  va_get (D := D) (ci := 1) (v := .ref hy) (C := RX1) (T := TX1) (N := 2) S.1 S.2.1 S.2.2.2.2 in_X1 S.2.2.2.1 hK hP q0 he rfl 1 (by decide) (S.2.2.2.2 _ q87) (fun _ h9 => h9) rfl hdg kk
/-- an element at a place that is known -/
theorem ga_ld {f : Nat → Int32} (S : CallFix p m c cc nL s args lw_all own) (hK : va_K D vwCl tys s) (hP : va_P D vwCl ws H) (q0 t0 : Nat) (he : ws[q0]? = some (h0, .inl (d, n, .inl f))) (ht : tys[t0]? = some (d, .int)) (hi : i < n) (hn : n < 2 ^ 31) (hdg : decode cc pc = .ok (.iaload, 1))
    (kk : W p l e R s m args below meth c H locs cells slots Q (F0 m (pc + 1) ls (.int (f i) :: rest))) : W p l e R s m args below meth c H locs cells slots Q (F0 m pc ls (.int (nI i) :: .ref h0 :: rest)) :=
  va_iald S.1 S.2.1 hK hP q0 t0 he ht (vp_in_nI hi hn) hdg (by rw [nI_clamp (Nat.lt_trans hi hn)]; exact kk)
end RO
end
section
/-! number, common, free: numbers alone -/
/-- the corner's number -/
def gN (k : Int32) : Nat := k.toBitVec.toNat % 2 ^ 31 % 3
theorem gN_lt (k : Int32) : gN k < 3 := Nat.mod_lt _ (by decide)
theorem va_P.nil {D : va_G} {H : Heap} : va_P D vwCl [] H := fun k q h => by simp at h
set_option maxHeartbeats 4000000 in
set_option maxRecDepth 100000 in
theorem metX0_number (l : Launch) (D : va_G) (k : Int32) : RoI l yX0_number cX0_number 1 .int ({ frames := 0, cells := 0, slots := 0, locals := 0 } : Room) D [.int k] [] [] (fun r => r = nI (gN k)) := by
  refine RoI.of (by decide) (Nat.le_of_ble_eq_true rfl) ?_
  intro p e s m below meth c C hP hK ls hl
  have hl : lv_has ls 1 [(0, .int k)] := hl
  obtain ⟨S, hr, hlocks⟩ := id C
  obtain ⟨hx, hb, hml, hown, hts⟩ := id S
  refine lv_iload_n hx hb dX0_number_0 rfl (lv_at hl 0 rfl) ?_
  refine lv_ldc hx hb hown (hts _ q35) dX0_number_1 ?_
  refine lv_iand hx hb dX0_number_3 ?_
  refine tp_i (y := nI (k.toBitVec.toNat % 2 ^ 31)) (pk_and k 31 (by decide)) ?_
  refine lv_iconst (v := nI 3) hx hb dX0_number_4 (by decide) ?_
  refine lv_irem hx hb dX0_number_5 (by decide) ?_
  refine tp_i (y := nI (gN k)) (pk_rem (Nat.mod_lt _ (by decide)) (by decide) (by decide)) ?_
  exact ro_iret C dX0_number_6 rfl
theorem gc_step (x y : Nat) : Nat.gcd y (x % y) = Nat.gcd x y := by
  rw [Nat.gcd_comm y (x % y), ← Nat.gcd_rec, Nat.gcd_comm]
set_option maxHeartbeats 4000000 in
set_option maxRecDepth 100000 in
theorem lp_common {p : Program} {l : Launch} {e : Env} {R : Room} {s : State} {m : MethodId} {args : Array Value} {below : List Frame} {meth : Method} {c : Code} {own : String} (g : Nat) (C : Cx p m c cX2_common 5 s args own meth .int) : ∀ (n x y : Nat), y < n → x < 2 ^ 31 → y < 2 ^ 31 → Nat.gcd x y = g → ∀ ls : Array Slot, lv_has ls 5 [(2, .int (nI x)), (3, .int (nI y))] →
    W p l e R s m args below meth c s.heap [] 0 0 (roQ below args s (fun r => r = nI g)) (F0 m 10 ls []) := by
  obtain ⟨S, hr, hlocks⟩ := id C
  obtain ⟨hx, hb, hml, hown, hts⟩ := id S
  intro n
  induction n with
  | zero =>
    intro x y h
    exact absurd h (Nat.not_lt_zero _)
  | succ n ih =>
    intro x y h h1 h2 hg ls hl
    refine lv_iload_n hx hb dX2_common_10 rfl (lv_at hl 1 rfl) ?_
    refine lv_if_eq (tgt := 27) hx hb dX2_common_11 (by decide) (fun c0 => ?_) (fun c0 => ?_)
    · have y0 : y = 0 := (nI_eq h2 (by decide)).mp c0
      subst y0
      rw [Nat.gcd_zero_right] at hg
      subst hg
      refine lv_iload_n hx hb dX2_common_27 rfl (lv_at hl 0 rfl) ?_
      exact ro_iret C dX2_common_28 rfl
    · have y0 : 0 < y := Nat.pos_of_ne_zero fun z => c0 (by rw [z]; rfl)
      refine lv_iload_n hx hb dX2_common_14 rfl (lv_at hl 0 rfl) ?_
      refine lv_iload_n hx hb dX2_common_15 rfl (lv_at hl 1 rfl) ?_
      refine lv_irem hx hb dX2_common_16 (c0) ?_
      refine tp_i (y := nI (x % y)) (pk_rem h1 y0 h2) ?_
      refine lv_istore (lv' := [(4, .int (nI (x % y))), (2, .int (nI x)), (3, .int (nI y))]) hx hb dX2_common_17 hl (by decide) rfl (fun ls hl => ?_)
      refine lv_iload_n hx hb dX2_common_19 rfl (lv_at hl 2 rfl) ?_
      refine lv_istore_n (lv' := [(2, .int (nI y)), (4, .int (nI (x % y))), (3, .int (nI y))]) hx hb dX2_common_20 rfl hl (by decide) rfl (fun ls hl => ?_)
      refine lv_iload hx hb dX2_common_21 (lv_at hl 1 rfl) ?_
      refine lv_istore_n (lv' := [(3, .int (nI (x % y))), (2, .int (nI y)), (4, .int (nI (x % y)))]) hx hb dX2_common_23 rfl hl (by decide) rfl (fun ls hl => ?_)
      refine lv_goto (tgt := 10) hx hb dX2_common_24 (by decide) ?_
      have lt := Nat.mod_lt x y0
      exact ih y (x % y) (by omega) h2 (by omega) (by rw [gc_step]; exact hg) ls (lv_sub hl [1, 0] rfl)
set_option maxHeartbeats 4000000 in
set_option maxRecDepth 100000 in
theorem lp_free {p : Program} {l : Launch} {e : Env} {R : Room} {s : State} {m : MethodId} {args : Array Value} {below : List Frame} {meth : Method} {c : Code} {own : String} (g : Nat) (C : Cx p m c cX1_free 5 s args own meth .boolean) : ∀ (n x y : Nat), y < n → x < 2 ^ 31 → y < 2 ^ 31 → Nat.gcd x y = g → ∀ ls : Array Slot, lv_has ls 5 [(2, .int (nI x)), (3, .int (nI y))] →
    W p l e R s m args below meth c s.heap [] 0 0 (roQ below args s (fun r => r = if g = 1 then nI 1 else nI 0)) (F0 m 4 ls []) := by
  obtain ⟨S, hr, hlocks⟩ := id C
  obtain ⟨hx, hb, hml, hown, hts⟩ := id S
  intro n
  induction n with
  | zero =>
    intro x y h
    exact absurd h (Nat.not_lt_zero _)
  | succ n ih =>
    intro x y h h1 h2 hg ls hl
    refine lv_iload_n hx hb dX1_free_4 rfl (lv_at hl 1 rfl) ?_
    refine lv_if_eq (tgt := 21) hx hb dX1_free_5 (by decide) (fun c0 => ?_) (fun c0 => ?_)
    · have y0 : y = 0 := (nI_eq h2 (by decide)).mp c0
      subst y0
      rw [Nat.gcd_zero_right] at hg
      subst hg
      refine lv_iload_n hx hb dX1_free_21 rfl (lv_at hl 0 rfl) ?_
      refine lv_iconst (v := nI 1) hx hb dX1_free_22 (by decide) ?_
      refine lv_icmp_ne (tgt := 30) hx hb dX1_free_23 (by decide) (fun c1 => ?_) (fun c1 => ?_)
      · have x1 : ¬ x = 1 := fun z => c1 (by rw [z])
        refine lv_iconst (v := nI 0) hx hb dX1_free_30 (by decide) ?_
        exact ro_zret C rfl dX1_free_31 (if_neg x1).symm
      · have x1 : x = 1 := (nI_eq h1 (by decide)).mp c1
        refine lv_iconst (v := nI 1) hx hb dX1_free_26 (by decide) ?_
        refine lv_goto (tgt := 31) hx hb dX1_free_27 (by decide) ?_
        exact ro_zret C rfl dX1_free_31 (if_pos x1).symm
    · have y0 : 0 < y := Nat.pos_of_ne_zero fun z => c0 (by rw [z]; rfl)
      refine lv_iload_n hx hb dX1_free_8 rfl (lv_at hl 0 rfl) ?_
      refine lv_iload_n hx hb dX1_free_9 rfl (lv_at hl 1 rfl) ?_
      refine lv_irem hx hb dX1_free_10 (c0) ?_
      refine tp_i (y := nI (x % y)) (pk_rem h1 y0 h2) ?_
      refine lv_istore (lv' := [(4, .int (nI (x % y))), (2, .int (nI x)), (3, .int (nI y))]) hx hb dX1_free_11 hl (by decide) rfl (fun ls hl => ?_)
      refine lv_iload_n hx hb dX1_free_13 rfl (lv_at hl 2 rfl) ?_
      refine lv_istore_n (lv' := [(2, .int (nI y)), (4, .int (nI (x % y))), (3, .int (nI y))]) hx hb dX1_free_14 rfl hl (by decide) rfl (fun ls hl => ?_)
      refine lv_iload hx hb dX1_free_15 (lv_at hl 1 rfl) ?_
      refine lv_istore_n (lv' := [(3, .int (nI (x % y))), (2, .int (nI y)), (4, .int (nI (x % y)))]) hx hb dX1_free_17 rfl hl (by decide) rfl (fun ls hl => ?_)
      refine lv_goto (tgt := 4) hx hb dX1_free_18 (by decide) ?_
      have lt := Nat.mod_lt x y0
      exact ih y (x % y) (by omega) h2 (by omega) (by rw [gc_step]; exact hg) ls (lv_sub hl [1, 0] rfl)
set_option maxHeartbeats 4000000 in
set_option maxRecDepth 100000 in
theorem metX2_common (l : Launch) (D : va_G) (u v : Int) (hu : oB u) (hv : oB v) : RoI l yX2_common cX2_common 5 .int ({ frames := 1, cells := 0, slots := 0, locals := 20 } : Room) D [.int (Int32.ofInt u), .int (Int32.ofInt v)] [] [] (fun r => r = nI (Int.gcd u v)) := by
  refine RoI.of (by decide) (Nat.le_of_ble_eq_true rfl) ?_
  intro p e s m below meth c C hP hK ls hl
  have hl : lv_has ls 5 [(0, .int (Int32.ofInt u)), (1, .int (Int32.ofInt v))] := hl
  obtain ⟨S, hr, hlocks⟩ := id C
  obtain ⟨hx, hb, hml, hown, hts⟩ := id S
  refine lv_iload_n hx hb dX2_common_0 rfl (lv_at hl 0 rfl) ?_
  refine va_mabs hx hb (hml.trans hl.1.symm) hown (hts _ q54) (hts _ q41) (hts _ q7) (hts _ q42) (by decide) (by decide) (Nat.zero_le _) (Nat.zero_le _) dX2_common_1 ?_
  refine tp_i (y := nI u.natAbs) (oi_abs hu) ?_
  refine lv_istore_n (lv' := [(2, .int (nI u.natAbs)), (0, .int (Int32.ofInt u)), (1, .int (Int32.ofInt v))]) hx hb dX2_common_4 rfl hl (by decide) rfl (fun ls hl => ?_)
  refine lv_iload_n hx hb dX2_common_5 rfl (lv_at hl 2 rfl) ?_
  refine va_mabs hx hb (hml.trans hl.1.symm) hown (hts _ q54) (hts _ q41) (hts _ q7) (hts _ q42) (by decide) (by decide) (Nat.zero_le _) (Nat.zero_le _) dX2_common_6 ?_
  refine tp_i (y := nI v.natAbs) (oi_abs hv) ?_
  refine lv_istore_n (lv' := [(3, .int (nI v.natAbs)), (2, .int (nI u.natAbs)), (0, .int (Int32.ofInt u)), (1, .int (Int32.ofInt v))]) hx hb dX2_common_9 rfl hl (by decide) rfl (fun ls hl => ?_)
  exact lp_common (Int.gcd u v) C (v.natAbs + 1) u.natAbs v.natAbs (by omega) (by omega) (by omega) rfl ls (lv_sub hl [1, 0] rfl)
set_option maxHeartbeats 4000000 in
set_option maxRecDepth 100000 in
theorem metX1_free (l : Launch) (D : va_G) (x y : Nat) (h1 : x < 2 ^ 31) (h2 : y < 2 ^ 31) : RoI l yX1_free cX1_free 5 .boolean ({ frames := 0, cells := 0, slots := 0, locals := 0 } : Room) D [.int (nI x), .int (nI y)] [] [] (fun r => r = if Nat.gcd x y = 1 then nI 1 else nI 0) := by
  refine RoI.of (by decide) (Nat.le_of_ble_eq_true rfl) ?_
  intro p e s m below meth c C hP hK ls hl
  have hl : lv_has ls 5 [(0, .int (nI x)), (1, .int (nI y))] := hl
  obtain ⟨S, hr, hlocks⟩ := id C
  obtain ⟨hx, hb, hml, hown, hts⟩ := id S
  refine lv_iload_n hx hb dX1_free_0 rfl (lv_at hl 0 rfl) ?_
  refine lv_istore_n (lv' := [(2, .int (nI x)), (0, .int (nI x)), (1, .int (nI y))]) hx hb dX1_free_1 rfl hl (by decide) rfl (fun ls hl => ?_)
  refine lv_iload_n hx hb dX1_free_2 rfl (lv_at hl 2 rfl) ?_
  refine lv_istore_n (lv' := [(3, .int (nI y)), (2, .int (nI x)), (0, .int (nI x)), (1, .int (nI y))]) hx hb dX1_free_3 rfl hl (by decide) rfl (fun ls hl => ?_)
  exact lp_free (Nat.gcd x y) C (y + 1) x y (by omega) h1 h2 rfl ls (lv_sub hl [1, 0] rfl)
end
section
/-! sums of a line: the steps, and one by one -/
/-- the low k bits -/
def gB (x : Int32) (k : Nat) : Nat := x.toBitVec.toNat % 2 ^ k
theorem gB_lt (x : Int32) (k : Nat) : gB x k < 2 ^ k := Nat.mod_lt _ (Nat.two_pow_pos k)
theorem lN_ne {c : Nat} (h0 : 0 < c) (h : c < 2 ^ 31) : ¬ lN c = 0 := fun z => by
  have := (lN_eq (b := 0) h (by decide)).mp z
  omega
set_option maxHeartbeats 4000000 in
set_option maxRecDepth 100000 in
theorem lp_sum {p : Program} {l : Launch} {e : Env} {R : Room} {s : State} {m : MethodId} {args : Array Value} {below : List Frame} {meth : Method} {cd : Code} (T : Nat) (C : Cx p m cd cX2_sum 22 s args RX2 meth .long) : ∀ (N n a b c A : Nat), c < N → 0 < c → n ≤ 255 → a ≤ 1024 → b ≤ 1024 → c ≤ 1024 → A + gFs n a b c = T → ∀ ls : Array Slot, lv_has ls 22 [(8, .long (lN n)), (10, .long (lN a)), (12, .long (lN b)), (14, .long (lN c)), (16, .long (lN A))] →
    W p l e R s m args below meth cd s.heap [] 0 0 (rlQ below args s (fun r => r = lN T)) (F0 m 17 ls []) := by
  obtain ⟨S, hr, hlocks⟩ := id C
  obtain ⟨hx, hb, hml, hown, hts⟩ := id S
  intro N
  induction N with
  | zero =>
    intro n a b c A h
    exact absurd h (Nat.not_lt_zero _)
  | succ N ih =>
    intro n a b c A hN hc hn ha hbb hcc hT ls hl
    have c31 : c < 2 ^ 31 := by omega
    have cne := lN_ne hc c31
    have am := Nat.mod_lt a hc
    have bm := Nat.mod_lt b hc
    have hA2 : (n - 1) * n ≤ 255 * 255 := Nat.mul_le_mul (by omega) hn
    have hE : (a % c) * n ≤ 1024 * 255 := Nat.mul_le_mul (by omega) hn
    refine lv_lload hx hb dX2_sum_17 (lv_at hl 0 rfl) ?_
    refine lv_lconst (v := lN 0) hx hb dX2_sum_19 (by decide) ?_
    refine W.lcmp hx hb dX2_sum_20 ?_
    refine lv_if_le (tgt := 119) hx hb dX2_sum_21 (by decide) (fun c0 => ?_) (fun c0 => ?_)
    · have n0 : n ≤ 0 := (lN_le (by omega) (by decide)).mp ((lg_cmp_le _ _).mp c0)
      have n1 : n = 0 := by omega
      subst n1
      rw [gf_none, Nat.add_zero] at hT
      subst hT
      refine lv_lload hx hb dX2_sum_119 (lv_at hl 4 rfl) ?_
      exact ro_lret C dX2_sum_121 rfl
    · have n0 : 0 < n := Nat.pos_of_ne_zero fun z => c0 ((lg_cmp_le _ _).mpr (by rw [z]; exact Int64.le_refl _))
      refine lv_lload hx hb dX2_sum_24 (lv_at hl 4 rfl) ?_
      refine lv_lload hx hb dX2_sum_26 (lv_at hl 0 rfl) ?_
      refine lv_lconst (v := lN 1) hx hb dX2_sum_28 (by decide) ?_
      refine lv_lsub hx hb dX2_sum_29 ?_
      refine tp_l (y := lN (n - 1)) (lN_sub n0) ?_
      refine lv_lload hx hb dX2_sum_30 (lv_at hl 0 rfl) ?_
      refine lv_lmul hx hb dX2_sum_32 ?_
      refine tp_l (y := lN ((n - 1) * n)) (lN_mul _ _) ?_
      refine lv_ldc2 hx hb hown (hts _ q75) dX2_sum_33 ?_
      refine lv_ldiv hx hb dX2_sum_36 (by decide) ?_
      refine tp_l (y := lN ((n - 1) * n / 2)) (pk_lDiv (b := 2) (by omega) (by decide) (by decide)) ?_
      refine lv_lload hx hb dX2_sum_37 (lv_at hl 1 rfl) ?_
      refine lv_lload hx hb dX2_sum_39 (lv_at hl 3 rfl) ?_
      refine lv_ldiv hx hb dX2_sum_41 (cne) ?_
      refine tp_l (y := lN (a / c)) (pk_lDiv (by omega) hc (by omega)) ?_
      refine lv_lmul hx hb dX2_sum_42 ?_
      refine tp_l (y := lN ((n - 1) * n / 2 * (a / c))) (lN_mul _ _) ?_
      refine lv_lload hx hb dX2_sum_43 (lv_at hl 0 rfl) ?_
      refine lv_lload hx hb dX2_sum_45 (lv_at hl 2 rfl) ?_
      refine lv_lload hx hb dX2_sum_47 (lv_at hl 3 rfl) ?_
      refine lv_ldiv hx hb dX2_sum_49 (cne) ?_
      refine tp_l (y := lN (b / c)) (pk_lDiv (by omega) hc (by omega)) ?_
      refine lv_lmul hx hb dX2_sum_50 ?_
      refine tp_l (y := lN (n * (b / c))) (lN_mul _ _) ?_
      refine lv_ladd hx hb dX2_sum_51 ?_
      refine tp_l (y := lN ((n - 1) * n / 2 * (a / c) + n * (b / c))) (lN_add _ _) ?_
      refine lv_ladd hx hb dX2_sum_52 ?_
      refine tp_l (y := lN (A + ((n - 1) * n / 2 * (a / c) + n * (b / c)))) (lN_add _ _) ?_
      refine lv_lstore (lv' := [(16, .long (lN (A + ((n - 1) * n / 2 * (a / c) + n * (b / c))))), (8, .long (lN n)), (10, .long (lN a)), (12, .long (lN b)), (14, .long (lN c))]) hx hb dX2_sum_53 hl (by decide) rfl (fun ls hl => ?_)
      refine lv_lload hx hb dX2_sum_55 (lv_at hl 2 rfl) ?_
      refine lv_lload hx hb dX2_sum_57 (lv_at hl 4 rfl) ?_
      refine lv_lrem hx hb dX2_sum_59 (cne) ?_
      refine tp_l (y := lN (a % c)) (pk_lRem (by omega) hc (by omega)) ?_
      refine lv_lstore (lv' := [(10, .long (lN (a % c))), (16, .long (lN (A + ((n - 1) * n / 2 * (a / c) + n * (b / c))))), (8, .long (lN n)), (12, .long (lN b)), (14, .long (lN c))]) hx hb dX2_sum_60 hl (by decide) rfl (fun ls hl => ?_)
      refine lv_lload hx hb dX2_sum_62 (lv_at hl 3 rfl) ?_
      refine lv_lload hx hb dX2_sum_64 (lv_at hl 4 rfl) ?_
      refine lv_lrem hx hb dX2_sum_66 (cne) ?_
      refine tp_l (y := lN (b % c)) (pk_lRem (by omega) hc (by omega)) ?_
      refine lv_lstore (lv' := [(12, .long (lN (b % c))), (10, .long (lN (a % c))), (16, .long (lN (A + ((n - 1) * n / 2 * (a / c) + n * (b / c))))), (8, .long (lN n)), (14, .long (lN c))]) hx hb dX2_sum_67 hl (by decide) rfl (fun ls hl => ?_)
      refine lv_lload hx hb dX2_sum_69 (lv_at hl 1 rfl) ?_
      refine lv_lload hx hb dX2_sum_71 (lv_at hl 3 rfl) ?_
      refine lv_lmul hx hb dX2_sum_73 ?_
      refine tp_l (y := lN ((a % c) * n)) (lN_mul _ _) ?_
      refine lv_lload hx hb dX2_sum_74 (lv_at hl 0 rfl) ?_
      refine lv_ladd hx hb dX2_sum_76 ?_
      refine tp_l (y := lN ((a % c) * n + b % c)) (lN_add _ _) ?_
      refine lv_lstore (lv' := [(18, .long (lN ((a % c) * n + b % c))), (12, .long (lN (b % c))), (10, .long (lN (a % c))), (16, .long (lN (A + ((n - 1) * n / 2 * (a / c) + n * (b / c))))), (8, .long (lN n)), (14, .long (lN c))]) hx hb dX2_sum_77 hl (by decide) rfl (fun ls hl => ?_)
      refine lv_lload hx hb dX2_sum_79 (lv_at hl 0 rfl) ?_
      refine lv_lload hx hb dX2_sum_81 (lv_at hl 5 rfl) ?_
      refine W.lcmp hx hb dX2_sum_83 ?_
      have h1 := gf_one hc n a b
      refine lv_if_ge (tgt := 90) hx hb dX2_sum_84 (by decide) (fun c1 => ?_) (fun c1 => ?_)
      · have ge : c ≤ (a % c) * n + b % c := (pk_lLE (by omega) (by omega)).mp ((lg_cmp_ge _ _).mp c1)
        obtain ⟨hp, hle, hs⟩ := gf_step (n := n) (a := a) (b := b) hc ge
        have em := Nat.mod_lt ((a % c) * n + b % c) hc
        refine lv_lload hx hb dX2_sum_90 (lv_at hl 0 rfl) ?_
        refine lv_lload hx hb dX2_sum_92 (lv_at hl 5 rfl) ?_
        refine lv_ldiv hx hb dX2_sum_94 (cne) ?_
        refine tp_l (y := lN (((a % c) * n + b % c) / c)) (pk_lDiv (by omega) hc (by omega)) ?_
        refine lv_lstore (lv' := [(8, .long (lN (((a % c) * n + b % c) / c))), (18, .long (lN ((a % c) * n + b % c))), (12, .long (lN (b % c))), (10, .long (lN (a % c))), (16, .long (lN (A + ((n - 1) * n / 2 * (a / c) + n * (b / c))))), (14, .long (lN c))]) hx hb dX2_sum_95 hl (by decide) rfl (fun ls hl => ?_)
        refine lv_lload hx hb dX2_sum_97 (lv_at hl 1 rfl) ?_
        refine lv_lload hx hb dX2_sum_99 (lv_at hl 5 rfl) ?_
        refine lv_lrem hx hb dX2_sum_101 (cne) ?_
        refine tp_l (y := lN (((a % c) * n + b % c) % c)) (pk_lRem (by omega) hc (by omega)) ?_
        refine lv_lstore (lv' := [(12, .long (lN (((a % c) * n + b % c) % c))), (8, .long (lN (((a % c) * n + b % c) / c))), (18, .long (lN ((a % c) * n + b % c))), (10, .long (lN (a % c))), (16, .long (lN (A + ((n - 1) * n / 2 * (a / c) + n * (b / c))))), (14, .long (lN c))]) hx hb dX2_sum_102 hl (by decide) rfl (fun ls hl => ?_)
        refine lv_lload hx hb dX2_sum_104 (lv_at hl 5 rfl) ?_
        refine lv_lstore (lv' := [(20, .long (lN c)), (12, .long (lN (((a % c) * n + b % c) % c))), (8, .long (lN (((a % c) * n + b % c) / c))), (18, .long (lN ((a % c) * n + b % c))), (10, .long (lN (a % c))), (16, .long (lN (A + ((n - 1) * n / 2 * (a / c) + n * (b / c))))), (14, .long (lN c))]) hx hb dX2_sum_106 hl (by decide) rfl (fun ls hl => ?_)
        refine lv_lload hx hb dX2_sum_108 (lv_at hl 4 rfl) ?_
        refine lv_lstore (lv' := [(14, .long (lN (a % c))), (20, .long (lN c)), (12, .long (lN (((a % c) * n + b % c) % c))), (8, .long (lN (((a % c) * n + b % c) / c))), (18, .long (lN ((a % c) * n + b % c))), (10, .long (lN (a % c))), (16, .long (lN (A + ((n - 1) * n / 2 * (a / c) + n * (b / c)))))]) hx hb dX2_sum_110 hl (by decide) rfl (fun ls hl => ?_)
        refine lv_lload hx hb dX2_sum_112 (lv_at hl 1 rfl) ?_
        refine lv_lstore (lv' := [(10, .long (lN c)), (14, .long (lN (a % c))), (20, .long (lN c)), (12, .long (lN (((a % c) * n + b % c) % c))), (8, .long (lN (((a % c) * n + b % c) / c))), (18, .long (lN ((a % c) * n + b % c))), (16, .long (lN (A + ((n - 1) * n / 2 * (a / c) + n * (b / c)))))]) hx hb dX2_sum_114 hl (by decide) rfl (fun ls hl => ?_)
        refine lv_goto (tgt := 17) hx hb dX2_sum_116 (by decide) ?_
        exact ih (((a % c) * n + b % c) / c) c (((a % c) * n + b % c) % c) (a % c) (A + ((n - 1) * n / 2 * (a / c) + n * (b / c))) (by omega) hp (by omega) (by omega) (by omega) (by omega) (by rw [← hs]; omega) ls (lv_sub hl [4, 0, 3, 1, 6] rfl)
      · have lt : (a % c) * n + b % c < c := Nat.lt_of_not_le fun z => c1 ((lg_cmp_ge _ _).mpr ((pk_lLE (by omega) (by omega)).mpr z))
        have hz := gf_done lt
        refine lv_goto (tgt := 119) hx hb dX2_sum_87 (by decide) ?_
        refine lv_lload hx hb dX2_sum_119 (lv_at hl 3 rfl) ?_
        exact ro_lret C dX2_sum_121 (congrArg lN (by omega))
set_option maxHeartbeats 4000000 in
set_option maxRecDepth 100000 in
theorem metX2_sum (l : Launch) (D : va_G) (n a b c : Nat) (hn : n ≤ 255) (ha : a ≤ 1024) (hbb : b ≤ 1024) (hc : 0 < c) (hcc : c ≤ 1024) : RoL l yX2_sum cX2_sum 22 ({ frames := 0, cells := 0, slots := 0, locals := 0 } : Room) D [.long (lN n), .long (lN a), .long (lN b), .long (lN c)] [] [] (fun r => r = lN (gFs n a b c)) := by
  refine RoL.of (by decide) (Nat.le_of_ble_eq_true rfl) ?_
  intro p e s m below meth cd C hP hK ls hl
  have hl : lv_has ls 22 [(0, .long (lN n)), (2, .long (lN a)), (4, .long (lN b)), (6, .long (lN c))] := hl
  obtain ⟨S, hr, hlocks⟩ := id C
  obtain ⟨hx, hb, hml, hown, hts⟩ := id S
  refine lv_lload_n hx hb dX2_sum_0 rfl (lv_at hl 0 rfl) ?_
  refine lv_lstore (lv' := [(8, .long (lN n)), (0, .long (lN n)), (2, .long (lN a)), (4, .long (lN b)), (6, .long (lN c))]) hx hb dX2_sum_1 hl (by decide) rfl (fun ls hl => ?_)
  refine lv_lload_n hx hb dX2_sum_3 rfl (lv_at hl 2 rfl) ?_
  refine lv_lstore (lv' := [(10, .long (lN a)), (8, .long (lN n)), (0, .long (lN n)), (2, .long (lN a)), (4, .long (lN b)), (6, .long (lN c))]) hx hb dX2_sum_4 hl (by decide) rfl (fun ls hl => ?_)
  refine lv_lload hx hb dX2_sum_6 (lv_at hl 4 rfl) ?_
  refine lv_lstore (lv' := [(12, .long (lN b)), (10, .long (lN a)), (8, .long (lN n)), (0, .long (lN n)), (2, .long (lN a)), (4, .long (lN b)), (6, .long (lN c))]) hx hb dX2_sum_8 hl (by decide) rfl (fun ls hl => ?_)
  refine lv_lload hx hb dX2_sum_10 (lv_at hl 6 rfl) ?_
  refine lv_lstore (lv' := [(14, .long (lN c)), (12, .long (lN b)), (10, .long (lN a)), (8, .long (lN n)), (0, .long (lN n)), (2, .long (lN a)), (4, .long (lN b)), (6, .long (lN c))]) hx hb dX2_sum_12 hl (by decide) rfl (fun ls hl => ?_)
  refine lv_lconst (v := lN 0) hx hb dX2_sum_14 (by decide) ?_
  refine lv_lstore (lv' := [(16, .long (lN 0)), (14, .long (lN c)), (12, .long (lN b)), (10, .long (lN a)), (8, .long (lN n)), (0, .long (lN n)), (2, .long (lN a)), (4, .long (lN b)), (6, .long (lN c))]) hx hb dX2_sum_15 hl (by decide) rfl (fun ls hl => ?_)
  exact lp_sum (gFs n a b c) C (c + 1) n a b c 0 (by omega) hc hn ha hbb hcc (Nat.zero_add _) ls (lv_sub hl [4, 3, 2, 1, 0] rfl)
set_option maxHeartbeats 4000000 in
set_option maxRecDepth 100000 in
theorem metX0_under (l : Launch) (D : va_G) (h0 : Nat) (k1 k2 k3 k4 : Int32) : RoL l yX0_under cX0_under 5 ({ frames := 1, cells := 0, slots := 0, locals := 41 } : Room) D [.ref h0, .int k1, .int k2, .int k3, .int k4] [] [] (fun r => r = lN (gFs (gB k1 8) (gB k2 10) (gB k3 10) (1 + gB k4 10))) := by
  refine RoL.of (by decide) (Nat.le_of_ble_eq_true rfl) ?_
  intro p e s m below meth cd C hP hK ls hl
  have hl : lv_has ls 5 [(0, .ref h0), (1, .int k1), (2, .int k2), (3, .int k3), (4, .int k4)] := hl
  obtain ⟨S, hr, hlocks⟩ := id C
  obtain ⟨hx, hb, hml, hown, hts⟩ := id S
  have b1 := gB_lt k1 8
  have b2 := gB_lt k2 10
  have b3 := gB_lt k3 10
  have b4 := gB_lt k4 10
  refine lv_iload_n hx hb dX0_under_0 rfl (lv_at hl 1 rfl) ?_
  refine lv_sipush (v := nI 255) hx hb dX0_under_1 (by decide) ?_
  refine lv_iand hx hb dX0_under_4 ?_
  refine tp_i (y := nI (gB k1 8)) (pk_and k1 8 (by decide)) ?_
  refine lv_i2l (v := lN (gB k1 8)) hx hb dX0_under_5 (nI_l (by omega)) ?_
  refine lv_iload_n hx hb dX0_under_6 rfl (lv_at hl 2 rfl) ?_
  refine lv_sipush (v := nI 1023) hx hb dX0_under_7 (by decide) ?_
  refine lv_iand hx hb dX0_under_10 ?_
  refine tp_i (y := nI (gB k2 10)) (pk_and k2 10 (by decide)) ?_
  refine lv_i2l (v := lN (gB k2 10)) hx hb dX0_under_11 (nI_l (by omega)) ?_
  refine lv_iload_n hx hb dX0_under_12 rfl (lv_at hl 3 rfl) ?_
  refine lv_sipush (v := nI 1023) hx hb dX0_under_13 (by decide) ?_
  refine lv_iand hx hb dX0_under_16 ?_
  refine tp_i (y := nI (gB k3 10)) (pk_and k3 10 (by decide)) ?_
  refine lv_i2l (v := lN (gB k3 10)) hx hb dX0_under_17 (nI_l (by omega)) ?_
  refine lv_iconst (v := nI 1) hx hb dX0_under_18 (by decide) ?_
  refine lv_iload hx hb dX0_under_19 (lv_at hl 4 rfl) ?_
  refine lv_sipush (v := nI 1023) hx hb dX0_under_21 (by decide) ?_
  refine lv_iand hx hb dX0_under_24 ?_
  refine tp_i (y := nI (gB k4 10)) (pk_and k4 10 (by decide)) ?_
  refine lv_iadd hx hb dX0_under_25 ?_
  refine tp_i (y := nI (1 + gB k4 10)) (nI_add _ _) ?_
  refine lv_i2l (v := lN (1 + gB k4 10)) hx hb dX0_under_26 (nI_l (by omega)) ?_
  refine ro_SL 4 S (metX2_sum l D (gB k1 8) (gB k2 10) (gB k3 10) (1 + gB k4 10) (by omega) (by omega) (by omega) (by omega) (by omega)) (lw_S q72 q73 q8 q74) rfl rfl (by decide +kernel) rfl ⟨Nat.le_of_ble_eq_true rfl, Nat.le_of_ble_eq_true rfl⟩ va_P.nil (hK.sub [] rfl) hl.1 rfl (Nat.le_of_ble_eq_true rfl) dX0_under_27 ⟨Nat.zero_le _, Nat.zero_le _⟩ (fun r hr => ?_)
  exact ro_lret C dX0_under_30 hr
set_option maxHeartbeats 4000000 in
set_option maxRecDepth 100000 in
theorem lp_under {p : Program} {l : Launch} {e : Env} {R : Room} {s : State} {m : MethodId} {args : Array Value} {below : List Frame} {meth : Method} {cd : Code} (n a b c : Nat) (hn : n ≤ 255) (ha : a ≤ 1024) (hbb : b ≤ 1024) (hc : 0 < c) (hcc : c ≤ 1024) (C : Cx p m cd cX1_under 12 s args RX1 meth .long) : ∀ (N i : Nat), n - i < N → i ≤ n → ∀ ls : Array Slot, lv_has ls 12 [(5, .int (nI n)), (6, .int (nI a)), (7, .int (nI b)), (8, .int (nI c)), (9, .long (lN (gFs i a b c))), (11, .int (nI i))] →
    W p l e R s m args below meth cd s.heap [] 0 0 (rlQ below args s (fun r => r = lN (gFs n a b c))) (F0 m 37 ls []) := by
  obtain ⟨S, hr, hlocks⟩ := id C
  obtain ⟨hx, hb, hml, hown, hts⟩ := id S
  intro N
  induction N with
  | zero =>
    intro i h
    exact absurd h (Nat.not_lt_zero _)
  | succ N ih =>
    intro i hN hi ls hl
    have hE : a * i ≤ 1024 * 255 := Nat.mul_le_mul ha (by omega)
    have hD : (a * i + b) / c ≤ a * i + b := Nat.div_le_self _ _
    refine lv_iload hx hb dX1_under_37 (lv_at hl 5 rfl) ?_
    refine lv_iload hx hb dX1_under_39 (lv_at hl 0 rfl) ?_
    refine lv_icmp_ge (tgt := 67) hx hb dX1_under_41 (by decide) (fun c0 => ?_) (fun c0 => ?_)
    · have e0 : i = n := by
        have := (nI_leI (by omega) (by omega)).mp c0
        omega
      subst e0
      refine lv_lload hx hb dX1_under_67 (lv_at hl 4 rfl) ?_
      exact ro_lret C dX1_under_69 rfl
    · have lt : i < n := Nat.lt_of_not_le fun z => c0 (nI_le z (by omega))
      refine lv_lload hx hb dX1_under_44 (lv_at hl 4 rfl) ?_
      refine lv_iload hx hb dX1_under_46 (lv_at hl 1 rfl) ?_
      refine lv_iload hx hb dX1_under_48 (lv_at hl 5 rfl) ?_
      refine lv_imul hx hb dX1_under_50 ?_
      refine tp_i (y := nI (a * i)) (pk_mul _ _) ?_
      refine lv_iload hx hb dX1_under_51 (lv_at hl 2 rfl) ?_
      refine lv_iadd hx hb dX1_under_53 ?_
      refine tp_i (y := nI (a * i + b)) (nI_add _ _) ?_
      refine lv_iload hx hb dX1_under_54 (lv_at hl 3 rfl) ?_
      refine lv_idiv hx hb dX1_under_56 (nI_ne0 hc (by omega)) ?_
      refine tp_i (y := nI ((a * i + b) / c)) (pk_div (by omega) hc (by omega)) ?_
      refine lv_i2l (v := lN ((a * i + b) / c)) hx hb dX1_under_57 (nI_l (by omega)) ?_
      refine lv_ladd hx hb dX1_under_58 ?_
      refine tp_l (y := lN (gFs (i + 1) a b c)) (lN_add _ _) ?_
      refine lv_lstore (lv' := [(9, .long (lN (gFs (i + 1) a b c))), (5, .int (nI n)), (6, .int (nI a)), (7, .int (nI b)), (8, .int (nI c)), (11, .int (nI i))]) hx hb dX1_under_59 hl (by decide) rfl (fun ls hl => ?_)
      refine lv_iinc (v := nI (i + 1)) (lv' := [(11, .int (nI (i + 1))), (9, .long (lN (gFs (i + 1) a b c))), (5, .int (nI n)), (6, .int (nI a)), (7, .int (nI b)), (8, .int (nI c))]) hx hb dX1_under_61 hl (k := 5) rfl (nI_1 i) (by decide) rfl (fun ls hl => ?_)
      refine lv_goto (tgt := 37) hx hb dX1_under_64 (by decide) ?_
      exact ih (i + 1) (by omega) lt ls (lv_sub hl [2, 3, 4, 5, 1, 0] rfl)
set_option maxHeartbeats 4000000 in
set_option maxRecDepth 100000 in
theorem metX1_under (l : Launch) (D : va_G) (h0 : Nat) (k1 k2 k3 k4 : Int32) : RoL l yX1_under cX1_under 12 ({ frames := 0, cells := 0, slots := 0, locals := 0 } : Room) D [.ref h0, .int k1, .int k2, .int k3, .int k4] [] [] (fun r => r = lN (gFs (gB k1 8) (gB k2 10) (gB k3 10) (1 + gB k4 10))) := by
  refine RoL.of (by decide) (Nat.le_of_ble_eq_true rfl) ?_
  intro p e s m below meth cd C hP hK ls hl
  have hl : lv_has ls 12 [(0, .ref h0), (1, .int k1), (2, .int k2), (3, .int k3), (4, .int k4)] := hl
  obtain ⟨S, hr, hlocks⟩ := id C
  obtain ⟨hx, hb, hml, hown, hts⟩ := id S
  have b1 := gB_lt k1 8
  have b2 := gB_lt k2 10
  have b3 := gB_lt k3 10
  have b4 := gB_lt k4 10
  refine lv_iload_n hx hb dX1_under_0 rfl (lv_at hl 1 rfl) ?_
  refine lv_sipush (v := nI 255) hx hb dX1_under_1 (by decide) ?_
  refine lv_iand hx hb dX1_under_4 ?_
  refine tp_i (y := nI (gB k1 8)) (pk_and k1 8 (by decide)) ?_
  refine lv_istore (lv' := [(5, .int (nI (gB k1 8))), (0, .ref h0), (1, .int k1), (2, .int k2), (3, .int k3), (4, .int k4)]) hx hb dX1_under_5 hl (by decide) rfl (fun ls hl => ?_)
  refine lv_iload_n hx hb dX1_under_7 rfl (lv_at hl 3 rfl) ?_
  refine lv_sipush (v := nI 1023) hx hb dX1_under_8 (by decide) ?_
  refine lv_iand hx hb dX1_under_11 ?_
  refine tp_i (y := nI (gB k2 10)) (pk_and k2 10 (by decide)) ?_
  refine lv_istore (lv' := [(6, .int (nI (gB k2 10))), (5, .int (nI (gB k1 8))), (0, .ref h0), (1, .int k1), (2, .int k2), (3, .int k3), (4, .int k4)]) hx hb dX1_under_12 hl (by decide) rfl (fun ls hl => ?_)
  refine lv_iload_n hx hb dX1_under_14 rfl (lv_at hl 5 rfl) ?_
  refine lv_sipush (v := nI 1023) hx hb dX1_under_15 (by decide) ?_
  refine lv_iand hx hb dX1_under_18 ?_
  refine tp_i (y := nI (gB k3 10)) (pk_and k3 10 (by decide)) ?_
  refine lv_istore (lv' := [(7, .int (nI (gB k3 10))), (6, .int (nI (gB k2 10))), (5, .int (nI (gB k1 8))), (0, .ref h0), (1, .int k1), (2, .int k2), (3, .int k3), (4, .int k4)]) hx hb dX1_under_19 hl (by decide) rfl (fun ls hl => ?_)
  refine lv_iconst (v := nI 1) hx hb dX1_under_21 (by decide) ?_
  refine lv_iload hx hb dX1_under_22 (lv_at hl 7 rfl) ?_
  refine lv_sipush (v := nI 1023) hx hb dX1_under_24 (by decide) ?_
  refine lv_iand hx hb dX1_under_27 ?_
  refine tp_i (y := nI (gB k4 10)) (pk_and k4 10 (by decide)) ?_
  refine lv_iadd hx hb dX1_under_28 ?_
  refine tp_i (y := nI (1 + gB k4 10)) (nI_add _ _) ?_
  refine lv_istore (lv' := [(8, .int (nI (1 + gB k4 10))), (7, .int (nI (gB k3 10))), (6, .int (nI (gB k2 10))), (5, .int (nI (gB k1 8))), (0, .ref h0), (1, .int k1), (2, .int k2), (3, .int k3), (4, .int k4)]) hx hb dX1_under_29 hl (by decide) rfl (fun ls hl => ?_)
  refine lv_lconst (v := lN 0) hx hb dX1_under_31 (by decide) ?_
  refine lv_lstore (lv' := [(9, .long (lN 0)), (8, .int (nI (1 + gB k4 10))), (7, .int (nI (gB k3 10))), (6, .int (nI (gB k2 10))), (5, .int (nI (gB k1 8))), (0, .ref h0), (1, .int k1), (2, .int k2), (3, .int k3), (4, .int k4)]) hx hb dX1_under_32 hl (by decide) rfl (fun ls hl => ?_)
  refine lv_iconst (v := nI 0) hx hb dX1_under_34 (by decide) ?_
  refine lv_istore (lv' := [(11, .int (nI 0)), (9, .long (lN 0)), (8, .int (nI (1 + gB k4 10))), (7, .int (nI (gB k3 10))), (6, .int (nI (gB k2 10))), (5, .int (nI (gB k1 8))), (0, .ref h0), (1, .int k1), (2, .int k2), (3, .int k3), (4, .int k4)]) hx hb dX1_under_35 hl (by decide) rfl (fun ls hl => ?_)
  exact lp_under (gB k1 8) (gB k2 10) (gB k3 10) (1 + gB k4 10) (by omega) (by omega) (by omega) (by omega) (by omega) C (gB k1 8 + 1) 0 (by omega) (Nat.zero_le _) ls (lv_sub hl [5, 4, 3, 2, 1, 0] rfl)
end
section
/-! GridPoints: sides, area, edge, inside -/
abbrev gC (X : Nat → Nat) : Prop := ∀ j, X j < 32
/-- the steps of side i -/
def gS (X Y : Nat → Nat) (i : Nat) : Nat := Int.gcd ((X ((i + 1) % 3) : Int) - X i) ((Y ((i + 1) % 3) : Int) - Y i)
/-- twice the area, with its sign -/
def gT3 (X Y : Nat → Nat) : Int := gT (X 0) (Y 0) (X 1) (Y 1) (X 2) (Y 2)
def gAr (X Y : Nat → Nat) : Nat → Int := fun i => fb_si (fun k => ((X k * Y ((k + 1) % 3) : Nat) : Int) - ((X ((k + 1) % 3) * Y k : Nat) : Int)) i
def gMx (X Y : Nat → Nat) : Nat → Nat
  | 0 => 0
  | i + 1 => max (gMx X Y i) (gS X Y i)
/-- the reference's counts -/
def gE (X Y : Nat → Nat) (kind : Nat) : Int := gg (fun p q => if gPl (X 0) (Y 0) (X 1) (Y 1) (X 2) (Y 2) p q = kind then 1 else 0)
theorem gC_in {X : Nat → Nat} (h : gC X) (j : Nat) : gIn (X j) := by
  have := h j
  omega
theorem gAr_3 (X Y : Nat → Nat) : gAr X Y 3 = gT3 X Y := by
  unfold gAr gT3
  rw [fb_si_succ, fb_si_succ, fb_si_succ]
  show (0 : Int) + (((X 0 * Y 1 : Nat) : Int) - ((X 1 * Y 0 : Nat) : Int)) + (((X 1 * Y 2 : Nat) : Int) - ((X 2 * Y 1 : Nat) : Int)) + (((X 2 * Y 0 : Nat) : Int) - ((X 0 * Y 2 : Nat) : Int)) = _
  rw [Int.natCast_mul, Int.natCast_mul, Int.natCast_mul, Int.natCast_mul, Int.natCast_mul, Int.natCast_mul]
  unfold gT
  grind
theorem gT3_bd {X Y : Nat → Nat} (hX : gC X) (hY : gC Y) : oB (gT3 X Y) := by
  have := gT_bd (gC_in hX 0) (gC_in hY 0) (gC_in hX 1) (gC_in hY 1) (gC_in hX 2) (gC_in hY 2)
  unfold gT3
  omega
theorem gS_le {X Y : Nat → Nat} (hX : gC X) (hY : gC Y) (i : Nat) : gS X Y i ≤ 31 := by
  unfold gS
  have h1 := hX ((i + 1) % 3)
  have h2 := hX i
  have h3 := hY ((i + 1) % 3)
  have h4 := hY i
  generalize hu : (X ((i + 1) % 3) : Int) - X i = u
  generalize hv : (Y ((i + 1) % 3) : Int) - Y i = v
  by_cases z : u = 0
  · rw [z, Int.gcd_zero_left]
    omega
  · have := Nat.le_of_dvd (by omega) (Int.gcd_dvd_natAbs_left u v)
    omega
theorem gMx_le {X Y : Nat → Nat} (hX : gC X) (hY : gC Y) : ∀ i, gMx X Y i ≤ 31
  | 0 => Nat.zero_le _
  | i + 1 => by
    have h1 := gMx_le hX hY i
    have h2 := gS_le hX hY i
    show max (gMx X Y i) (gS X Y i) ≤ 31
    omega
theorem nI_max {a b : Nat} (ha : a < 2 ^ 31) (hb : b < 2 ^ 31) : (if nI a < nI b then nI b else nI a) = nI (max a b) := by
  by_cases h : a < b
  · rw [if_pos (nI_lt h hb)]
    exact congrArg nI (by omega)
  · rw [if_neg (nI_nlt (Nat.le_of_not_lt h) ha)]
    exact congrArg nI (by omega)
theorem gE_flat {X Y : Nat → Nat} (hX : gC X) (hY : gC Y) (h : gT3 X Y = 0) : gE X Y 1 = ((gMx X Y 3 + 1 : Nat) : Int) ∧ gE X Y 2 = 0 := by
  obtain ⟨h1, h2⟩ := gF_deg (gC_in hX 0) (gC_in hY 0) (gC_in hX 1) (gC_in hY 1) (gC_in hX 2) (gC_in hY 2) h
  refine ⟨?_, h2⟩
  unfold gE
  rw [h1]
  have e : gMx X Y 3 = max (max (max 0 (Int.gcd ((X 1 : Int) - X 0) ((Y 1 : Int) - Y 0))) (Int.gcd ((X 2 : Int) - X 1) ((Y 2 : Int) - Y 1))) (Int.gcd ((X 0 : Int) - X 2) ((Y 0 : Int) - Y 2)) := rfl
  rw [e]
  omega
theorem gE_tri {X Y : Nat → Nat} (hX : gC X) (hY : gC Y) (h : gT3 X Y ≠ 0) : gE X Y 1 = ((fb_sm (gS X Y) 3 : Nat) : Int) ∧ 2 * gE X Y 2 + gE X Y 1 - 2 = ((gT3 X Y).natAbs : Int) := by
  obtain ⟨h1, h2⟩ := gF_tri (gC_in hX 0) (gC_in hY 0) (gC_in hX 1) (gC_in hY 1) (gC_in hX 2) (gC_in hY 2) h
  refine ⟨?_, h2⟩
  unfold gE
  rw [h1]
  have e : fb_sm (gS X Y) 3 = 0 + Int.gcd ((X 1 : Int) - X 0) ((Y 1 : Int) - Y 0) + Int.gcd ((X 2 : Int) - X 1) ((Y 2 : Int) - Y 1) + Int.gcd ((X 0 : Int) - X 2) ((Y 0 : Int) - Y 2) := rfl
  rw [e]
  omega
theorem gE_nn (X Y : Nat → Nat) (k : Nat) : 0 ≤ gE X Y k := by
  have h := gg_le (f := fun _ _ => 0) (g := fun p q => if gPl (X 0) (Y 0) (X 1) (Y 1) (X 2) (Y 2) p q = k then 1 else 0) (fun p q _ _ => by
    by_cases z : gPl (X 0) (Y 0) (X 1) (Y 1) (X 2) (Y 2) p q = k
    · rw [if_pos z]; decide
    · rw [if_neg z]; decide)
  rw [gg_zero (fun _ _ _ _ => rfl)] at h
  exact h
theorem gE_in {X Y : Nat → Nat} (hX : gC X) (hY : gC Y) (h : gT3 X Y ≠ 0) : (nI (gT3 X Y).natAbs - Int32.ofInt (gE X Y 1) + nI 2) / nI 2 = Int32.ofInt (gE X Y 2) := by
  have h2 := (gE_tri hX hY h).2
  have h3 := gE_nn X Y 2
  have h4 := gT3_bd hX hY
  have h5 := gE_nn X Y 1
  have e1 : nI (gT3 X Y).natAbs - Int32.ofInt (gE X Y 1) + nI 2 = nI (2 * (gE X Y 2).toNat) := by
    rw [← oi_n, ← oi_n, ← oi_n, ← Int32.ofInt_sub, ← Int32.ofInt_add]
    exact congrArg Int32.ofInt (by omega)
  rw [e1, pk_div (by omega) (by decide) (by decide), ← oi_n]
  exact congrArg Int32.ofInt (by omega)
set_option maxHeartbeats 4000000 in
set_option maxRecDepth 100000 in
theorem metX0_steps (l : Launch) (D : va_G) (h0 ax ay aa : Nat) (d : ClassId) (X Y : Nat → Nat) (hX : gC X) (hY : gC Y) (i : Nat) (hi : i < 3) : RoI l yX0_steps cX0_steps 3 .int ({ frames := 2, cells := 0, slots := 0, locals := 44 } : Room) D [.ref h0, .int (nI i)] (wX h0 ax ay aa d X Y) [(d, .int)] (fun r => r = nI (gS X Y i)) := by
  refine RoI.of (by decide) (Nat.le_of_ble_eq_true rfl) ?_
  intro p e s m below meth c C hP hK ls hl
  have hl : lv_has ls 3 [(0, .ref h0), (1, .int (nI i))] := hl
  obtain ⟨S, hr, hlocks⟩ := id C
  obtain ⟨hx, hb, hml, hown, hts⟩ := id S
  have hj : (i + 1) % 3 < 3 := Nat.mod_lt _ (by decide)
  have b1 := hX i
  have b2 := hX ((i + 1) % 3)
  have b3 := hY i
  have b4 := hY ((i + 1) % 3)
  refine lv_iload_n hx hb dX0_steps_0 rfl (lv_at hl 1 rfl) ?_
  refine lv_iconst (v := nI 1) hx hb dX0_steps_1 (by decide) ?_
  refine lv_iadd hx hb dX0_steps_2 ?_
  refine tp_i (y := nI (i + 1)) (nI_add _ _) ?_
  refine lv_iconst (v := nI 3) hx hb dX0_steps_3 (by decide) ?_
  refine lv_irem hx hb dX0_steps_4 (by decide) ?_
  refine tp_i (y := nI ((i + 1) % 3)) (pk_rem (by omega) (by decide) (by decide)) ?_
  refine lv_istore_n (lv' := [(2, .int (nI ((i + 1) % 3))), (0, .ref h0), (1, .int (nI i))]) hx hb dX0_steps_5 rfl hl (by decide) rfl (fun ls hl => ?_)
  refine lv_aload_n hx hb dX0_steps_6 rfl (lv_at hl 1 rfl) ?_
  refine x0_x S hK hP 0 rfl dX0_steps_7 ?_
  refine lv_iload_n hx hb dX0_steps_10 rfl (lv_at hl 0 rfl) ?_
  refine ga_ld S hK hP 1 0 rfl rfl (hj) (by decide) dX0_steps_11 ?_
  refine lv_aload_n hx hb dX0_steps_12 rfl (lv_at hl 1 rfl) ?_
  refine x0_x S hK hP 0 rfl dX0_steps_13 ?_
  refine lv_iload_n hx hb dX0_steps_16 rfl (lv_at hl 2 rfl) ?_
  refine ga_ld S hK hP 1 0 rfl rfl (hi) (by decide) dX0_steps_17 ?_
  refine lv_isub hx hb dX0_steps_18 ?_
  refine tp_i (y := Int32.ofInt ((X ((i + 1) % 3) : Int) - X i)) (oi_sub _ _) ?_
  refine lv_aload_n hx hb dX0_steps_19 rfl (lv_at hl 1 rfl) ?_
  refine x0_y S hK hP 0 rfl dX0_steps_20 ?_
  refine lv_iload_n hx hb dX0_steps_23 rfl (lv_at hl 0 rfl) ?_
  refine ga_ld S hK hP 2 0 rfl rfl (hj) (by decide) dX0_steps_24 ?_
  refine lv_aload_n hx hb dX0_steps_25 rfl (lv_at hl 1 rfl) ?_
  refine x0_y S hK hP 0 rfl dX0_steps_26 ?_
  refine lv_iload_n hx hb dX0_steps_29 rfl (lv_at hl 2 rfl) ?_
  refine ga_ld S hK hP 2 0 rfl rfl (hi) (by decide) dX0_steps_30 ?_
  refine lv_isub hx hb dX0_steps_31 ?_
  refine tp_i (y := Int32.ofInt ((Y ((i + 1) % 3) : Int) - Y i)) (oi_sub _ _) ?_
  refine ro_S 2 S (metX2_common l D ((X ((i + 1) % 3) : Int) - X i) ((Y ((i + 1) % 3) : Int) - Y i) (by omega) (by omega)) (lw_S q51 q52 q8 q53) rfl rfl (by decide +kernel) rfl ⟨Nat.le_of_ble_eq_true rfl, Nat.le_of_ble_eq_true rfl⟩ va_P.nil (hK.sub [] rfl) hl.1 rfl (Nat.le_of_ble_eq_true rfl) dX0_steps_32 ⟨Nat.zero_le _, Nat.zero_le _⟩ (fun r hr => ?_)
  exact ro_iret C dX0_steps_35 hr
set_option maxHeartbeats 4000000 in
set_option maxRecDepth 100000 in
theorem lp_area {p : Program} {l : Launch} {e : Env} {s : State} {m : MethodId} {args : Array Value} {below : List Frame} {meth : Method} {c : Code} {D : va_G} {h0 ax ay aa : Nat} {d : ClassId} {X Y : Nat → Nat} (hX : gC X) (hY : gC Y) (C : Cx p m c cX0_twiceArea 4 s args RX0 meth .int) (hP : va_P D vwCl (wX h0 ax ay aa d X Y) s.heap) (hK : va_K D vwCl [(d, .int)] s) : ∀ (N i : Nat), 3 - i < N → i ≤ 3 → ∀ ls : Array Slot, lv_has ls 4 [(0, .ref h0), (1, .int (Int32.ofInt (gAr X Y i))), (2, .int (nI i))] →
    W p l e ({ frames := 1, cells := 0, slots := 0, locals := 13 } : Room) s m args below meth c s.heap [] 0 0 (roQ below args s (fun r => r = nI (gT3 X Y).natAbs)) (F0 m 4 ls []) := by
  obtain ⟨S, hr, hlocks⟩ := id C
  obtain ⟨hx, hb, hml, hown, hts⟩ := id S
  intro N
  induction N with
  | zero =>
    intro i h
    exact absurd h (Nat.not_lt_zero _)
  | succ N ih =>
    intro i hN hi3 ls hl
    have hj : (i + 1) % 3 < 3 := Nat.mod_lt _ (by decide)
    refine lv_iload_n hx hb dX0_twiceArea_4 rfl (lv_at hl 2 rfl) ?_
    refine lv_iconst (v := nI 3) hx hb dX0_twiceArea_5 (by decide) ?_
    refine lv_icmp_ge (tgt := 51) hx hb dX0_twiceArea_6 (by decide) (fun c0 => ?_) (fun c0 => ?_)
    · have e0 : i = 3 := by
        have := (nI_leI (by decide) (by omega)).mp c0
        omega
      subst e0
      refine lv_iload_n hx hb dX0_twiceArea_51 rfl (lv_at hl 1 rfl) ?_
      refine va_mabs hx hb (hml.trans hl.1.symm) hown (hts _ q40) (hts _ q41) (hts _ q7) (hts _ q42) (by decide) (by decide) (Nat.zero_le _) (Nat.zero_le _) dX0_twiceArea_52 ?_
      refine ro_iret C dX0_twiceArea_55 ?_
      rw [gAr_3]
      exact oi_abs (gT3_bd hX hY)
    · have hi : i < 3 := Nat.lt_of_not_le fun z => c0 (nI_le z (by omega))
      refine lv_iload_n hx hb dX0_twiceArea_9 rfl (lv_at hl 2 rfl) ?_
      refine lv_iconst (v := nI 1) hx hb dX0_twiceArea_10 (by decide) ?_
      refine lv_iadd hx hb dX0_twiceArea_11 ?_
      refine tp_i (y := nI (i + 1)) (nI_add _ _) ?_
      refine lv_iconst (v := nI 3) hx hb dX0_twiceArea_12 (by decide) ?_
      refine lv_irem hx hb dX0_twiceArea_13 (by decide) ?_
      refine tp_i (y := nI ((i + 1) % 3)) (pk_rem (by omega) (by decide) (by decide)) ?_
      refine lv_istore_n (lv' := [(3, .int (nI ((i + 1) % 3))), (0, .ref h0), (1, .int (Int32.ofInt (gAr X Y i))), (2, .int (nI i))]) hx hb dX0_twiceArea_14 rfl hl (by decide) rfl (fun ls hl => ?_)
      refine lv_iload_n hx hb dX0_twiceArea_15 rfl (lv_at hl 2 rfl) ?_
      refine lv_aload_n hx hb dX0_twiceArea_16 rfl (lv_at hl 1 rfl) ?_
      refine x0_x S hK hP 0 rfl dX0_twiceArea_17 ?_
      refine lv_iload_n hx hb dX0_twiceArea_20 rfl (lv_at hl 3 rfl) ?_
      refine ga_ld S hK hP 1 0 rfl rfl (hi) (by decide) dX0_twiceArea_21 ?_
      refine lv_aload_n hx hb dX0_twiceArea_22 rfl (lv_at hl 1 rfl) ?_
      refine x0_y S hK hP 0 rfl dX0_twiceArea_23 ?_
      refine lv_iload_n hx hb dX0_twiceArea_26 rfl (lv_at hl 0 rfl) ?_
      refine ga_ld S hK hP 2 0 rfl rfl (hj) (by decide) dX0_twiceArea_27 ?_
      refine lv_imul hx hb dX0_twiceArea_28 ?_
      refine tp_i (y := nI (X i * Y ((i + 1) % 3))) (pk_mul _ _) ?_
      refine lv_aload_n hx hb dX0_twiceArea_29 rfl (lv_at hl 1 rfl) ?_
      refine x0_x S hK hP 0 rfl dX0_twiceArea_30 ?_
      refine lv_iload_n hx hb dX0_twiceArea_33 rfl (lv_at hl 0 rfl) ?_
      refine ga_ld S hK hP 1 0 rfl rfl (hj) (by decide) dX0_twiceArea_34 ?_
      refine lv_aload_n hx hb dX0_twiceArea_35 rfl (lv_at hl 1 rfl) ?_
      refine x0_y S hK hP 0 rfl dX0_twiceArea_36 ?_
      refine lv_iload_n hx hb dX0_twiceArea_39 rfl (lv_at hl 3 rfl) ?_
      refine ga_ld S hK hP 2 0 rfl rfl (hi) (by decide) dX0_twiceArea_40 ?_
      refine lv_imul hx hb dX0_twiceArea_41 ?_
      refine tp_i (y := nI (X ((i + 1) % 3) * Y i)) (pk_mul _ _) ?_
      refine lv_isub hx hb dX0_twiceArea_42 ?_
      refine tp_i (y := Int32.ofInt (((X i * Y ((i + 1) % 3) : Nat) : Int) - ((X ((i + 1) % 3) * Y i : Nat) : Int))) (oi_sub _ _) ?_
      refine lv_iadd hx hb dX0_twiceArea_43 ?_
      refine tp_i (y := Int32.ofInt (gAr X Y (i + 1))) ((Int32.ofInt_add _ _).symm) ?_
      refine lv_istore_n (lv' := [(1, .int (Int32.ofInt (gAr X Y (i + 1)))), (3, .int (nI ((i + 1) % 3))), (0, .ref h0), (2, .int (nI i))]) hx hb dX0_twiceArea_44 rfl hl (by decide) rfl (fun ls hl => ?_)
      refine lv_iinc (v := nI (i + 1)) (lv' := [(2, .int (nI (i + 1))), (1, .int (Int32.ofInt (gAr X Y (i + 1)))), (3, .int (nI ((i + 1) % 3))), (0, .ref h0)]) hx hb dX0_twiceArea_45 hl (k := 3) rfl (nI_1 i) (by decide) rfl (fun ls hl => ?_)
      refine lv_goto (tgt := 4) hx hb dX0_twiceArea_48 (by decide) ?_
      exact ih (i + 1) (by omega) hi ls (lv_sub hl [3, 1, 0] rfl)
set_option maxHeartbeats 4000000 in
set_option maxRecDepth 100000 in
theorem metX0_area (l : Launch) (D : va_G) (h0 ax ay aa : Nat) (d : ClassId) (X Y : Nat → Nat) (hX : gC X) (hY : gC Y) : RoI l yX0_twiceArea cX0_twiceArea 4 .int ({ frames := 1, cells := 0, slots := 0, locals := 13 } : Room) D [.ref h0] (wX h0 ax ay aa d X Y) [(d, .int)] (fun r => r = nI (gT3 X Y).natAbs) := by
  refine RoI.of (by decide) (Nat.le_of_ble_eq_true rfl) ?_
  intro p e s m below meth c C hP hK ls hl
  have hl : lv_has ls 4 [(0, .ref h0)] := hl
  obtain ⟨S, hr, hlocks⟩ := id C
  obtain ⟨hx, hb, hml, hown, hts⟩ := id S
  refine lv_iconst (v := nI 0) hx hb dX0_twiceArea_0 (by decide) ?_
  refine lv_istore_n (lv' := [(1, .int (nI 0)), (0, .ref h0)]) hx hb dX0_twiceArea_1 rfl hl (by decide) rfl (fun ls hl => ?_)
  refine lv_iconst (v := nI 0) hx hb dX0_twiceArea_2 (by decide) ?_
  refine lv_istore_n (lv' := [(2, .int (nI 0)), (1, .int (nI 0)), (0, .ref h0)]) hx hb dX0_twiceArea_3 rfl hl (by decide) rfl (fun ls hl => ?_)
  exact lp_area hX hY C hP hK 4 0 (by decide) (by decide) ls (lv_sub hl [2, 1, 0] rfl)
set_option maxHeartbeats 4000000 in
set_option maxRecDepth 100000 in
theorem metX0_side (l : Launch) (D : va_G) (h0 ax ay aa : Nat) (d : ClassId) (X Y : Nat → Nat) (hX : gC X) (hY : gC Y) (k : Int32) : RoI l yX0_side cX0_side 2 .int ({ frames := 3, cells := 0, slots := 0, locals := 66 } : Room) D [.ref h0, .int k] (wX h0 ax ay aa d X Y) [(d, .int)] (fun r => r = nI (gS X Y (gN k) + 1)) := by
  refine RoI.of (by decide) (Nat.le_of_ble_eq_true rfl) ?_
  intro p e s m below meth c C hP hK ls hl
  have hl : lv_has ls 2 [(0, .ref h0), (1, .int k)] := hl
  obtain ⟨S, hr, hlocks⟩ := id C
  obtain ⟨hx, hb, hml, hown, hts⟩ := id S
  refine lv_aload_n hx hb dX0_side_0 rfl (lv_at hl 0 rfl) ?_
  refine lv_iload_n hx hb dX0_side_1 rfl (lv_at hl 1 rfl) ?_
  refine ro_S 1 S (metX0_number l D k) (lw_S q32 q33 q5 q34) rfl rfl (by decide +kernel) rfl ⟨Nat.le_of_ble_eq_true rfl, Nat.le_of_ble_eq_true rfl⟩ va_P.nil (hK.sub [] rfl) hl.1 rfl (Nat.le_of_ble_eq_true rfl) dX0_side_2 ⟨Nat.zero_le _, Nat.zero_le _⟩ (fun r hr => ?_)
  subst hr
  refine ro_V 1 S (metX0_steps l D h0 ax ay aa d X Y hX hY (gN k) (gN_lt k)) (lw_V q47 q49 qs0 q5 q50) rfl rfl (by decide +kernel) rfl ⟨Nat.le_of_ble_eq_true rfl, Nat.le_of_ble_eq_true rfl⟩ (va_recv hK hP (ci := 0) (q0 := 0) rfl rfl) hP hK hl.1 rfl (Nat.le_of_ble_eq_true rfl) dX0_side_5 ⟨Nat.zero_le _, Nat.zero_le _⟩ (fun r hr => ?_)
  subst hr
  refine lv_iconst (v := nI 1) hx hb dX0_side_8 (by decide) ?_
  refine lv_iadd hx hb dX0_side_9 ?_
  refine tp_i (y := nI (gS X Y (gN k) + 1)) (nI_add _ _) ?_
  exact ro_iret C dX0_side_10 rfl
set_option maxHeartbeats 4000000 in
set_option maxRecDepth 100000 in
theorem lp_edge {p : Program} {l : Launch} {e : Env} {s : State} {m : MethodId} {args : Array Value} {below : List Frame} {meth : Method} {c : Code} {D : va_G} {h0 ax ay aa : Nat} {d : ClassId} {X Y : Nat → Nat} (hX : gC X) (hY : gC Y) (C : Cx p m c cX0_edge 4 s args RX0 meth .int) (hP : va_P D vwCl (wX h0 ax ay aa d X Y) s.heap) (hK : va_K D vwCl [(d, .int)] s) : ∀ (N i : Nat), 3 - i < N → i ≤ 3 → ∀ ls : Array Slot, lv_has ls 4 [(0, .ref h0), (1, .int (nI (fb_sm (gS X Y) i))), (2, .int (nI (gMx X Y i))), (3, .int (nI i))] →
    W p l e ({ frames := 3, cells := 0, slots := 0, locals := 66 } : Room) s m args below meth c s.heap [] 0 0 (roQ below args s (fun r => r = Int32.ofInt (gE X Y 1))) (F0 m 6 ls []) := by
  obtain ⟨S, hr, hlocks⟩ := id C
  obtain ⟨hx, hb, hml, hown, hts⟩ := id S
  intro N
  induction N with
  | zero =>
    intro i h
    exact absurd h (Nat.not_lt_zero _)
  | succ N ih =>
    intro i hN hi3 ls hl
    have m1 := gMx_le hX hY i
    have m2 := gS_le hX hY i
    refine lv_iload_n hx hb dX0_edge_6 rfl (lv_at hl 3 rfl) ?_
    refine lv_iconst (v := nI 3) hx hb dX0_edge_7 (by decide) ?_
    refine lv_icmp_ge (tgt := 35) hx hb dX0_edge_8 (by decide) (fun c0 => ?_) (fun c0 => ?_)
    · have e0 : i = 3 := by
        have := (nI_leI (by decide) (by omega)).mp c0
        omega
      subst e0
      refine lv_aload_n hx hb dX0_edge_35 rfl (lv_at hl 0 rfl) ?_
      refine ro_V 0 S (metX0_area l D h0 ax ay aa d X Y hX hY) (lw_V q62 q37 q38 q5 q39) rfl rfl (by decide +kernel) rfl ⟨Nat.le_of_ble_eq_true rfl, Nat.le_of_ble_eq_true rfl⟩ (va_recv hK hP (ci := 0) (q0 := 0) rfl rfl) hP hK hl.1 rfl (Nat.le_of_ble_eq_true rfl) dX0_edge_36 ⟨Nat.zero_le _, Nat.zero_le _⟩ (fun r hr => ?_)
      subst hr
      have bd := gT3_bd hX hY
      refine lv_if_ne (tgt := 48) hx hb dX0_edge_39 (by decide) (fun c1 => ?_) (fun c1 => ?_)
      · have nz : gT3 X Y ≠ 0 := fun z => c1 (by rw [z]; rfl)
        refine lv_iload_n hx hb dX0_edge_48 rfl (lv_at hl 1 rfl) ?_
        refine ro_iret C dX0_edge_49 ?_
        rw [(gE_tri hX hY nz).1, oi_n]
      · have nz : gT3 X Y = 0 := by
          have := (nI_eq (b := 0) (by omega) (by decide)).mp c1
          omega
        refine lv_iload_n hx hb dX0_edge_42 rfl (lv_at hl 2 rfl) ?_
        refine lv_iconst (v := nI 1) hx hb dX0_edge_43 (by decide) ?_
        refine lv_iadd hx hb dX0_edge_44 ?_
        refine tp_i (y := nI (gMx X Y 3 + 1)) (nI_add _ _) ?_
        refine lv_goto (tgt := 49) hx hb dX0_edge_45 (by decide) ?_
        refine ro_iret C dX0_edge_49 ?_
        rw [(gE_flat hX hY nz).1, oi_n]
    · have hi : i < 3 := Nat.lt_of_not_le fun z => c0 (nI_le z (by omega))
      refine lv_iload_n hx hb dX0_edge_11 rfl (lv_at hl 1 rfl) ?_
      refine lv_aload_n hx hb dX0_edge_12 rfl (lv_at hl 0 rfl) ?_
      refine lv_iload_n hx hb dX0_edge_13 rfl (lv_at hl 3 rfl) ?_
      refine ro_V 1 S (metX0_steps l D h0 ax ay aa d X Y hX hY i hi) (lw_V q47 q49 qs0 q5 q50) rfl rfl (by decide +kernel) rfl ⟨Nat.le_of_ble_eq_true rfl, Nat.le_of_ble_eq_true rfl⟩ (va_recv hK hP (ci := 0) (q0 := 0) rfl rfl) hP hK hl.1 rfl (Nat.le_of_ble_eq_true rfl) dX0_edge_14 ⟨Nat.zero_le _, Nat.zero_le _⟩ (fun r hr => ?_)
      subst hr
      refine lv_iadd hx hb dX0_edge_17 ?_
      refine tp_i (y := nI (fb_sm (gS X Y) (i + 1))) (nI_add _ _) ?_
      refine lv_istore_n (lv' := [(1, .int (nI (fb_sm (gS X Y) (i + 1)))), (0, .ref h0), (2, .int (nI (gMx X Y i))), (3, .int (nI i))]) hx hb dX0_edge_18 rfl hl (by decide) rfl (fun ls hl => ?_)
      refine lv_iload_n hx hb dX0_edge_19 rfl (lv_at hl 2 rfl) ?_
      refine lv_aload_n hx hb dX0_edge_20 rfl (lv_at hl 1 rfl) ?_
      refine lv_iload_n hx hb dX0_edge_21 rfl (lv_at hl 3 rfl) ?_
      refine ro_V 1 S (metX0_steps l D h0 ax ay aa d X Y hX hY i hi) (lw_V q47 q49 qs0 q5 q50) rfl rfl (by decide +kernel) rfl ⟨Nat.le_of_ble_eq_true rfl, Nat.le_of_ble_eq_true rfl⟩ (va_recv hK hP (ci := 0) (q0 := 0) rfl rfl) hP hK hl.1 rfl (Nat.le_of_ble_eq_true rfl) dX0_edge_22 ⟨Nat.zero_le _, Nat.zero_le _⟩ (fun r hr => ?_)
      subst hr
      refine va_mmax hx hb (hml.trans hl.1.symm) hown (hts _ q59) (hts _ q60) (hts _ q7) (hts _ q61) (by decide) (by decide) (Nat.zero_le _) (Nat.zero_le _) dX0_edge_25 ?_
      refine tp_i (y := nI (gMx X Y (i + 1))) (nI_max (by omega) (by omega)) ?_
      refine lv_istore_n (lv' := [(2, .int (nI (gMx X Y (i + 1)))), (1, .int (nI (fb_sm (gS X Y) (i + 1)))), (0, .ref h0), (3, .int (nI i))]) hx hb dX0_edge_28 rfl hl (by decide) rfl (fun ls hl => ?_)
      refine lv_iinc (v := nI (i + 1)) (lv' := [(3, .int (nI (i + 1))), (2, .int (nI (gMx X Y (i + 1)))), (1, .int (nI (fb_sm (gS X Y) (i + 1)))), (0, .ref h0)]) hx hb dX0_edge_29 hl (k := 3) rfl (nI_1 i) (by decide) rfl (fun ls hl => ?_)
      refine lv_goto (tgt := 6) hx hb dX0_edge_32 (by decide) ?_
      exact ih (i + 1) (by omega) hi ls (lv_sub hl [3, 2, 1, 0] rfl)
set_option maxHeartbeats 4000000 in
set_option maxRecDepth 100000 in
theorem metX0_edge (l : Launch) (D : va_G) (h0 ax ay aa : Nat) (d : ClassId) (X Y : Nat → Nat) (hX : gC X) (hY : gC Y) : RoI l yX0_edge cX0_edge 4 .int ({ frames := 3, cells := 0, slots := 0, locals := 66 } : Room) D [.ref h0] (wX h0 ax ay aa d X Y) [(d, .int)] (fun r => r = Int32.ofInt (gE X Y 1)) := by
  refine RoI.of (by decide) (Nat.le_of_ble_eq_true rfl) ?_
  intro p e s m below meth c C hP hK ls hl
  have hl : lv_has ls 4 [(0, .ref h0)] := hl
  obtain ⟨S, hr, hlocks⟩ := id C
  obtain ⟨hx, hb, hml, hown, hts⟩ := id S
  refine lv_iconst (v := nI 0) hx hb dX0_edge_0 (by decide) ?_
  refine lv_istore_n (lv' := [(1, .int (nI 0)), (0, .ref h0)]) hx hb dX0_edge_1 rfl hl (by decide) rfl (fun ls hl => ?_)
  refine lv_iconst (v := nI 0) hx hb dX0_edge_2 (by decide) ?_
  refine lv_istore_n (lv' := [(2, .int (nI 0)), (1, .int (nI 0)), (0, .ref h0)]) hx hb dX0_edge_3 rfl hl (by decide) rfl (fun ls hl => ?_)
  refine lv_iconst (v := nI 0) hx hb dX0_edge_4 (by decide) ?_
  refine lv_istore_n (lv' := [(3, .int (nI 0)), (2, .int (nI 0)), (1, .int (nI 0)), (0, .ref h0)]) hx hb dX0_edge_5 rfl hl (by decide) rfl (fun ls hl => ?_)
  exact lp_edge hX hY C hP hK 4 0 (by decide) (by decide) ls (lv_sub hl [3, 2, 1, 0] rfl)
set_option maxHeartbeats 4000000 in
set_option maxRecDepth 100000 in
theorem metX0_inside (l : Launch) (D : va_G) (h0 ax ay aa : Nat) (d : ClassId) (X Y : Nat → Nat) (hX : gC X) (hY : gC Y) : RoI l yX0_inside cX0_inside 1 .int ({ frames := 4, cells := 0, slots := 0, locals := 89 } : Room) D [.ref h0] (wX h0 ax ay aa d X Y) [(d, .int)] (fun r => r = Int32.ofInt (gE X Y 2)) := by
  refine RoI.of (by decide) (Nat.le_of_ble_eq_true rfl) ?_
  intro p e s m below meth c C hP hK ls hl
  have hl : lv_has ls 1 [(0, .ref h0)] := hl
  obtain ⟨S, hr, hlocks⟩ := id C
  obtain ⟨hx, hb, hml, hown, hts⟩ := id S
  have bd := gT3_bd hX hY
  refine lv_aload_n hx hb dX0_inside_0 rfl (lv_at hl 0 rfl) ?_
  refine ro_V 0 S (metX0_area l D h0 ax ay aa d X Y hX hY) (lw_V q62 q37 q38 q5 q39) rfl rfl (by decide +kernel) rfl ⟨Nat.le_of_ble_eq_true rfl, Nat.le_of_ble_eq_true rfl⟩ (va_recv hK hP (ci := 0) (q0 := 0) rfl rfl) hP hK hl.1 rfl (Nat.le_of_ble_eq_true rfl) dX0_inside_1 ⟨Nat.zero_le _, Nat.zero_le _⟩ (fun r hr => ?_)
  subst hr
  refine lv_if_ne (tgt := 11) hx hb dX0_inside_4 (by decide) (fun c1 => ?_) (fun c1 => ?_)
  · have nz : gT3 X Y ≠ 0 := fun z => c1 (by rw [z]; rfl)
    refine lv_aload_n hx hb dX0_inside_11 rfl (lv_at hl 0 rfl) ?_
    refine ro_V 0 S (metX0_area l D h0 ax ay aa d X Y hX hY) (lw_V q62 q37 q38 q5 q39) rfl rfl (by decide +kernel) rfl ⟨Nat.le_of_ble_eq_true rfl, Nat.le_of_ble_eq_true rfl⟩ (va_recv hK hP (ci := 0) (q0 := 0) rfl rfl) hP hK hl.1 rfl (Nat.le_of_ble_eq_true rfl) dX0_inside_12 ⟨Nat.zero_le _, Nat.zero_le _⟩ (fun r hr => ?_)
    subst hr
    refine lv_aload_n hx hb dX0_inside_15 rfl (lv_at hl 0 rfl) ?_
    refine ro_V 0 S (metX0_edge l D h0 ax ay aa d X Y hX hY) (lw_V q67 q56 q57 q5 q58) rfl rfl (by decide +kernel) rfl ⟨Nat.le_of_ble_eq_true rfl, Nat.le_of_ble_eq_true rfl⟩ (va_recv hK hP (ci := 0) (q0 := 0) rfl rfl) hP hK hl.1 rfl (Nat.le_of_ble_eq_true rfl) dX0_inside_16 ⟨Nat.zero_le _, Nat.zero_le _⟩ (fun r hr => ?_)
    subst hr
    refine lv_isub hx hb dX0_inside_19 ?_
    refine lv_iconst (v := nI 2) hx hb dX0_inside_20 (by decide) ?_
    refine lv_iadd hx hb dX0_inside_21 ?_
    refine lv_iconst (v := nI 2) hx hb dX0_inside_22 (by decide) ?_
    refine lv_idiv hx hb dX0_inside_23 (by decide) ?_
    exact ro_iret C dX0_inside_24 (gE_in hX hY nz)
  · have nz : gT3 X Y = 0 := by
      have := (nI_eq (b := 0) (by omega) (by decide)).mp c1
      omega
    refine lv_iconst (v := nI 0) hx hb dX0_inside_7 (by decide) ?_
    refine lv_goto (tgt := 24) hx hb dX0_inside_8 (by decide) ?_
    refine ro_iret C dX0_inside_24 ?_
    rw [(gE_flat hX hY nz).2]
    rfl
end
section
/-! GridPointsModel: the turn, the place of a point, the counts -/
/-- (p, q) on side i -/
abbrev gOs (X Y : Nat → Nat) (i : Nat) (p q : Int) : Prop := gOn (X i) (Y i) (X ((i + 1) % 3)) (Y ((i + 1) % 3)) p q
theorem gI_n {z : Nat} (h : z < 32) : gIn (z : Int) := by omega
theorem gP_bd {a b z : Nat} (ha : a < 32) (hb : b < 32) (hz : z < 32) : oB (((z : Int) - a) * ((z : Int) - b)) := by
  have := oi_bd (a := (z : Int) - a) (b := (z : Int) - b) (by omega) (by omega)
  omega
theorem gside (X Y : Nat → Nat) (hX : gC X) (hY : gC Y) (i : Nat) : gg (fun p q => if gOs X Y i p q then 1 else 0) = ((gS X Y i + 1 : Nat) : Int) := by
  have h := gi_side (gC_in hX i) (gC_in hY i) (gC_in hX ((i + 1) % 3)) (gC_in hY ((i + 1) % 3))
  rw [h]
  rfl
set_option maxHeartbeats 4000000 in
set_option maxRecDepth 100000 in
theorem metX1_turn (l : Launch) (D : va_G) (h0 ax ay : Nat) (d : ClassId) (X Y : Nat → Nat) (hX : gC X) (hY : gC Y) (i j a b : Nat) (hi : i < 3) (hj : j < 3) : RoI l yX1_turn cX1_turn 5 .int ({ frames := 0, cells := 0, slots := 0, locals := 0 } : Room) D [.ref h0, .int (nI i), .int (nI j), .int (nI a), .int (nI b)] (wM h0 ax ay d X Y) [(d, .int)] (fun r => r = Int32.ofInt (gT (X i) (Y i) (X j) (Y j) a b)) := by
  refine RoI.of (by decide) (Nat.le_of_ble_eq_true rfl) ?_
  intro p e s m below meth c C hP hK ls hl
  have hl : lv_has ls 5 [(0, .ref h0), (1, .int (nI i)), (2, .int (nI j)), (3, .int (nI a)), (4, .int (nI b))] := hl
  obtain ⟨S, hr, hlocks⟩ := id C
  obtain ⟨hx, hb, hml, hown, hts⟩ := id S
  refine lv_aload_n hx hb dX1_turn_0 rfl (lv_at hl 0 rfl) ?_
  refine x1_x S hK hP 0 rfl dX1_turn_1 ?_
  refine lv_iload_n hx hb dX1_turn_4 rfl (lv_at hl 2 rfl) ?_
  refine ga_ld S hK hP 1 0 rfl rfl (hj) (by decide) dX1_turn_5 ?_
  refine lv_aload_n hx hb dX1_turn_6 rfl (lv_at hl 0 rfl) ?_
  refine x1_x S hK hP 0 rfl dX1_turn_7 ?_
  refine lv_iload_n hx hb dX1_turn_10 rfl (lv_at hl 1 rfl) ?_
  refine ga_ld S hK hP 1 0 rfl rfl (hi) (by decide) dX1_turn_11 ?_
  refine lv_isub hx hb dX1_turn_12 ?_
  refine tp_i (y := Int32.ofInt ((X j : Int) - X i)) (oi_sub _ _) ?_
  refine lv_iload hx hb dX1_turn_13 (lv_at hl 4 rfl) ?_
  refine lv_aload_n hx hb dX1_turn_15 rfl (lv_at hl 0 rfl) ?_
  refine x1_y S hK hP 0 rfl dX1_turn_16 ?_
  refine lv_iload_n hx hb dX1_turn_19 rfl (lv_at hl 1 rfl) ?_
  refine ga_ld S hK hP 2 0 rfl rfl (hi) (by decide) dX1_turn_20 ?_
  refine lv_isub hx hb dX1_turn_21 ?_
  refine tp_i (y := Int32.ofInt ((b : Int) - Y i)) (oi_sub _ _) ?_
  refine lv_imul hx hb dX1_turn_22 ?_
  refine tp_i (y := Int32.ofInt (((X j : Int) - X i) * ((b : Int) - Y i))) ((Int32.ofInt_mul _ _).symm) ?_
  refine lv_aload_n hx hb dX1_turn_23 rfl (lv_at hl 0 rfl) ?_
  refine x1_y S hK hP 0 rfl dX1_turn_24 ?_
  refine lv_iload_n hx hb dX1_turn_27 rfl (lv_at hl 2 rfl) ?_
  refine ga_ld S hK hP 2 0 rfl rfl (hj) (by decide) dX1_turn_28 ?_
  refine lv_aload_n hx hb dX1_turn_29 rfl (lv_at hl 0 rfl) ?_
  refine x1_y S hK hP 0 rfl dX1_turn_30 ?_
  refine lv_iload_n hx hb dX1_turn_33 rfl (lv_at hl 1 rfl) ?_
  refine ga_ld S hK hP 2 0 rfl rfl (hi) (by decide) dX1_turn_34 ?_
  refine lv_isub hx hb dX1_turn_35 ?_
  refine tp_i (y := Int32.ofInt ((Y j : Int) - Y i)) (oi_sub _ _) ?_
  refine lv_iload_n hx hb dX1_turn_36 rfl (lv_at hl 3 rfl) ?_
  refine lv_aload_n hx hb dX1_turn_37 rfl (lv_at hl 0 rfl) ?_
  refine x1_x S hK hP 0 rfl dX1_turn_38 ?_
  refine lv_iload_n hx hb dX1_turn_41 rfl (lv_at hl 1 rfl) ?_
  refine ga_ld S hK hP 1 0 rfl rfl (hi) (by decide) dX1_turn_42 ?_
  refine lv_isub hx hb dX1_turn_43 ?_
  refine tp_i (y := Int32.ofInt ((a : Int) - X i)) (oi_sub _ _) ?_
  refine lv_imul hx hb dX1_turn_44 ?_
  refine tp_i (y := Int32.ofInt (((Y j : Int) - Y i) * ((a : Int) - X i))) ((Int32.ofInt_mul _ _).symm) ?_
  refine lv_isub hx hb dX1_turn_45 ?_
  refine ro_iret C dX1_turn_46 ?_
  exact (Int32.ofInt_sub _ _).symm
set_option maxHeartbeats 4000000 in
set_option maxRecDepth 100000 in
theorem lp_kind {p : Program} {l : Launch} {e : Env} {R : Room} {s : State} {m : MethodId} {args : Array Value} {below : List Frame} {meth : Method} {c : Code} {a b k : Int} (ha : oB a) (hb1 : oB b) (hk1 : oB k) (C : Cx p m c cX1_place 9 s args RX1 meth .int) (ls : Array Slot) (hl : lv_has ls 9 [(4, .int (Int32.ofInt a)), (5, .int (Int32.ofInt b)), (6, .int (Int32.ofInt k))]) :
    W p l e R s m args below meth c s.heap [] 0 0 (roQ below args s (fun r => r = nI (gK a b k))) (F0 m 72 ls []) := by
  obtain ⟨S, hr, hlocks⟩ := id C
  obtain ⟨hx, hb, hml, hown, hts⟩ := id S
  have z0 : (a < 0 ∨ b < 0 ∨ k < 0) → W p l e R s m args below meth c s.heap [] 0 0 (roQ below args s (fun r => r = nI (gK a b k))) (F0 m 87 ls []) := by
    intro h
    refine lv_iconst (v := nI 0) hx hb dX1_place_87 (by decide) ?_
    refine lv_goto (tgt := 111) hx hb dX1_place_88 (by decide) ?_
    refine ro_iret C dX1_place_111 ?_
    unfold gK
    rw [if_pos h]
  have z1 : ¬ (a < 0 ∨ b < 0 ∨ k < 0) → ¬ (0 < a ∧ 0 < b ∧ 0 < k) → W p l e R s m args below meth c s.heap [] 0 0 (roQ below args s (fun r => r = nI (gK a b k))) (F0 m 110 ls []) := by
    intro h h2
    refine lv_iconst (v := nI 1) hx hb dX1_place_110 (by decide) ?_
    refine ro_iret C dX1_place_111 ?_
    unfold gK
    rw [if_neg h, if_neg h2]
  refine lv_iload hx hb dX1_place_72 (lv_at hl 0 rfl) ?_
  refine lv_if_lt (tgt := 87) hx hb dX1_place_74 (by decide) (fun c1 => z0 (Or.inl ((oz_lt ha).mp c1))) (fun c1 => ?_)
  refine lv_iload hx hb dX1_place_77 (lv_at hl 1 rfl) ?_
  refine lv_if_lt (tgt := 87) hx hb dX1_place_79 (by decide) (fun c2 => z0 (Or.inr (Or.inl ((oz_lt hb1).mp c2)))) (fun c2 => ?_)
  refine lv_iload hx hb dX1_place_82 (lv_at hl 2 rfl) ?_
  refine lv_if_ge (tgt := 91) hx hb dX1_place_84 (by decide) (fun c3 => ?_) (fun c3 => z0 (Or.inr (Or.inr (Int.not_le.mp (fun z => c3 ((oz_ge hk1).mpr z))))))
  have n1 : ¬ a < 0 := fun z => c1 ((oz_lt ha).mpr z)
  have n2 : ¬ b < 0 := fun z => c2 ((oz_lt hb1).mpr z)
  have n3 : 0 ≤ k := (oz_ge hk1).mp c3
  have nn : ¬ (a < 0 ∨ b < 0 ∨ k < 0) := by omega
  refine lv_iload hx hb dX1_place_91 (lv_at hl 0 rfl) ?_
  refine lv_if_le (tgt := 110) hx hb dX1_place_93 (by decide) (fun c4 => z1 nn (by have := (oz_le ha).mp c4; omega)) (fun c4 => ?_)
  refine lv_iload hx hb dX1_place_96 (lv_at hl 1 rfl) ?_
  refine lv_if_le (tgt := 110) hx hb dX1_place_98 (by decide) (fun c5 => z1 nn (by have := (oz_le hb1).mp c5; omega)) (fun c5 => ?_)
  refine lv_iload hx hb dX1_place_101 (lv_at hl 2 rfl) ?_
  refine lv_if_le (tgt := 110) hx hb dX1_place_103 (by decide) (fun c6 => z1 nn (by have := (oz_le hk1).mp c6; omega)) (fun c6 => ?_)
  have p1 : 0 < a := Int.not_le.mp fun z => c4 ((oz_le ha).mpr z)
  have p2 : 0 < b := Int.not_le.mp fun z => c5 ((oz_le hb1).mpr z)
  have p3 : 0 < k := Int.not_le.mp fun z => c6 ((oz_le hk1).mpr z)
  refine lv_iconst (v := nI 2) hx hb dX1_place_106 (by decide) ?_
  refine lv_goto (tgt := 111) hx hb dX1_place_107 (by decide) ?_
  refine ro_iret C dX1_place_111 ?_
  unfold gK
  rw [if_neg nn, if_pos ⟨p1, p2, p3⟩]
set_option maxHeartbeats 4000000 in
set_option maxRecDepth 100000 in
theorem lp_flat {p : Program} {l : Launch} {e : Env} {s : State} {m : MethodId} {args : Array Value} {below : List Frame} {meth : Method} {c : Code} {D : va_G} {h0 ax ay : Nat} {d : ClassId} {X Y : Nat → Nat} (hX : gC X) (hY : gC Y) {a b : Nat} (ha : a < 32) (hbb : b < 32) (C : Cx p m c cX1_place 9 s args RX1 meth .int) (hP : va_P D vwCl (wM h0 ax ay d X Y) s.heap) (hK : va_K D vwCl [(d, .int)] s) : ∀ (N i : Nat), 3 - i < N → i ≤ 3 → (∀ k, k < i → ¬ gOs X Y k a b) → ∀ ls : Array Slot, lv_has ls 9 [(0, .ref h0), (1, .int (nI a)), (2, .int (nI b)), (7, .int (nI i))] →
    W p l e ({ frames := 1, cells := 0, slots := 0, locals := 24 } : Room) s m args below meth c s.heap [] 0 0 (roQ below args s (fun r => r = nI (if gOs X Y 0 a b ∨ gOs X Y 1 a b ∨ gOs X Y 2 a b then 1 else 0))) (F0 m 115 ls []) := by
  obtain ⟨S, hr, hlocks⟩ := id C
  obtain ⟨hx, hb, hml, hown, hts⟩ := id S
  intro N
  induction N with
  | zero =>
    intro i h
    exact absurd h (Nat.not_lt_zero _)
  | succ N ih =>
    intro i hN hi3 hno ls hl
    have hj : (i + 1) % 3 < 3 := Nat.mod_lt _ (by decide)
    refine lv_iload hx hb dX1_place_115 (lv_at hl 3 rfl) ?_
    refine lv_iconst (v := nI 3) hx hb dX1_place_117 (by decide) ?_
    refine lv_icmp_ge (tgt := 194) hx hb dX1_place_118 (by decide) (fun c0 => ?_) (fun c0 => ?_)
    · have e0 : i = 3 := by
        have := (nI_leI (by decide) (by omega)).mp c0
        omega
      subst e0
      refine lv_iconst (v := nI 0) hx hb dX1_place_194 (by decide) ?_
      refine ro_iret C dX1_place_195 ?_
      rw [if_neg (fun z => by rcases z with z | z | z; exact hno 0 (by decide) z; exact hno 1 (by decide) z; exact hno 2 (by decide) z)]
    · have hi : i < 3 := Nat.lt_of_not_le fun z => c0 (nI_le z (by omega))
      refine lv_iload hx hb dX1_place_121 (lv_at hl 3 rfl) ?_
      refine lv_iconst (v := nI 1) hx hb dX1_place_123 (by decide) ?_
      refine lv_iadd hx hb dX1_place_124 ?_
      refine tp_i (y := nI (i + 1)) (nI_add _ _) ?_
      refine lv_iconst (v := nI 3) hx hb dX1_place_125 (by decide) ?_
      refine lv_irem hx hb dX1_place_126 (by decide) ?_
      refine tp_i (y := nI ((i + 1) % 3)) (pk_rem (by omega) (by decide) (by decide)) ?_
      refine lv_istore (lv' := [(8, .int (nI ((i + 1) % 3))), (0, .ref h0), (1, .int (nI a)), (2, .int (nI b)), (7, .int (nI i))]) hx hb dX1_place_127 hl (by decide) rfl (fun ls hl => ?_)
      have cont : ¬ gOs X Y i a b → W p l e ({ frames := 1, cells := 0, slots := 0, locals := 24 } : Room) s m args below meth c s.heap [] 0 0 (roQ below args s (fun r => r = nI (if gOs X Y 0 a b ∨ gOs X Y 1 a b ∨ gOs X Y 2 a b then 1 else 0))) (F0 m 188 ls []) := by
        intro hn
        refine lv_iinc (v := nI (i + 1)) (lv' := [(7, .int (nI (i + 1))), (8, .int (nI ((i + 1) % 3))), (0, .ref h0), (1, .int (nI a)), (2, .int (nI b))]) hx hb dX1_place_188 hl (k := 4) rfl (nI_1 i) (by decide) rfl (fun ls hl => ?_)
        refine lv_goto (tgt := 115) hx hb dX1_place_191 (by decide) ?_
        exact ih (i + 1) (by omega) hi (fun k hk => by rcases Nat.lt_or_ge k i with z | z; exact hno k z; exact (show k = i by omega) ▸ hn) ls (lv_sub hl [2, 3, 4, 0] rfl)
      refine lv_aload_n hx hb dX1_place_129 rfl (lv_at hl 1 rfl) ?_
      refine lv_iload hx hb dX1_place_130 (lv_at hl 4 rfl) ?_
      refine lv_iload hx hb dX1_place_132 (lv_at hl 0 rfl) ?_
      refine lv_iload_n hx hb dX1_place_134 rfl (lv_at hl 2 rfl) ?_
      refine lv_iload_n hx hb dX1_place_135 rfl (lv_at hl 3 rfl) ?_
      refine ro_V 4 S (metX1_turn l D h0 ax ay d X Y hX hY i ((i + 1) % 3) a b hi hj) (lw_V q110 q112 qs3 q6 q113) rfl rfl (by decide +kernel) rfl ⟨Nat.le_of_ble_eq_true rfl, Nat.le_of_ble_eq_true rfl⟩ (va_recv hK hP (ci := 1) (q0 := 0) rfl rfl) hP hK hl.1 rfl (Nat.le_of_ble_eq_true rfl) dX1_place_136 ⟨Nat.zero_le _, Nat.zero_le _⟩ (fun r hr => ?_)
      subst hr
      have tb := gT_bd (gC_in hX i) (gC_in hY i) (gC_in hX ((i + 1) % 3)) (gC_in hY ((i + 1) % 3)) (gI_n ha) (gI_n hbb)
      refine lv_if_ne (tgt := 188) hx hb dX1_place_139 (by decide) (fun c1 => cont (fun z => c1 ((oz_eq (by omega)).mpr z.1))) (fun c1 => ?_)
      refine lv_iload_n hx hb dX1_place_142 rfl (lv_at hl 2 rfl) ?_
      refine lv_aload_n hx hb dX1_place_143 rfl (lv_at hl 1 rfl) ?_
      refine x1_x S hK hP 0 rfl dX1_place_144 ?_
      refine lv_iload hx hb dX1_place_147 (lv_at hl 4 rfl) ?_
      refine ga_ld S hK hP 1 0 rfl rfl (hi) (by decide) dX1_place_149 ?_
      refine lv_isub hx hb dX1_place_150 ?_
      refine tp_i (y := Int32.ofInt ((a : Int) - X i)) (oi_sub _ _) ?_
      refine lv_iload_n hx hb dX1_place_151 rfl (lv_at hl 2 rfl) ?_
      refine lv_aload_n hx hb dX1_place_152 rfl (lv_at hl 1 rfl) ?_
      refine x1_x S hK hP 0 rfl dX1_place_153 ?_
      refine lv_iload hx hb dX1_place_156 (lv_at hl 0 rfl) ?_
      refine ga_ld S hK hP 1 0 rfl rfl (hj) (by decide) dX1_place_158 ?_
      refine lv_isub hx hb dX1_place_159 ?_
      refine tp_i (y := Int32.ofInt ((a : Int) - X ((i + 1) % 3))) (oi_sub _ _) ?_
      refine lv_imul hx hb dX1_place_160 ?_
      refine tp_i (y := Int32.ofInt (((a : Int) - X i) * ((a : Int) - X ((i + 1) % 3)))) ((Int32.ofInt_mul _ _).symm) ?_
      have xb := gP_bd (hX i) (hX ((i + 1) % 3)) ha
      refine lv_if_gt (tgt := 188) hx hb dX1_place_161 (by decide) (fun c2 => cont (fun z => by have := (oz_gt xb).mp c2; have := z.2.1; omega)) (fun c2 => ?_)
      refine lv_iload_n hx hb dX1_place_164 rfl (lv_at hl 3 rfl) ?_
      refine lv_aload_n hx hb dX1_place_165 rfl (lv_at hl 1 rfl) ?_
      refine x1_y S hK hP 0 rfl dX1_place_166 ?_
      refine lv_iload hx hb dX1_place_169 (lv_at hl 4 rfl) ?_
      refine ga_ld S hK hP 2 0 rfl rfl (hi) (by decide) dX1_place_171 ?_
      refine lv_isub hx hb dX1_place_172 ?_
      refine tp_i (y := Int32.ofInt ((b : Int) - Y i)) (oi_sub _ _) ?_
      refine lv_iload_n hx hb dX1_place_173 rfl (lv_at hl 3 rfl) ?_
      refine lv_aload_n hx hb dX1_place_174 rfl (lv_at hl 1 rfl) ?_
      refine x1_y S hK hP 0 rfl dX1_place_175 ?_
      refine lv_iload hx hb dX1_place_178 (lv_at hl 0 rfl) ?_
      refine ga_ld S hK hP 2 0 rfl rfl (hj) (by decide) dX1_place_180 ?_
      refine lv_isub hx hb dX1_place_181 ?_
      refine tp_i (y := Int32.ofInt ((b : Int) - Y ((i + 1) % 3))) (oi_sub _ _) ?_
      refine lv_imul hx hb dX1_place_182 ?_
      refine tp_i (y := Int32.ofInt (((b : Int) - Y i) * ((b : Int) - Y ((i + 1) % 3)))) ((Int32.ofInt_mul _ _).symm) ?_
      have yb := gP_bd (hY i) (hY ((i + 1) % 3)) hbb
      refine lv_if_gt (tgt := 188) hx hb dX1_place_183 (by decide) (fun c3 => cont (fun z => by have := (oz_gt yb).mp c3; have := z.2.2; omega)) (fun c3 => ?_)
      have on : gOs X Y i a b := ⟨(oz_eq (by omega)).mp c1, Int.not_lt.mp (fun z => c2 ((oz_gt xb).mpr z)), Int.not_lt.mp (fun z => c3 ((oz_gt yb).mpr z))⟩
      refine lv_iconst (v := nI 1) hx hb dX1_place_186 (by decide) ?_
      refine ro_iret C dX1_place_187 ?_
      rw [if_pos]
      rcases (show i = 0 ∨ i = 1 ∨ i = 2 by omega) with z | z | z
      · exact Or.inl (z ▸ on)
      · exact Or.inr (Or.inl (z ▸ on))
      · exact Or.inr (Or.inr (z ▸ on))
set_option maxHeartbeats 4000000 in
set_option maxRecDepth 100000 in
theorem metX1_place (l : Launch) (D : va_G) (h0 ax ay : Nat) (d : ClassId) (X Y : Nat → Nat) (hX : gC X) (hY : gC Y) (a b : Nat) (ha : a < 32) (hbb : b < 32) : RoI l yX1_place cX1_place 9 .int ({ frames := 1, cells := 0, slots := 0, locals := 24 } : Room) D [.ref h0, .int (nI a), .int (nI b)] (wM h0 ax ay d X Y) [(d, .int)] (fun r => r = nI (gPl (X 0) (Y 0) (X 1) (Y 1) (X 2) (Y 2) a b)) := by
  refine RoI.of (by decide) (Nat.le_of_ble_eq_true rfl) ?_
  intro p e s m below meth c C hP hK ls hl
  have hl : lv_has ls 9 [(0, .ref h0), (1, .int (nI a)), (2, .int (nI b))] := hl
  obtain ⟨S, hr, hlocks⟩ := id C
  obtain ⟨hx, hb, hml, hown, hts⟩ := id S
  refine lv_aload_n hx hb dX1_place_0 rfl (lv_at hl 0 rfl) ?_
  refine lv_iconst (v := nI 0) hx hb dX1_place_1 (by decide) ?_
  refine lv_iconst (v := nI 1) hx hb dX1_place_2 (by decide) ?_
  refine lv_aload_n hx hb dX1_place_3 rfl (lv_at hl 0 rfl) ?_
  refine x1_x S hK hP 0 rfl dX1_place_4 ?_
  refine lv_iconst (v := nI 2) hx hb dX1_place_7 (by decide) ?_
  refine ga_ld S hK hP 1 0 rfl rfl (by decide) (by decide) dX1_place_8 ?_
  refine lv_aload_n hx hb dX1_place_9 rfl (lv_at hl 0 rfl) ?_
  refine x1_y S hK hP 0 rfl dX1_place_10 ?_
  refine lv_iconst (v := nI 2) hx hb dX1_place_13 (by decide) ?_
  refine ga_ld S hK hP 2 0 rfl rfl (by decide) (by decide) dX1_place_14 ?_
  refine ro_V 4 S (metX1_turn l D h0 ax ay d X Y hX hY 0 1 (X 2) (Y 2) (by decide) (by decide)) (lw_V q110 q112 qs3 q6 q113) rfl rfl (by decide +kernel) rfl ⟨Nat.le_of_ble_eq_true rfl, Nat.le_of_ble_eq_true rfl⟩ (va_recv hK hP (ci := 1) (q0 := 0) rfl rfl) hP hK hl.1 rfl (Nat.le_of_ble_eq_true rfl) dX1_place_15 ⟨Nat.zero_le _, Nat.zero_le _⟩ (fun r hr => ?_)
  subst hr
  refine tp_i (y := Int32.ofInt (gT3 X Y)) (rfl) ?_
  refine lv_istore_n (lv' := [(3, .int (Int32.ofInt (gT3 X Y))), (0, .ref h0), (1, .int (nI a)), (2, .int (nI b))]) hx hb dX1_place_18 rfl hl (by decide) rfl (fun ls hl => ?_)
  refine lv_aload_n hx hb dX1_place_19 rfl (lv_at hl 1 rfl) ?_
  refine lv_iconst (v := nI 0) hx hb dX1_place_20 (by decide) ?_
  refine lv_iconst (v := nI 1) hx hb dX1_place_21 (by decide) ?_
  refine lv_iload_n hx hb dX1_place_22 rfl (lv_at hl 2 rfl) ?_
  refine lv_iload_n hx hb dX1_place_23 rfl (lv_at hl 3 rfl) ?_
  refine ro_V 4 S (metX1_turn l D h0 ax ay d X Y hX hY 0 1 a b (by decide) (by decide)) (lw_V q110 q112 qs3 q6 q113) rfl rfl (by decide +kernel) rfl ⟨Nat.le_of_ble_eq_true rfl, Nat.le_of_ble_eq_true rfl⟩ (va_recv hK hP (ci := 1) (q0 := 0) rfl rfl) hP hK hl.1 rfl (Nat.le_of_ble_eq_true rfl) dX1_place_24 ⟨Nat.zero_le _, Nat.zero_le _⟩ (fun r hr => ?_)
  subst hr
  refine lv_istore (lv' := [(4, .int (Int32.ofInt (gT (X 0) (Y 0) (X 1) (Y 1) a b))), (3, .int (Int32.ofInt (gT3 X Y))), (0, .ref h0), (1, .int (nI a)), (2, .int (nI b))]) hx hb dX1_place_27 hl (by decide) rfl (fun ls hl => ?_)
  refine lv_aload_n hx hb dX1_place_29 rfl (lv_at hl 2 rfl) ?_
  refine lv_iconst (v := nI 1) hx hb dX1_place_30 (by decide) ?_
  refine lv_iconst (v := nI 2) hx hb dX1_place_31 (by decide) ?_
  refine lv_iload_n hx hb dX1_place_32 rfl (lv_at hl 3 rfl) ?_
  refine lv_iload_n hx hb dX1_place_33 rfl (lv_at hl 4 rfl) ?_
  refine ro_V 4 S (metX1_turn l D h0 ax ay d X Y hX hY 1 2 a b (by decide) (by decide)) (lw_V q110 q112 qs3 q6 q113) rfl rfl (by decide +kernel) rfl ⟨Nat.le_of_ble_eq_true rfl, Nat.le_of_ble_eq_true rfl⟩ (va_recv hK hP (ci := 1) (q0 := 0) rfl rfl) hP hK hl.1 rfl (Nat.le_of_ble_eq_true rfl) dX1_place_34 ⟨Nat.zero_le _, Nat.zero_le _⟩ (fun r hr => ?_)
  subst hr
  refine lv_istore (lv' := [(5, .int (Int32.ofInt (gT (X 1) (Y 1) (X 2) (Y 2) a b))), (4, .int (Int32.ofInt (gT (X 0) (Y 0) (X 1) (Y 1) a b))), (3, .int (Int32.ofInt (gT3 X Y))), (0, .ref h0), (1, .int (nI a)), (2, .int (nI b))]) hx hb dX1_place_37 hl (by decide) rfl (fun ls hl => ?_)
  refine lv_aload_n hx hb dX1_place_39 rfl (lv_at hl 3 rfl) ?_
  refine lv_iconst (v := nI 2) hx hb dX1_place_40 (by decide) ?_
  refine lv_iconst (v := nI 0) hx hb dX1_place_41 (by decide) ?_
  refine lv_iload_n hx hb dX1_place_42 rfl (lv_at hl 4 rfl) ?_
  refine lv_iload_n hx hb dX1_place_43 rfl (lv_at hl 5 rfl) ?_
  refine ro_V 4 S (metX1_turn l D h0 ax ay d X Y hX hY 2 0 a b (by decide) (by decide)) (lw_V q110 q112 qs3 q6 q113) rfl rfl (by decide +kernel) rfl ⟨Nat.le_of_ble_eq_true rfl, Nat.le_of_ble_eq_true rfl⟩ (va_recv hK hP (ci := 1) (q0 := 0) rfl rfl) hP hK hl.1 rfl (Nat.le_of_ble_eq_true rfl) dX1_place_44 ⟨Nat.zero_le _, Nat.zero_le _⟩ (fun r hr => ?_)
  subst hr
  refine lv_istore (lv' := [(6, .int (Int32.ofInt (gT (X 2) (Y 2) (X 0) (Y 0) a b))), (5, .int (Int32.ofInt (gT (X 1) (Y 1) (X 2) (Y 2) a b))), (4, .int (Int32.ofInt (gT (X 0) (Y 0) (X 1) (Y 1) a b))), (3, .int (Int32.ofInt (gT3 X Y))), (0, .ref h0), (1, .int (nI a)), (2, .int (nI b))]) hx hb dX1_place_47 hl (by decide) rfl (fun ls hl => ?_)
  have bd := gT3_bd hX hY
  have t0 := gT_bd (gC_in hX 0) (gC_in hY 0) (gC_in hX 1) (gC_in hY 1) (gI_n ha) (gI_n hbb)
  have t1 := gT_bd (gC_in hX 1) (gC_in hY 1) (gC_in hX 2) (gC_in hY 2) (gI_n ha) (gI_n hbb)
  have t2 := gT_bd (gC_in hX 2) (gC_in hY 2) (gC_in hX 0) (gC_in hY 0) (gI_n ha) (gI_n hbb)
  refine lv_iload_n hx hb dX1_place_49 rfl (lv_at hl 3 rfl) ?_
  refine lv_if_ge (tgt := 68) hx hb dX1_place_50 (by decide) (fun c0 => ?_) (fun c0 => ?_)
  · have s0 : 0 ≤ gT3 X Y := (oz_ge bd).mp c0
    refine lv_iload_n hx hb dX1_place_68 rfl (lv_at hl 3 rfl) ?_
    refine lv_if_eq (tgt := 112) hx hb dX1_place_69 (by decide) (fun c1 => ?_) (fun c1 => ?_)
    · have s1 : gT3 X Y = 0 := (oz_eq bd).mp c1
      refine lv_iconst (v := nI 0) hx hb dX1_place_112 (by decide) ?_
      refine lv_istore (lv' := [(7, .int (nI 0)), (6, .int (Int32.ofInt (gT (X 2) (Y 2) (X 0) (Y 0) a b))), (5, .int (Int32.ofInt (gT (X 1) (Y 1) (X 2) (Y 2) a b))), (4, .int (Int32.ofInt (gT (X 0) (Y 0) (X 1) (Y 1) a b))), (3, .int (Int32.ofInt (gT3 X Y))), (0, .ref h0), (1, .int (nI a)), (2, .int (nI b))]) hx hb dX1_place_113 hl (by decide) rfl (fun ls hl => ?_)
      have e : gPl (X 0) (Y 0) (X 1) (Y 1) (X 2) (Y 2) a b = (if gOs X Y 0 a b ∨ gOs X Y 1 a b ∨ gOs X Y 2 a b then 1 else 0) := by
        unfold gPl
        unfold gT3 at s1
        rw [if_neg (by omega), if_pos s1]
      rw [e]
      exact lp_flat hX hY ha hbb C hP hK 4 0 (by decide) (by decide) (fun k hk => absurd hk (Nat.not_lt_zero k)) ls (lv_sub hl [5, 6, 7, 0] rfl)
    · have s1 : ¬ gT3 X Y = 0 := fun z => c1 ((oz_eq bd).mpr z)
      have e : gPl (X 0) (Y 0) (X 1) (Y 1) (X 2) (Y 2) a b = gK (gT (X 0) (Y 0) (X 1) (Y 1) a b) (gT (X 1) (Y 1) (X 2) (Y 2) a b) (gT (X 2) (Y 2) (X 0) (Y 0) a b) := by
        unfold gPl
        unfold gT3 at s0 s1
        rw [if_neg (by omega), if_neg s1]
      rw [e]
      exact lp_kind (by omega) (by omega) (by omega) C ls (lv_sub hl [2, 1, 0] rfl)
  · have s0 : gT3 X Y < 0 := Int.not_le.mp fun z => c0 ((oz_ge bd).mpr z)
    refine lv_iload hx hb dX1_place_53 (lv_at hl 2 rfl) ?_
    refine lv_ineg hx hb dX1_place_55 ?_
    refine tp_i (y := Int32.ofInt (-gT (X 0) (Y 0) (X 1) (Y 1) a b)) ((Int32.ofInt_neg _).symm) ?_
    refine lv_istore (lv' := [(4, .int (Int32.ofInt (-gT (X 0) (Y 0) (X 1) (Y 1) a b))), (6, .int (Int32.ofInt (gT (X 2) (Y 2) (X 0) (Y 0) a b))), (5, .int (Int32.ofInt (gT (X 1) (Y 1) (X 2) (Y 2) a b))), (3, .int (Int32.ofInt (gT3 X Y))), (0, .ref h0), (1, .int (nI a)), (2, .int (nI b))]) hx hb dX1_place_56 hl (by decide) rfl (fun ls hl => ?_)
    refine lv_iload hx hb dX1_place_58 (lv_at hl 2 rfl) ?_
    refine lv_ineg hx hb dX1_place_60 ?_
    refine tp_i (y := Int32.ofInt (-gT (X 1) (Y 1) (X 2) (Y 2) a b)) ((Int32.ofInt_neg _).symm) ?_
    refine lv_istore (lv' := [(5, .int (Int32.ofInt (-gT (X 1) (Y 1) (X 2) (Y 2) a b))), (4, .int (Int32.ofInt (-gT (X 0) (Y 0) (X 1) (Y 1) a b))), (6, .int (Int32.ofInt (gT (X 2) (Y 2) (X 0) (Y 0) a b))), (3, .int (Int32.ofInt (gT3 X Y))), (0, .ref h0), (1, .int (nI a)), (2, .int (nI b))]) hx hb dX1_place_61 hl (by decide) rfl (fun ls hl => ?_)
    refine lv_iload hx hb dX1_place_63 (lv_at hl 2 rfl) ?_
    refine lv_ineg hx hb dX1_place_65 ?_
    refine tp_i (y := Int32.ofInt (-gT (X 2) (Y 2) (X 0) (Y 0) a b)) ((Int32.ofInt_neg _).symm) ?_
    refine lv_istore (lv' := [(6, .int (Int32.ofInt (-gT (X 2) (Y 2) (X 0) (Y 0) a b))), (5, .int (Int32.ofInt (-gT (X 1) (Y 1) (X 2) (Y 2) a b))), (4, .int (Int32.ofInt (-gT (X 0) (Y 0) (X 1) (Y 1) a b))), (3, .int (Int32.ofInt (gT3 X Y))), (0, .ref h0), (1, .int (nI a)), (2, .int (nI b))]) hx hb dX1_place_66 hl (by decide) rfl (fun ls hl => ?_)
    refine lv_iload_n hx hb dX1_place_68 rfl (lv_at hl 3 rfl) ?_
    refine lv_if_eq (tgt := 112) hx hb dX1_place_69 (by decide) (fun c1 => absurd ((oz_eq bd).mp c1) (by omega)) (fun c1 => ?_)
    have e : gPl (X 0) (Y 0) (X 1) (Y 1) (X 2) (Y 2) a b = gK (-gT (X 0) (Y 0) (X 1) (Y 1) a b) (-gT (X 1) (Y 1) (X 2) (Y 2) a b) (-gT (X 2) (Y 2) (X 0) (Y 0) a b) := by
      unfold gPl
      unfold gT3 at s0
      rw [if_pos s0]
    rw [e]
    exact lp_kind (by omega) (by omega) (by omega) C ls (lv_sub hl [2, 1, 0] rfl)
theorem gPl_lt (x0 y0 x1 y1 x2 y2 p q : Int) : gPl x0 y0 x1 y1 x2 y2 p q < 3 := by
  unfold gPl gK
  repeat' split
  all_goals decide
set_option maxHeartbeats 4000000 in
set_option maxRecDepth 100000 in
theorem lp_row {p : Program} {l : Launch} {e : Env} {s : State} {m : MethodId} {args : Array Value} {below : List Frame} {meth : Method} {c : Code} {D : va_G} {h0 ax ay : Nat} {d : ClassId} {X Y : Nat → Nat} (hX : gC X) (hY : gC Y) {kd a : Nat} (hkd : kd < 3) (ha : a < 32) (A : Int) (C : Cx p m c cX1_count 5 s args RX1 meth .int) (hP : va_P D vwCl (wM h0 ax ay d X Y) s.heap) (hK : va_K D vwCl [(d, .int)] s)
    (kk : ∀ ls : Array Slot, lv_has ls 5 [(0, .ref h0), (1, .int (nI kd)), (2, .int (Int32.ofInt (A + fb_si (fun q : Nat => if gPl (X 0) (Y 0) (X 1) (Y 1) (X 2) (Y 2) a q = kd then 1 else 0) 32))), (3, .int (nI a))] → W p l e ({ frames := 2, cells := 0, slots := 0, locals := 52 } : Room) s m args below meth c s.heap [] 0 0 (roQ below args s (fun r => r = Int32.ofInt (gE X Y kd))) (F0 m 41 ls [])) : ∀ (N b : Nat), 32 - b < N → b ≤ 32 → ∀ ls : Array Slot, lv_has ls 5 [(0, .ref h0), (1, .int (nI kd)), (2, .int (Int32.ofInt (A + fb_si (fun q : Nat => if gPl (X 0) (Y 0) (X 1) (Y 1) (X 2) (Y 2) a q = kd then 1 else 0) b))), (3, .int (nI a)), (4, .int (nI b))] →
    W p l e ({ frames := 2, cells := 0, slots := 0, locals := 52 } : Room) s m args below meth c s.heap [] 0 0 (roQ below args s (fun r => r = Int32.ofInt (gE X Y kd))) (F0 m 13 ls []) := by
  obtain ⟨S, hr, hlocks⟩ := id C
  obtain ⟨hx, hb, hml, hown, hts⟩ := id S
  intro N
  induction N with
  | zero =>
    intro b h
    exact absurd h (Nat.not_lt_zero _)
  | succ N ih =>
    intro b hN hb32 ls hl
    refine lv_iload hx hb dX1_count_13 (lv_at hl 4 rfl) ?_
    refine lv_bipush (v := nI 32) hx hb dX1_count_15 (by decide) ?_
    refine lv_icmp_ge (tgt := 41) hx hb dX1_count_17 (by decide) (fun c0 => ?_) (fun c0 => ?_)
    · have e0 : b = 32 := by
        have := (nI_leI (by decide) (by omega)).mp c0
        omega
      subst e0
      exact kk ls (lv_sub hl [0, 1, 2, 3] rfl)
    · have hbb : b < 32 := Nat.lt_of_not_le fun z => c0 (nI_le z (by omega))
      refine lv_aload_n hx hb dX1_count_20 rfl (lv_at hl 0 rfl) ?_
      refine lv_iload_n hx hb dX1_count_21 rfl (lv_at hl 3 rfl) ?_
      refine lv_iload hx hb dX1_count_22 (lv_at hl 4 rfl) ?_
      refine ro_V 2 S (metX1_place l D h0 ax ay d X Y hX hY a b ha hbb) (lw_V q106 q108 qs2 q6 q109) rfl rfl (by decide +kernel) rfl ⟨Nat.le_of_ble_eq_true rfl, Nat.le_of_ble_eq_true rfl⟩ (va_recv hK hP (ci := 1) (q0 := 0) rfl rfl) hP hK hl.1 rfl (Nat.le_of_ble_eq_true rfl) dX1_count_24 ⟨Nat.zero_le _, Nat.zero_le _⟩ (fun r hr => ?_)
      subst hr
      have pl := gPl_lt (X 0) (Y 0) (X 1) (Y 1) (X 2) (Y 2) a b
      refine lv_iload_n hx hb dX1_count_27 rfl (lv_at hl 1 rfl) ?_
      refine lv_icmp_ne (tgt := 35) hx hb dX1_count_28 (by decide) (fun c1 => ?_) (fun c1 => ?_)
      · have e1 : A + fb_si (fun q : Nat => if gPl (X 0) (Y 0) (X 1) (Y 1) (X 2) (Y 2) a q = kd then 1 else 0) b + 0 = A + fb_si (fun q : Nat => if gPl (X 0) (Y 0) (X 1) (Y 1) (X 2) (Y 2) a q = kd then 1 else 0) (b + 1) := by
          rw [fb_si_succ, if_neg (fun z => c1 (by rw [z])), Int.add_assoc]
        rw [Int.add_zero] at e1
        rw [e1] at hl
        refine lv_iinc (v := nI (b + 1)) (lv' := [(4, .int (nI (b + 1))), (0, .ref h0), (1, .int (nI kd)), (2, .int (Int32.ofInt (A + fb_si (fun q : Nat => if gPl (X 0) (Y 0) (X 1) (Y 1) (X 2) (Y 2) a q = kd then 1 else 0) (b + 1)))), (3, .int (nI a))]) hx hb dX1_count_35 hl (k := 4) rfl (nI_1 b) (by decide) rfl (fun ls hl => ?_)
        refine lv_goto (tgt := 13) hx hb dX1_count_38 (by decide) ?_
        exact ih (b + 1) (by omega) hbb ls (lv_sub hl [1, 2, 3, 4, 0] rfl)
      · have e1 : A + fb_si (fun q : Nat => if gPl (X 0) (Y 0) (X 1) (Y 1) (X 2) (Y 2) a q = kd then 1 else 0) b + 1 = A + fb_si (fun q : Nat => if gPl (X 0) (Y 0) (X 1) (Y 1) (X 2) (Y 2) a q = kd then 1 else 0) (b + 1) := by
          rw [fb_si_succ, if_pos ((nI_eq (by omega) (by omega)).mp c1), Int.add_assoc]
        refine lv_iload_n hx hb dX1_count_31 rfl (lv_at hl 2 rfl) ?_
        refine lv_iconst (v := nI 1) hx hb dX1_count_32 (by decide) ?_
        refine lv_iadd hx hb dX1_count_33 ?_
        refine tp_i (y := Int32.ofInt (A + fb_si (fun q : Nat => if gPl (X 0) (Y 0) (X 1) (Y 1) (X 2) (Y 2) a q = kd then 1 else 0) (b + 1))) (by rw [← e1]; exact (Int32.ofInt_add _ 1).symm) ?_
        refine lv_istore_n (lv' := [(2, .int (Int32.ofInt (A + fb_si (fun q : Nat => if gPl (X 0) (Y 0) (X 1) (Y 1) (X 2) (Y 2) a q = kd then 1 else 0) (b + 1)))), (0, .ref h0), (1, .int (nI kd)), (3, .int (nI a)), (4, .int (nI b))]) hx hb dX1_count_34 rfl hl (by decide) rfl (fun ls hl => ?_)
        refine lv_iinc (v := nI (b + 1)) (lv' := [(4, .int (nI (b + 1))), (2, .int (Int32.ofInt (A + fb_si (fun q : Nat => if gPl (X 0) (Y 0) (X 1) (Y 1) (X 2) (Y 2) a q = kd then 1 else 0) (b + 1)))), (0, .ref h0), (1, .int (nI kd)), (3, .int (nI a))]) hx hb dX1_count_35 hl (k := 4) rfl (nI_1 b) (by decide) rfl (fun ls hl => ?_)
        refine lv_goto (tgt := 13) hx hb dX1_count_38 (by decide) ?_
        exact ih (b + 1) (by omega) hbb ls (lv_sub hl [2, 3, 1, 4, 0] rfl)
set_option maxHeartbeats 4000000 in
set_option maxRecDepth 100000 in
theorem lp_rows {p : Program} {l : Launch} {e : Env} {s : State} {m : MethodId} {args : Array Value} {below : List Frame} {meth : Method} {c : Code} {D : va_G} {h0 ax ay : Nat} {d : ClassId} {X Y : Nat → Nat} (hX : gC X) (hY : gC Y) {kd : Nat} (hkd : kd < 3) (C : Cx p m c cX1_count 5 s args RX1 meth .int) (hP : va_P D vwCl (wM h0 ax ay d X Y) s.heap) (hK : va_K D vwCl [(d, .int)] s) : ∀ (N a : Nat), 32 - a < N → a ≤ 32 → ∀ ls : Array Slot, lv_has ls 5 [(0, .ref h0), (1, .int (nI kd)), (2, .int (Int32.ofInt (fb_si (fun z : Nat => fb_si (fun q : Nat => if gPl (X 0) (Y 0) (X 1) (Y 1) (X 2) (Y 2) z q = kd then 1 else 0) 32) a))), (3, .int (nI a))] →
    W p l e ({ frames := 2, cells := 0, slots := 0, locals := 52 } : Room) s m args below meth c s.heap [] 0 0 (roQ below args s (fun r => r = Int32.ofInt (gE X Y kd))) (F0 m 4 ls []) := by
  obtain ⟨S, hr, hlocks⟩ := id C
  obtain ⟨hx, hb, hml, hown, hts⟩ := id S
  intro N
  induction N with
  | zero =>
    intro a h
    exact absurd h (Nat.not_lt_zero _)
  | succ N ih =>
    intro a hN ha32 ls hl
    refine lv_iload_n hx hb dX1_count_4 rfl (lv_at hl 3 rfl) ?_
    refine lv_bipush (v := nI 32) hx hb dX1_count_5 (by decide) ?_
    refine lv_icmp_ge (tgt := 47) hx hb dX1_count_7 (by decide) (fun c0 => ?_) (fun c0 => ?_)
    · have e0 : a = 32 := by
        have := (nI_leI (by decide) (by omega)).mp c0
        omega
      subst e0
      refine lv_iload_n hx hb dX1_count_47 rfl (lv_at hl 2 rfl) ?_
      exact ro_iret C dX1_count_48 rfl
    · have ha : a < 32 := Nat.lt_of_not_le fun z => c0 (nI_le z (by omega))
      refine lv_iconst (v := nI 0) hx hb dX1_count_10 (by decide) ?_
      refine lv_istore (lv' := [(4, .int (nI 0)), (0, .ref h0), (1, .int (nI kd)), (2, .int (Int32.ofInt (fb_si (fun z : Nat => fb_si (fun q : Nat => if gPl (X 0) (Y 0) (X 1) (Y 1) (X 2) (Y 2) z q = kd then 1 else 0) 32) a))), (3, .int (nI a))]) hx hb dX1_count_11 hl (by decide) rfl (fun ls hl => ?_)
      refine lp_row hX hY hkd ha (fb_si (fun z : Nat => fb_si (fun q : Nat => if gPl (X 0) (Y 0) (X 1) (Y 1) (X 2) (Y 2) z q = kd then 1 else 0) 32) a) C hP hK (fun ls hl => ?_) 33 0 (by decide) (by decide) ls ?_
      · have hl : lv_has ls 5 [(0, .ref h0), (1, .int (nI kd)), (2, .int (Int32.ofInt (fb_si (fun z : Nat => fb_si (fun q : Nat => if gPl (X 0) (Y 0) (X 1) (Y 1) (X 2) (Y 2) z q = kd then 1 else 0) 32) (a + 1)))), (3, .int (nI a))] := hl
        refine lv_iinc (v := nI (a + 1)) (lv' := [(3, .int (nI (a + 1))), (0, .ref h0), (1, .int (nI kd)), (2, .int (Int32.ofInt (fb_si (fun z : Nat => fb_si (fun q : Nat => if gPl (X 0) (Y 0) (X 1) (Y 1) (X 2) (Y 2) z q = kd then 1 else 0) 32) (a + 1))))]) hx hb dX1_count_41 hl (k := 3) rfl (nI_1 a) (by decide) rfl (fun ls hl => ?_)
        refine lv_goto (tgt := 4) hx hb dX1_count_44 (by decide) ?_
        exact ih (a + 1) (by omega) ha ls (lv_sub hl [1, 2, 3, 0] rfl)
      · have e1 : fb_si (fun z : Nat => fb_si (fun q : Nat => if gPl (X 0) (Y 0) (X 1) (Y 1) (X 2) (Y 2) z q = kd then 1 else 0) 32) a + fb_si (fun q : Nat => if gPl (X 0) (Y 0) (X 1) (Y 1) (X 2) (Y 2) a q = kd then 1 else 0) 0 = fb_si (fun z : Nat => fb_si (fun q : Nat => if gPl (X 0) (Y 0) (X 1) (Y 1) (X 2) (Y 2) z q = kd then 1 else 0) 32) a := Int.add_zero _
        rw [e1]
        exact lv_sub hl [1, 2, 3, 4, 0] rfl
set_option maxHeartbeats 4000000 in
set_option maxRecDepth 100000 in
theorem metX1_count (l : Launch) (D : va_G) (h0 ax ay : Nat) (d : ClassId) (X Y : Nat → Nat) (hX : gC X) (hY : gC Y) (kd : Nat) (hkd : kd < 3) : RoI l yX1_count cX1_count 5 .int ({ frames := 2, cells := 0, slots := 0, locals := 52 } : Room) D [.ref h0, .int (nI kd)] (wM h0 ax ay d X Y) [(d, .int)] (fun r => r = Int32.ofInt (gE X Y kd)) := by
  refine RoI.of (by decide) (Nat.le_of_ble_eq_true rfl) ?_
  intro p e s m below meth c C hP hK ls hl
  have hl : lv_has ls 5 [(0, .ref h0), (1, .int (nI kd))] := hl
  obtain ⟨S, hr, hlocks⟩ := id C
  obtain ⟨hx, hb, hml, hown, hts⟩ := id S
  refine lv_iconst (v := nI 0) hx hb dX1_count_0 (by decide) ?_
  refine lv_istore_n (lv' := [(2, .int (nI 0)), (0, .ref h0), (1, .int (nI kd))]) hx hb dX1_count_1 rfl hl (by decide) rfl (fun ls hl => ?_)
  refine lv_iconst (v := nI 0) hx hb dX1_count_2 (by decide) ?_
  refine lv_istore_n (lv' := [(3, .int (nI 0)), (2, .int (nI 0)), (0, .ref h0), (1, .int (nI kd))]) hx hb dX1_count_3 rfl hl (by decide) rfl (fun ls hl => ?_)
  exact lp_rows hX hY hkd C hP hK 33 0 (by decide) (by decide) ls (lv_sub hl [2, 3, 1, 0] rfl)
set_option maxHeartbeats 4000000 in
set_option maxRecDepth 100000 in
theorem metX1_inside (l : Launch) (D : va_G) (h0 ax ay : Nat) (d : ClassId) (X Y : Nat → Nat) (hX : gC X) (hY : gC Y) : RoI l yX1_inside cX1_inside 1 .int ({ frames := 3, cells := 0, slots := 0, locals := 76 } : Room) D [.ref h0] (wM h0 ax ay d X Y) [(d, .int)] (fun r => r = Int32.ofInt (gE X Y 2)) := by
  refine RoI.of (by decide) (Nat.le_of_ble_eq_true rfl) ?_
  intro p e s m below meth c C hP hK ls hl
  have hl : lv_has ls 1 [(0, .ref h0)] := hl
  obtain ⟨S, hr, hlocks⟩ := id C
  obtain ⟨hx, hb, hml, hown, hts⟩ := id S
  refine lv_aload_n hx hb dX1_inside_0 rfl (lv_at hl 0 rfl) ?_
  refine lv_iconst (v := nI 2) hx hb dX1_inside_1 (by decide) ?_
  refine ro_V 1 S (metX1_count l D h0 ax ay d X Y hX hY 2 (by decide)) (lw_V q102 q104 qs1 q6 q105) rfl rfl (by decide +kernel) rfl ⟨Nat.le_of_ble_eq_true rfl, Nat.le_of_ble_eq_true rfl⟩ (va_recv hK hP (ci := 1) (q0 := 0) rfl rfl) hP hK hl.1 rfl (Nat.le_of_ble_eq_true rfl) dX1_inside_2 ⟨Nat.zero_le _, Nat.zero_le _⟩ (fun r hr => ?_)
  exact ro_iret C dX1_inside_5 hr
set_option maxHeartbeats 4000000 in
set_option maxRecDepth 100000 in
theorem metX1_edge (l : Launch) (D : va_G) (h0 ax ay : Nat) (d : ClassId) (X Y : Nat → Nat) (hX : gC X) (hY : gC Y) : RoI l yX1_edge cX1_edge 1 .int ({ frames := 3, cells := 0, slots := 0, locals := 76 } : Room) D [.ref h0] (wM h0 ax ay d X Y) [(d, .int)] (fun r => r = Int32.ofInt (gE X Y 1)) := by
  refine RoI.of (by decide) (Nat.le_of_ble_eq_true rfl) ?_
  intro p e s m below meth c C hP hK ls hl
  have hl : lv_has ls 1 [(0, .ref h0)] := hl
  obtain ⟨S, hr, hlocks⟩ := id C
  obtain ⟨hx, hb, hml, hown, hts⟩ := id S
  refine lv_aload_n hx hb dX1_edge_0 rfl (lv_at hl 0 rfl) ?_
  refine lv_iconst (v := nI 1) hx hb dX1_edge_1 (by decide) ?_
  refine ro_V 1 S (metX1_count l D h0 ax ay d X Y hX hY 1 (by decide)) (lw_V q102 q104 qs1 q6 q105) rfl rfl (by decide +kernel) rfl ⟨Nat.le_of_ble_eq_true rfl, Nat.le_of_ble_eq_true rfl⟩ (va_recv hK hP (ci := 1) (q0 := 0) rfl rfl) hP hK hl.1 rfl (Nat.le_of_ble_eq_true rfl) dX1_edge_2 ⟨Nat.zero_le _, Nat.zero_le _⟩ (fun r hr => ?_)
  exact ro_iret C dX1_edge_5 hr
set_option maxHeartbeats 4000000 in
set_option maxRecDepth 100000 in
theorem metX1_area (l : Launch) (D : va_G) (h0 ax ay : Nat) (d : ClassId) (X Y : Nat → Nat) (hX : gC X) (hY : gC Y) : RoI l yX1_twiceArea cX1_twiceArea 2 .int ({ frames := 1, cells := 0, slots := 0, locals := 24 } : Room) D [.ref h0] (wM h0 ax ay d X Y) [(d, .int)] (fun r => r = nI (gT3 X Y).natAbs) := by
  refine RoI.of (by decide) (Nat.le_of_ble_eq_true rfl) ?_
  intro p e s m below meth c C hP hK ls hl
  have hl : lv_has ls 2 [(0, .ref h0)] := hl
  obtain ⟨S, hr, hlocks⟩ := id C
  obtain ⟨hx, hb, hml, hown, hts⟩ := id S
  have bd := gT3_bd hX hY
  refine lv_aload_n hx hb dX1_twiceArea_0 rfl (lv_at hl 0 rfl) ?_
  refine lv_iconst (v := nI 0) hx hb dX1_twiceArea_1 (by decide) ?_
  refine lv_iconst (v := nI 1) hx hb dX1_twiceArea_2 (by decide) ?_
  refine lv_aload_n hx hb dX1_twiceArea_3 rfl (lv_at hl 0 rfl) ?_
  refine x1_x S hK hP 0 rfl dX1_twiceArea_4 ?_
  refine lv_iconst (v := nI 2) hx hb dX1_twiceArea_7 (by decide) ?_
  refine ga_ld S hK hP 1 0 rfl rfl (by decide) (by decide) dX1_twiceArea_8 ?_
  refine lv_aload_n hx hb dX1_twiceArea_9 rfl (lv_at hl 0 rfl) ?_
  refine x1_y S hK hP 0 rfl dX1_twiceArea_10 ?_
  refine lv_iconst (v := nI 2) hx hb dX1_twiceArea_13 (by decide) ?_
  refine ga_ld S hK hP 2 0 rfl rfl (by decide) (by decide) dX1_twiceArea_14 ?_
  refine ro_V 4 S (metX1_turn l D h0 ax ay d X Y hX hY 0 1 (X 2) (Y 2) (by decide) (by decide)) (lw_V q110 q112 qs3 q6 q113) rfl rfl (by decide +kernel) rfl ⟨Nat.le_of_ble_eq_true rfl, Nat.le_of_ble_eq_true rfl⟩ (va_recv hK hP (ci := 1) (q0 := 0) rfl rfl) hP hK hl.1 rfl (Nat.le_of_ble_eq_true rfl) dX1_twiceArea_15 ⟨Nat.zero_le _, Nat.zero_le _⟩ (fun r hr => ?_)
  subst hr
  refine tp_i (y := Int32.ofInt (gT3 X Y)) (rfl) ?_
  refine lv_istore_n (lv' := [(1, .int (Int32.ofInt (gT3 X Y))), (0, .ref h0)]) hx hb dX1_twiceArea_18 rfl hl (by decide) rfl (fun ls hl => ?_)
  refine lv_iload_n hx hb dX1_twiceArea_19 rfl (lv_at hl 0 rfl) ?_
  refine lv_if_ge (tgt := 28) hx hb dX1_twiceArea_20 (by decide) (fun c0 => ?_) (fun c0 => ?_)
  · have s0 : 0 ≤ gT3 X Y := (oz_ge bd).mp c0
    refine lv_iload_n hx hb dX1_twiceArea_28 rfl (lv_at hl 0 rfl) ?_
    refine ro_iret C dX1_twiceArea_29 ?_
    rw [← oi_n]
    exact congrArg Int32.ofInt (by omega)
  · have s0 : gT3 X Y < 0 := Int.not_le.mp fun z => c0 ((oz_ge bd).mpr z)
    refine lv_iload_n hx hb dX1_twiceArea_23 rfl (lv_at hl 0 rfl) ?_
    refine lv_ineg hx hb dX1_twiceArea_24 ?_
    refine lv_goto (tgt := 29) hx hb dX1_twiceArea_25 (by decide) ?_
    refine ro_iret C dX1_twiceArea_29 ?_
    rw [← oi_n, ← Int32.ofInt_neg]
    exact congrArg Int32.ofInt (by omega)
end
section
/-! GridPointsModel: side, seen -/
set_option maxHeartbeats 4000000 in
set_option maxRecDepth 100000 in
theorem lp_srow {p : Program} {l : Launch} {e : Env} {s : State} {m : MethodId} {args : Array Value} {below : List Frame} {meth : Method} {c : Code} {D : va_G} {h0 ax ay : Nat} {d : ClassId} {X Y : Nat → Nat} (hX : gC X) (hY : gC Y) {i a : Nat} (hi : i < 3) (ha : a < 32) (A : Int) (C : Cx p m c cX1_side 7 s args RX1 meth .int) (hP : va_P D vwCl (wM h0 ax ay d X Y) s.heap) (hK : va_K D vwCl [(d, .int)] s)
    (kk : ∀ ls : Array Slot, lv_has ls 7 [(0, .ref h0), (2, .int (nI i)), (3, .int (nI ((i + 1) % 3))), (4, .int (Int32.ofInt (A + fb_si (fun q : Nat => if gOs X Y i a q then 1 else 0) 32))), (5, .int (nI a))] → W p l e ({ frames := 1, cells := 0, slots := 0, locals := 24 } : Room) s m args below meth c s.heap [] 0 0 (roQ below args s (fun r => r = nI (gS X Y i + 1))) (F0 m 105 ls [])) : ∀ (N b : Nat), 32 - b < N → b ≤ 32 → ∀ ls : Array Slot, lv_has ls 7 [(0, .ref h0), (2, .int (nI i)), (3, .int (nI ((i + 1) % 3))), (4, .int (Int32.ofInt (A + fb_si (fun q : Nat => if gOs X Y i a q then 1 else 0) b))), (5, .int (nI a)), (6, .int (nI b))] →
    W p l e ({ frames := 1, cells := 0, slots := 0, locals := 24 } : Room) s m args below meth c s.heap [] 0 0 (roQ below args s (fun r => r = nI (gS X Y i + 1))) (F0 m 29 ls []) := by
  obtain ⟨S, hr, hlocks⟩ := id C
  obtain ⟨hx, hb, hml, hown, hts⟩ := id S
  have hj : (i + 1) % 3 < 3 := Nat.mod_lt _ (by decide)
  intro N
  induction N with
  | zero =>
    intro b h
    exact absurd h (Nat.not_lt_zero _)
  | succ N ih =>
    intro b hN hb32 ls hl
    refine lv_iload hx hb dX1_side_29 (lv_at hl 5 rfl) ?_
    refine lv_bipush (v := nI 32) hx hb dX1_side_31 (by decide) ?_
    refine lv_icmp_ge (tgt := 105) hx hb dX1_side_33 (by decide) (fun c0 => ?_) (fun c0 => ?_)
    · have e0 : b = 32 := by
        have := (nI_leI (by decide) (by omega)).mp c0
        omega
      subst e0
      exact kk ls (lv_sub hl [0, 1, 2, 3, 4] rfl)
    · have hbb : b < 32 := Nat.lt_of_not_le fun z => c0 (nI_le z (by omega))
      have cont : ∀ ls : Array Slot, lv_has ls 7 [(0, .ref h0), (2, .int (nI i)), (3, .int (nI ((i + 1) % 3))), (4, .int (Int32.ofInt (A + fb_si (fun q : Nat => if gOs X Y i a q then 1 else 0) (b + 1)))), (5, .int (nI a)), (6, .int (nI b))] → W p l e ({ frames := 1, cells := 0, slots := 0, locals := 24 } : Room) s m args below meth c s.heap [] 0 0 (roQ below args s (fun r => r = nI (gS X Y i + 1))) (F0 m 99 ls []) := by
        intro ls hl
        refine lv_iinc (v := nI (b + 1)) (lv' := [(6, .int (nI (b + 1))), (0, .ref h0), (2, .int (nI i)), (3, .int (nI ((i + 1) % 3))), (4, .int (Int32.ofInt (A + fb_si (fun q : Nat => if gOs X Y i a q then 1 else 0) (b + 1)))), (5, .int (nI a))]) hx hb dX1_side_99 hl (k := 5) rfl (nI_1 b) (by decide) rfl (fun ls hl => ?_)
        refine lv_goto (tgt := 29) hx hb dX1_side_102 (by decide) ?_
        exact ih (b + 1) (by omega) hbb ls (lv_sub hl [1, 2, 3, 4, 5, 0] rfl)
      have off : ¬ gOs X Y i a b → W p l e ({ frames := 1, cells := 0, slots := 0, locals := 24 } : Room) s m args below meth c s.heap [] 0 0 (roQ below args s (fun r => r = nI (gS X Y i + 1))) (F0 m 99 ls []) := by
        intro hn
        have e1 : A + fb_si (fun q : Nat => if gOs X Y i a q then 1 else 0) b = A + fb_si (fun q : Nat => if gOs X Y i a q then 1 else 0) (b + 1) := by
          rw [fb_si_succ, if_neg hn, Int.add_zero]
        rw [e1] at hl
        exact cont ls hl
      refine lv_aload_n hx hb dX1_side_36 rfl (lv_at hl 0 rfl) ?_
      refine lv_iload_n hx hb dX1_side_37 rfl (lv_at hl 1 rfl) ?_
      refine lv_iload_n hx hb dX1_side_38 rfl (lv_at hl 2 rfl) ?_
      refine lv_iload hx hb dX1_side_39 (lv_at hl 4 rfl) ?_
      refine lv_iload hx hb dX1_side_41 (lv_at hl 5 rfl) ?_
      refine ro_V 4 S (metX1_turn l D h0 ax ay d X Y hX hY i ((i + 1) % 3) a b hi hj) (lw_V q110 q112 qs3 q6 q113) rfl rfl (by decide +kernel) rfl ⟨Nat.le_of_ble_eq_true rfl, Nat.le_of_ble_eq_true rfl⟩ (va_recv hK hP (ci := 1) (q0 := 0) rfl rfl) hP hK hl.1 rfl (Nat.le_of_ble_eq_true rfl) dX1_side_43 ⟨Nat.zero_le _, Nat.zero_le _⟩ (fun r hr => ?_)
      subst hr
      have tb := gT_bd (gC_in hX i) (gC_in hY i) (gC_in hX ((i + 1) % 3)) (gC_in hY ((i + 1) % 3)) (gI_n ha) (gI_n hbb)
      refine lv_if_ne (tgt := 99) hx hb dX1_side_46 (by decide) (fun c1 => off (fun z => c1 ((oz_eq (by omega)).mpr z.1))) (fun c1 => ?_)
      refine lv_iload hx hb dX1_side_49 (lv_at hl 4 rfl) ?_
      refine lv_aload_n hx hb dX1_side_51 rfl (lv_at hl 0 rfl) ?_
      refine x1_x S hK hP 0 rfl dX1_side_52 ?_
      refine lv_iload_n hx hb dX1_side_55 rfl (lv_at hl 1 rfl) ?_
      refine ga_ld S hK hP 1 0 rfl rfl (hi) (by decide) dX1_side_56 ?_
      refine lv_isub hx hb dX1_side_57 ?_
      refine tp_i (y := Int32.ofInt ((a : Int) - X i)) (oi_sub _ _) ?_
      refine lv_iload hx hb dX1_side_58 (lv_at hl 4 rfl) ?_
      refine lv_aload_n hx hb dX1_side_60 rfl (lv_at hl 0 rfl) ?_
      refine x1_x S hK hP 0 rfl dX1_side_61 ?_
      refine lv_iload_n hx hb dX1_side_64 rfl (lv_at hl 2 rfl) ?_
      refine ga_ld S hK hP 1 0 rfl rfl (hj) (by decide) dX1_side_65 ?_
      refine lv_isub hx hb dX1_side_66 ?_
      refine tp_i (y := Int32.ofInt ((a : Int) - X ((i + 1) % 3))) (oi_sub _ _) ?_
      refine lv_imul hx hb dX1_side_67 ?_
      refine tp_i (y := Int32.ofInt (((a : Int) - X i) * ((a : Int) - X ((i + 1) % 3)))) ((Int32.ofInt_mul _ _).symm) ?_
      have xb := gP_bd (hX i) (hX ((i + 1) % 3)) ha
      refine lv_if_gt (tgt := 99) hx hb dX1_side_68 (by decide) (fun c2 => off (fun z => by have := (oz_gt xb).mp c2; have := z.2.1; omega)) (fun c2 => ?_)
      refine lv_iload hx hb dX1_side_71 (lv_at hl 5 rfl) ?_
      refine lv_aload_n hx hb dX1_side_73 rfl (lv_at hl 0 rfl) ?_
      refine x1_y S hK hP 0 rfl dX1_side_74 ?_
      refine lv_iload_n hx hb dX1_side_77 rfl (lv_at hl 1 rfl) ?_
      refine ga_ld S hK hP 2 0 rfl rfl (hi) (by decide) dX1_side_78 ?_
      refine lv_isub hx hb dX1_side_79 ?_
      refine tp_i (y := Int32.ofInt ((b : Int) - Y i)) (oi_sub _ _) ?_
      refine lv_iload hx hb dX1_side_80 (lv_at hl 5 rfl) ?_
      refine lv_aload_n hx hb dX1_side_82 rfl (lv_at hl 0 rfl) ?_
      refine x1_y S hK hP 0 rfl dX1_side_83 ?_
      refine lv_iload_n hx hb dX1_side_86 rfl (lv_at hl 2 rfl) ?_
      refine ga_ld S hK hP 2 0 rfl rfl (hj) (by decide) dX1_side_87 ?_
      refine lv_isub hx hb dX1_side_88 ?_
      refine tp_i (y := Int32.ofInt ((b : Int) - Y ((i + 1) % 3))) (oi_sub _ _) ?_
      refine lv_imul hx hb dX1_side_89 ?_
      refine tp_i (y := Int32.ofInt (((b : Int) - Y i) * ((b : Int) - Y ((i + 1) % 3)))) ((Int32.ofInt_mul _ _).symm) ?_
      have yb := gP_bd (hY i) (hY ((i + 1) % 3)) hbb
      refine lv_if_gt (tgt := 99) hx hb dX1_side_90 (by decide) (fun c3 => off (fun z => by have := (oz_gt yb).mp c3; have := z.2.2; omega)) (fun c3 => ?_)
      have on : gOs X Y i a b := ⟨(oz_eq (by omega)).mp c1, Int.not_lt.mp (fun z => c2 ((oz_gt xb).mpr z)), Int.not_lt.mp (fun z => c3 ((oz_gt yb).mpr z))⟩
      have e1 : A + fb_si (fun q : Nat => if gOs X Y i a q then 1 else 0) b + 1 = A + fb_si (fun q : Nat => if gOs X Y i a q then 1 else 0) (b + 1) := by
        rw [fb_si_succ, if_pos on, Int.add_assoc]
      refine lv_iload hx hb dX1_side_93 (lv_at hl 3 rfl) ?_
      refine lv_iconst (v := nI 1) hx hb dX1_side_95 (by decide) ?_
      refine lv_iadd hx hb dX1_side_96 ?_
      refine tp_i (y := Int32.ofInt (A + fb_si (fun q : Nat => if gOs X Y i a q then 1 else 0) (b + 1))) (by rw [← e1]; exact (Int32.ofInt_add _ 1).symm) ?_
      refine lv_istore (lv' := [(4, .int (Int32.ofInt (A + fb_si (fun q : Nat => if gOs X Y i a q then 1 else 0) (b + 1)))), (0, .ref h0), (2, .int (nI i)), (3, .int (nI ((i + 1) % 3))), (5, .int (nI a)), (6, .int (nI b))]) hx hb dX1_side_97 hl (by decide) rfl (fun ls hl => ?_)
      exact cont ls (lv_sub hl [1, 2, 3, 0, 4, 5] rfl)
set_option maxHeartbeats 4000000 in
set_option maxRecDepth 100000 in
theorem lp_srows {p : Program} {l : Launch} {e : Env} {s : State} {m : MethodId} {args : Array Value} {below : List Frame} {meth : Method} {c : Code} {D : va_G} {h0 ax ay : Nat} {d : ClassId} {X Y : Nat → Nat} (hX : gC X) (hY : gC Y) {i : Nat} (hi : i < 3) (C : Cx p m c cX1_side 7 s args RX1 meth .int) (hP : va_P D vwCl (wM h0 ax ay d X Y) s.heap) (hK : va_K D vwCl [(d, .int)] s) : ∀ (N a : Nat), 32 - a < N → a ≤ 32 → ∀ ls : Array Slot, lv_has ls 7 [(0, .ref h0), (2, .int (nI i)), (3, .int (nI ((i + 1) % 3))), (4, .int (Int32.ofInt (fb_si (fun z : Nat => fb_si (fun q : Nat => if gOs X Y i z q then 1 else 0) 32) a))), (5, .int (nI a))] →
    W p l e ({ frames := 1, cells := 0, slots := 0, locals := 24 } : Room) s m args below meth c s.heap [] 0 0 (roQ below args s (fun r => r = nI (gS X Y i + 1))) (F0 m 19 ls []) := by
  obtain ⟨S, hr, hlocks⟩ := id C
  obtain ⟨hx, hb, hml, hown, hts⟩ := id S
  intro N
  induction N with
  | zero =>
    intro a h
    exact absurd h (Nat.not_lt_zero _)
  | succ N ih =>
    intro a hN ha32 ls hl
    refine lv_iload hx hb dX1_side_19 (lv_at hl 4 rfl) ?_
    refine lv_bipush (v := nI 32) hx hb dX1_side_21 (by decide) ?_
    refine lv_icmp_ge (tgt := 111) hx hb dX1_side_23 (by decide) (fun c0 => ?_) (fun c0 => ?_)
    · have e0 : a = 32 := by
        have := (nI_leI (by decide) (by omega)).mp c0
        omega
      subst e0
      refine lv_iload hx hb dX1_side_111 (lv_at hl 3 rfl) ?_
      refine ro_iret C dX1_side_113 ?_
      rw [← oi_n, ← gside X Y hX hY i]
      rfl
    · have ha : a < 32 := Nat.lt_of_not_le fun z => c0 (nI_le z (by omega))
      refine lv_iconst (v := nI 0) hx hb dX1_side_26 (by decide) ?_
      refine lv_istore (lv' := [(6, .int (nI 0)), (0, .ref h0), (2, .int (nI i)), (3, .int (nI ((i + 1) % 3))), (4, .int (Int32.ofInt (fb_si (fun z : Nat => fb_si (fun q : Nat => if gOs X Y i z q then 1 else 0) 32) a))), (5, .int (nI a))]) hx hb dX1_side_27 hl (by decide) rfl (fun ls hl => ?_)
      refine lp_srow hX hY hi ha (fb_si (fun z : Nat => fb_si (fun q : Nat => if gOs X Y i z q then 1 else 0) 32) a) C hP hK (fun ls hl => ?_) 33 0 (by decide) (by decide) ls ?_
      · have hl : lv_has ls 7 [(0, .ref h0), (2, .int (nI i)), (3, .int (nI ((i + 1) % 3))), (4, .int (Int32.ofInt (fb_si (fun z : Nat => fb_si (fun q : Nat => if gOs X Y i z q then 1 else 0) 32) (a + 1)))), (5, .int (nI a))] := hl
        refine lv_iinc (v := nI (a + 1)) (lv' := [(5, .int (nI (a + 1))), (0, .ref h0), (2, .int (nI i)), (3, .int (nI ((i + 1) % 3))), (4, .int (Int32.ofInt (fb_si (fun z : Nat => fb_si (fun q : Nat => if gOs X Y i z q then 1 else 0) 32) (a + 1))))]) hx hb dX1_side_105 hl (k := 4) rfl (nI_1 a) (by decide) rfl (fun ls hl => ?_)
        refine lv_goto (tgt := 19) hx hb dX1_side_108 (by decide) ?_
        exact ih (a + 1) (by omega) ha ls (lv_sub hl [1, 2, 3, 4, 0] rfl)
      · have e1 : fb_si (fun z : Nat => fb_si (fun q : Nat => if gOs X Y i z q then 1 else 0) 32) a + fb_si (fun q : Nat => if gOs X Y i a q then 1 else 0) 0 = fb_si (fun z : Nat => fb_si (fun q : Nat => if gOs X Y i z q then 1 else 0) 32) a := Int.add_zero _
        rw [e1]
        exact lv_sub hl [1, 2, 3, 4, 5, 0] rfl
set_option maxHeartbeats 4000000 in
set_option maxRecDepth 100000 in
theorem metX1_side (l : Launch) (D : va_G) (h0 ax ay : Nat) (d : ClassId) (X Y : Nat → Nat) (hX : gC X) (hY : gC Y) (k : Int32) : RoI l yX1_side cX1_side 7 .int ({ frames := 1, cells := 0, slots := 0, locals := 24 } : Room) D [.ref h0, .int k] (wM h0 ax ay d X Y) [(d, .int)] (fun r => r = nI (gS X Y (gN k) + 1)) := by
  refine RoI.of (by decide) (Nat.le_of_ble_eq_true rfl) ?_
  intro p e s m below meth c C hP hK ls hl
  have hl : lv_has ls 7 [(0, .ref h0), (1, .int k)] := hl
  obtain ⟨S, hr, hlocks⟩ := id C
  obtain ⟨hx, hb, hml, hown, hts⟩ := id S
  have n3 := gN_lt k
  refine lv_iload_n hx hb dX1_side_0 rfl (lv_at hl 1 rfl) ?_
  refine lv_ldc hx hb hown (hts _ q97) dX1_side_1 ?_
  refine lv_iand hx hb dX1_side_3 ?_
  refine tp_i (y := nI (k.toBitVec.toNat % 2 ^ 31)) (pk_and k 31 (by decide)) ?_
  refine lv_iconst (v := nI 3) hx hb dX1_side_4 (by decide) ?_
  refine lv_irem hx hb dX1_side_5 (by decide) ?_
  refine tp_i (y := nI (gN k)) (pk_rem (Nat.mod_lt _ (by decide)) (by decide) (by decide)) ?_
  refine lv_istore_n (lv' := [(2, .int (nI (gN k))), (0, .ref h0), (1, .int k)]) hx hb dX1_side_6 rfl hl (by decide) rfl (fun ls hl => ?_)
  refine lv_iload_n hx hb dX1_side_7 rfl (lv_at hl 0 rfl) ?_
  refine lv_iconst (v := nI 1) hx hb dX1_side_8 (by decide) ?_
  refine lv_iadd hx hb dX1_side_9 ?_
  refine tp_i (y := nI (gN k + 1)) (nI_add _ _) ?_
  refine lv_iconst (v := nI 3) hx hb dX1_side_10 (by decide) ?_
  refine lv_irem hx hb dX1_side_11 (by decide) ?_
  refine tp_i (y := nI ((gN k + 1) % 3)) (pk_rem (by omega) (by decide) (by decide)) ?_
  refine lv_istore_n (lv' := [(3, .int (nI ((gN k + 1) % 3))), (2, .int (nI (gN k))), (0, .ref h0), (1, .int k)]) hx hb dX1_side_12 rfl hl (by decide) rfl (fun ls hl => ?_)
  refine lv_iconst (v := nI 0) hx hb dX1_side_13 (by decide) ?_
  refine lv_istore (lv' := [(4, .int (nI 0)), (3, .int (nI ((gN k + 1) % 3))), (2, .int (nI (gN k))), (0, .ref h0), (1, .int k)]) hx hb dX1_side_14 hl (by decide) rfl (fun ls hl => ?_)
  refine lv_iconst (v := nI 0) hx hb dX1_side_16 (by decide) ?_
  refine lv_istore (lv' := [(5, .int (nI 0)), (4, .int (nI 0)), (3, .int (nI ((gN k + 1) % 3))), (2, .int (nI (gN k))), (0, .ref h0), (1, .int k)]) hx hb dX1_side_17 hl (by decide) rfl (fun ls hl => ?_)
  exact lp_srows hX hY (gN_lt k) C hP hK 33 0 (by decide) (by decide) ls (lv_sub hl [4, 3, 2, 1, 0] rfl)
set_option maxHeartbeats 4000000 in
set_option maxRecDepth 100000 in
theorem lp_grow {p : Program} {l : Launch} {e : Env} {s : State} {m : MethodId} {args : Array Value} {below : List Frame} {meth : Method} {c : Code} {D : va_G} {n a : Nat} (hn : n < 65) (ha : a ≤ n) (A : Int) (C : Cx p m c cX1_seen 6 s args RX1 meth .int) (hK : va_K D vwCl [] s)
    (kk : ∀ ls : Array Slot, lv_has ls 6 [(2, .int (nI n)), (3, .int (Int32.ofInt (A + fb_si (fun q : Nat => if Nat.gcd a q = 1 then 1 else 0) (n + 1)))), (4, .int (nI a))] → W p l e ({ frames := 1, cells := 0, slots := 0, locals := 24 } : Room) s m args below meth c s.heap [] 0 0 (roQ below args s (fun r => r = Int32.ofInt (gG n))) (F0 m 57 ls [])) : ∀ (N b : Nat), n + 1 - b < N → b ≤ n + 1 → ∀ ls : Array Slot, lv_has ls 6 [(2, .int (nI n)), (3, .int (Int32.ofInt (A + fb_si (fun q : Nat => if Nat.gcd a q = 1 then 1 else 0) b))), (4, .int (nI a)), (5, .int (nI b))] →
    W p l e ({ frames := 1, cells := 0, slots := 0, locals := 24 } : Room) s m args below meth c s.heap [] 0 0 (roQ below args s (fun r => r = Int32.ofInt (gG n))) (F0 m 21 ls []) := by
  obtain ⟨S, hr, hlocks⟩ := id C
  obtain ⟨hx, hb, hml, hown, hts⟩ := id S
  intro N
  induction N with
  | zero =>
    intro b h
    exact absurd h (Nat.not_lt_zero _)
  | succ N ih =>
    intro b hN hbn ls hl
    refine lv_iload hx hb dX1_seen_21 (lv_at hl 3 rfl) ?_
    refine lv_iload_n hx hb dX1_seen_23 rfl (lv_at hl 0 rfl) ?_
    refine lv_icmp_gt (tgt := 57) hx hb dX1_seen_24 (by decide) (fun c0 => ?_) (fun c0 => ?_)
    · have e0 : b = n + 1 := by
        have := (nI_ltI (by omega) (by omega)).mp c0
        omega
      subst e0
      exact kk ls (lv_sub hl [0, 1, 2] rfl)
    · have hbb : b ≤ n := Nat.le_of_not_lt fun z => c0 (nI_lt z (by omega))
      have cont : ∀ ls : Array Slot, lv_has ls 6 [(2, .int (nI n)), (3, .int (Int32.ofInt (A + fb_si (fun q : Nat => if Nat.gcd a q = 1 then 1 else 0) (b + 1)))), (4, .int (nI a)), (5, .int (nI b))] → W p l e ({ frames := 1, cells := 0, slots := 0, locals := 24 } : Room) s m args below meth c s.heap [] 0 0 (roQ below args s (fun r => r = Int32.ofInt (gG n))) (F0 m 51 ls []) := by
        intro ls hl
        refine lv_iinc (v := nI (b + 1)) (lv' := [(5, .int (nI (b + 1))), (2, .int (nI n)), (3, .int (Int32.ofInt (A + fb_si (fun q : Nat => if Nat.gcd a q = 1 then 1 else 0) (b + 1)))), (4, .int (nI a))]) hx hb dX1_seen_51 hl (k := 3) rfl (nI_1 b) (by decide) rfl (fun ls hl => ?_)
        refine lv_goto (tgt := 21) hx hb dX1_seen_54 (by decide) ?_
        exact ih (b + 1) (by omega) (by omega) ls (lv_sub hl [1, 2, 3, 0] rfl)
      have off : ¬ Nat.gcd a b = 1 → W p l e ({ frames := 1, cells := 0, slots := 0, locals := 24 } : Room) s m args below meth c s.heap [] 0 0 (roQ below args s (fun r => r = Int32.ofInt (gG n))) (F0 m 51 ls []) := by
        intro hn
        have e1 : A + fb_si (fun q : Nat => if Nat.gcd a q = 1 then 1 else 0) b = A + fb_si (fun q : Nat => if Nat.gcd a q = 1 then 1 else 0) (b + 1) := by
          rw [fb_si_succ, if_neg hn, Int.add_zero]
        rw [e1] at hl
        exact cont ls hl
      have at37 : W p l e ({ frames := 1, cells := 0, slots := 0, locals := 24 } : Room) s m args below meth c s.heap [] 0 0 (roQ below args s (fun r => r = Int32.ofInt (gG n))) (F0 m 37 ls []) := by
        refine lv_iload hx hb dX1_seen_37 (lv_at hl 2 rfl) ?_
        refine lv_iload hx hb dX1_seen_39 (lv_at hl 3 rfl) ?_
        refine ro_S 2 S (metX1_free l D a b (by omega) (by omega)) (lw_S q134 q135 q6 q136) rfl rfl (by decide +kernel) rfl ⟨Nat.le_of_ble_eq_true rfl, Nat.le_of_ble_eq_true rfl⟩ va_P.nil hK hl.1 rfl (Nat.le_of_ble_eq_true rfl) dX1_seen_41 ⟨Nat.zero_le _, Nat.zero_le _⟩ (fun r hr => ?_)
        refine lv_if_eq (tgt := 51) hx hb dX1_seen_44 (by decide) (fun c1 => ?_) (fun c1 => ?_)
        · exact off (fun z => by rw [hr, if_pos z] at c1; exact absurd c1 (by decide))
        · have on : Nat.gcd a b = 1 := Classical.byContradiction fun z => c1 (by rw [hr, if_neg z]; rfl)
          have e1 : A + fb_si (fun q : Nat => if Nat.gcd a q = 1 then 1 else 0) b + 1 = A + fb_si (fun q : Nat => if Nat.gcd a q = 1 then 1 else 0) (b + 1) := by
            rw [fb_si_succ, if_pos on, Int.add_assoc]
          refine lv_iload_n hx hb dX1_seen_47 rfl (lv_at hl 1 rfl) ?_
          refine lv_iconst (v := nI 1) hx hb dX1_seen_48 (by decide) ?_
          refine lv_iadd hx hb dX1_seen_49 ?_
          refine tp_i (y := Int32.ofInt (A + fb_si (fun q : Nat => if Nat.gcd a q = 1 then 1 else 0) (b + 1))) (by rw [← e1]; exact (Int32.ofInt_add _ 1).symm) ?_
          refine lv_istore_n (lv' := [(3, .int (Int32.ofInt (A + fb_si (fun q : Nat => if Nat.gcd a q = 1 then 1 else 0) (b + 1)))), (2, .int (nI n)), (4, .int (nI a)), (5, .int (nI b))]) hx hb dX1_seen_50 rfl hl (by decide) rfl (fun ls hl => ?_)
          exact cont ls (lv_sub hl [1, 0, 2, 3] rfl)
      refine lv_iload hx hb dX1_seen_27 (lv_at hl 2 rfl) ?_
      refine lv_if_ne (tgt := 37) hx hb dX1_seen_29 (by decide) (fun _ => at37) (fun c1 => ?_)
      refine lv_iload hx hb dX1_seen_32 (lv_at hl 3 rfl) ?_
      refine lv_if_eq (tgt := 51) hx hb dX1_seen_34 (by decide) (fun c2 => ?_) (fun _ => at37)
      have a0 : a = 0 := (nI_eq (b := 0) (by omega) (by decide)).mp c1
      have b0 : b = 0 := (nI_eq (b := 0) (by omega) (by decide)).mp c2
      exact off (by rw [a0, b0]; decide)
set_option maxHeartbeats 4000000 in
set_option maxRecDepth 100000 in
theorem lp_grows {p : Program} {l : Launch} {e : Env} {s : State} {m : MethodId} {args : Array Value} {below : List Frame} {meth : Method} {c : Code} {D : va_G} {n : Nat} (hn : n < 65) (C : Cx p m c cX1_seen 6 s args RX1 meth .int) (hK : va_K D vwCl [] s) : ∀ (N a : Nat), n + 1 - a < N → a ≤ n + 1 → ∀ ls : Array Slot, lv_has ls 6 [(2, .int (nI n)), (3, .int (Int32.ofInt (fb_si (fun z : Nat => fb_si (fun q : Nat => if Nat.gcd z q = 1 then 1 else 0) (n + 1)) a))), (4, .int (nI a))] →
    W p l e ({ frames := 1, cells := 0, slots := 0, locals := 24 } : Room) s m args below meth c s.heap [] 0 0 (roQ below args s (fun r => r = Int32.ofInt (gG n))) (F0 m 12 ls []) := by
  obtain ⟨S, hr, hlocks⟩ := id C
  obtain ⟨hx, hb, hml, hown, hts⟩ := id S
  intro N
  induction N with
  | zero =>
    intro a h
    exact absurd h (Nat.not_lt_zero _)
  | succ N ih =>
    intro a hN hal ls hl
    refine lv_iload hx hb dX1_seen_12 (lv_at hl 2 rfl) ?_
    refine lv_iload_n hx hb dX1_seen_14 rfl (lv_at hl 0 rfl) ?_
    refine lv_icmp_gt (tgt := 63) hx hb dX1_seen_15 (by decide) (fun c0 => ?_) (fun c0 => ?_)
    · have e0 : a = n + 1 := by
        have := (nI_ltI (by omega) (by omega)).mp c0
        omega
      subst e0
      refine lv_iload_n hx hb dX1_seen_63 rfl (lv_at hl 1 rfl) ?_
      exact ro_iret C dX1_seen_64 rfl
    · have ha : a ≤ n := Nat.le_of_not_lt fun z => c0 (nI_lt z (by omega))
      refine lv_iconst (v := nI 0) hx hb dX1_seen_18 (by decide) ?_
      refine lv_istore (lv' := [(5, .int (nI 0)), (2, .int (nI n)), (3, .int (Int32.ofInt (fb_si (fun z : Nat => fb_si (fun q : Nat => if Nat.gcd z q = 1 then 1 else 0) (n + 1)) a))), (4, .int (nI a))]) hx hb dX1_seen_19 hl (by decide) rfl (fun ls hl => ?_)
      refine lp_grow hn ha (fb_si (fun z : Nat => fb_si (fun q : Nat => if Nat.gcd z q = 1 then 1 else 0) (n + 1)) a) C hK (fun ls hl => ?_) (n + 2) 0 (by omega) (by omega) ls ?_
      · have hl : lv_has ls 6 [(2, .int (nI n)), (3, .int (Int32.ofInt (fb_si (fun z : Nat => fb_si (fun q : Nat => if Nat.gcd z q = 1 then 1 else 0) (n + 1)) (a + 1)))), (4, .int (nI a))] := hl
        refine lv_iinc (v := nI (a + 1)) (lv' := [(4, .int (nI (a + 1))), (2, .int (nI n)), (3, .int (Int32.ofInt (fb_si (fun z : Nat => fb_si (fun q : Nat => if Nat.gcd z q = 1 then 1 else 0) (n + 1)) (a + 1))))]) hx hb dX1_seen_57 hl (k := 2) rfl (nI_1 a) (by decide) rfl (fun ls hl => ?_)
        refine lv_goto (tgt := 12) hx hb dX1_seen_60 (by decide) ?_
        exact ih (a + 1) (by omega) (by omega) ls (lv_sub hl [1, 2, 0] rfl)
      · have e1 : fb_si (fun z : Nat => fb_si (fun q : Nat => if Nat.gcd z q = 1 then 1 else 0) (n + 1)) a + fb_si (fun q : Nat => if Nat.gcd a q = 1 then 1 else 0) 0 = fb_si (fun z : Nat => fb_si (fun q : Nat => if Nat.gcd z q = 1 then 1 else 0) (n + 1)) a := Int.add_zero _
        rw [e1]
        exact lv_sub hl [1, 2, 3, 0] rfl
set_option maxHeartbeats 4000000 in
set_option maxRecDepth 100000 in
theorem metX1_seen (l : Launch) (D : va_G) (h0 : Nat) (k : Int32) : RoI l yX1_seen cX1_seen 6 .int ({ frames := 1, cells := 0, slots := 0, locals := 24 } : Room) D [.ref h0, .int k] [] [] (fun r => r = Int32.ofInt (gG (1 + gB k 6))) := by
  refine RoI.of (by decide) (Nat.le_of_ble_eq_true rfl) ?_
  intro p e s m below meth c C hP hK ls hl
  have hl : lv_has ls 6 [(0, .ref h0), (1, .int k)] := hl
  obtain ⟨S, hr, hlocks⟩ := id C
  obtain ⟨hx, hb, hml, hown, hts⟩ := id S
  have bk := gB_lt k 6
  refine lv_iconst (v := nI 1) hx hb dX1_seen_0 (by decide) ?_
  refine lv_iload_n hx hb dX1_seen_1 rfl (lv_at hl 1 rfl) ?_
  refine lv_bipush (v := nI 63) hx hb dX1_seen_2 (by decide) ?_
  refine lv_iand hx hb dX1_seen_4 ?_
  refine tp_i (y := nI (gB k 6)) (pk_and k 6 (by decide)) ?_
  refine lv_iadd hx hb dX1_seen_5 ?_
  refine tp_i (y := nI (1 + gB k 6)) (nI_add _ _) ?_
  refine lv_istore_n (lv' := [(2, .int (nI (1 + gB k 6))), (0, .ref h0), (1, .int k)]) hx hb dX1_seen_6 rfl hl (by decide) rfl (fun ls hl => ?_)
  refine lv_iconst (v := nI 0) hx hb dX1_seen_7 (by decide) ?_
  refine lv_istore_n (lv' := [(3, .int (nI 0)), (2, .int (nI (1 + gB k 6))), (0, .ref h0), (1, .int k)]) hx hb dX1_seen_8 rfl hl (by decide) rfl (fun ls hl => ?_)
  refine lv_iconst (v := nI 0) hx hb dX1_seen_9 (by decide) ?_
  refine lv_istore (lv' := [(4, .int (nI 0)), (3, .int (nI 0)), (2, .int (nI (1 + gB k 6))), (0, .ref h0), (1, .int k)]) hx hb dX1_seen_10 hl (by decide) rfl (fun ls hl => ?_)
  exact lp_grows (by omega) C hK (1 + gB k 6 + 2) 0 (by omega) (by omega) ls (lv_sub hl [2, 1, 0] rfl)
end
section
/-! what is written: the constructors, the corners -/
def gU (X : Nat → Nat) (i v : Nat) : Nat → Nat := fun j => if j = i then v else X j
theorem gU_upd (X : Nat → Nat) (i v : Nat) : upd (fun j => nI (X j)) i (nI v) = fun j => nI (gU X i v j) := by
  funext j
  by_cases h : j = i
  · simp [upd, gU, h]
  · simp [upd, gU, h]
theorem gU_C {X : Nat → Nat} (h : gC X) {i v : Nat} (hv : v < 32) : gC (gU X i v) := by
  intro j
  unfold gU
  by_cases k : j = i
  · rw [if_pos k]; exact hv
  · rw [if_neg k]; exact h j
/-- arrays of ints are of one class -/
theorem va_K_same {D : va_G} {cl : List vw_C} {tys : List (ClassId × FieldType)} {U : State} {a b : ClassId} (hK : va_K D cl tys U) (i j : Nat) (hi : tys[i]? = some (a, .int)) (hj : tys[j]? = some (b, .int)) : a = b := by
  have h1 : U.vm.findClass ("[" ++ FieldType.int.toString) = some a := (hK.2 i _ hi).2
  have h2 : U.vm.findClass ("[" ++ FieldType.int.toString) = some b := (hK.2 j _ hj).2
  exact Option.some.inj (h1.symm.trans h2)
section WR
variable {p : Program} {l : Launch} {e : Env} {R : Room} {s : State} {m : MethodId} {args : Array Value} {below : List Frame} {meth : Method} {c : Code} {H H0 : Heap} {locs : List Loc} {cells slots : Nat} {Q : State → Prop}
variable {pc : Nat} {ls : Array Slot} {rest : List Value} {cc : ByteArray} {nL i n h0 : Nat} {own : String} {D : va_G} {ws : va_W} {tys : List (ClassId × FieldType)} {d : ClassId} {A : Nat → Prop}
theorem ga_st {f : Nat → Int32} {x : Int32} (S : CallFix p m c cc nL s args lw_all own) (hK : va_K D vwCl tys s) (hP : va_P D vwCl ws H) (hD : va_D A ws) (hS : va_S A H0 H locs) (q0 t0 : Nat) (he : ws[q0]? = some (h0, .inl (d, n, .inl f))) (ht : tys[t0]? = some (d, .int)) (hi : i < n) (hn : n < 2 ^ 31) (hdg : decode cc pc = .ok (.iastore, 1))
    (kk : ∀ (H1 : Heap) (locs1 : List Loc), va_P D vwCl (ws.set q0 (h0, .inl (d, n, .inl (upd f i x)))) H1 → va_D A (ws.set q0 (h0, .inl (d, n, .inl (upd f i x)))) → va_S A H0 H1 locs1 → W p l e R s m args below meth c H1 locs1 cells slots Q (F0 m (pc + 1) ls rest)) :
    W p l e R s m args below meth c H locs cells slots Q (F0 m pc ls (.int x :: .int (nI i) :: .ref h0 :: rest)) :=
  va_iast S.1 S.2.1 hK hP hD hS q0 t0 he ht (vp_in_nI hi hn) hdg (by rw [nI_clamp (Nat.lt_trans hi hn)]; exact kk)
theorem na_int {k : Int32} {N : Nat} (S : CallFix p m c cc nL s args lw_all own) (hK : va_K D vwCl tys s) (hP : va_P D vwCl ws H) (hD : va_D A ws) (hS : va_S A H0 H locs) (hA : ∀ q, H0.size ≤ q → A q) (hn : ¬ k < 0) (hN : k.toNatClampNeg = N) (hby : N * componentBytes .int ≤ 536870912) (hcells : cells + 1 ≤ R.cells) (hslots : slots + N ≤ R.slots) (hdg : decode cc pc = .ok (.newarray .int, 2))
    (kk : ∀ (q : Nat) (cA : ClassId) (H1 : Heap), va_K D vwCl (tys ++ [(cA, .int)]) s → va_P D vwCl (ws ++ [(q, .inl (cA, N, .inl (fun _ => nI 0)))]) H1 → va_D A (ws ++ [(q, .inl (cA, N, .inl (fun _ => nI 0)))]) → va_S A H0 H1 locs →
      W p l e R s m args below meth c H1 locs (cells + 1) (slots + N) Q (F0 m (pc + 2) ls (.ref q :: rest))) : W p l e R s m args below meth c H locs cells slots Q (F0 m pc ls (.int k :: rest)) :=
  va_newa (atype := .int) (ty := .int) (a0 := (N, .inl (fun _ => nI 0))) S.1 S.2.1 (S.2.2.2.2 _ q27) rfl hK hP hD hS hA (fun _ => rfl) hn hN hby hcells hslots hdg kk
end WR
/-- the world with the sieve -/
abbrev wX4 (h0 ax ay aa : Nat) (d : ClassId) (X Y : Nat → Nat) (f : Nat → Int32) : va_W := [(h0, .inr (0, [.ref ax, .ref ay, .ref aa])), (ax, .inl (d, 3, .inl (fun j => nI (X j)))), (ay, .inl (d, 3, .inl (fun j => nI (Y j)))), (aa, .inl (d, 65, .inl f))]
set_option maxHeartbeats 4000000 in
set_option maxRecDepth 100000 in
theorem metX0_corner (l : Launch) (D : va_G) (h0 ax ay aa sz : Nat) (d : ClassId) (X Y : Nat → Nat) (k a b : Int32) : Met l yX0_corner (ws_ yX0_corner cX0_corner 5 none) ({ frames := 1, cells := 0, slots := 0, locals := 20 } : Room) (va_Pc [.ref h0, .int k, .int a, .int b] (fun U => U.heap.size = sz ∧ va_P D vwCl (wX h0 ax ay aa d X Y) U.heap ∧ va_K D vwCl [(d, .int)] U ∧ va_D (fun _ => True) (wX h0 ax ay aa d X Y)))
    (va_Qv (fun _ : Unit => True) (fun _ t => va_P D vwCl (wX h0 ax ay aa d (gU X (gN k) (gB a 5)) (gU Y (gN k) (gB b 5))) t.heap ∧ va_K D vwCl [(d, .int)] t ∧ va_D (va_A (wX h0 ax ay aa d X Y) sz) (wX h0 ax ay aa d (gU X (gN k) (gB a 5)) (gU Y (gN k) (gB b 5)))) (va_A (wX h0 ax ay aa d X Y) sz)) 0 0 (va_A (wX h0 ax ay aa d X Y) sz) := by
  refine Met.ofW (cc := cX0_corner) (maxL := 5) (ret := none) (by decide) rfl ?_
  intro p e s m args below meth c s₁ B hml hv
  obtain ⟨rfl, hsz, hP, hK, hD0⟩ := hv
  have hx := B.exec
  have hb := B.bytes
  have hr := B.returns
  have hts := atoms_spec (ws := ws_ yX0_corner cX0_corner 5 none) B.pre
  have hts : ∀ w ∈ lw_all, w.before _ s = true := fun w h => hts w (List.mem_cons_of_mem _ h)
  have hown : s.vm.findClass RX0 = some m.cls := findClass_of_methodNamed B.named
  have hlocks := B.notSynchronized
  subst hsz
  have hD := hD0.self (sz := s.heap.size)
  generalize hAe : va_A (wX h0 ax ay aa d X Y) s.heap.size = A at hD ⊢
  have hA : ∀ q : Nat, s.heap.size ≤ q → A q := fun q h => by rw [← hAe]; exact Or.inr h
  have hS : va_S A s.heap s.heap [] := va_S.rf
  have hP : va_P D vwCl (wX h0 ax ay aa d X Y) s.heap := hP
  have hl := lv_entry ([.ref h0, .int k, .int a, .int b]) (n := 5) (Nat.le_of_ble_eq_true rfl)
  rw [lg_entry_eq]
  generalize (lg_sl ([.ref h0, .int k, .int a, .int b]) ++ List.replicate (5 - (lg_sl ([.ref h0, .int k, .int a, .int b])).length) Slot.unset).toArray = ls at hl ⊢
  have hl : lv_has ls 5 [(0, .ref h0), (1, .int k), (2, .int a), (3, .int b)] := hl
  have S : CallFix p m c cX0_corner 5 s ([.ref h0, .int k, .int a, .int b] : List Value).toArray lw_all RX0 := ⟨hx, hb, hml, hown, hts⟩
  refine lv_iload_n hx hb dX0_corner_0 rfl (lv_at hl 1 rfl) ?_
  refine ro_S 1 S (metX0_number l D k) (lw_S q32 q33 q5 q34) rfl rfl (by decide +kernel) rfl ⟨Nat.le_of_ble_eq_true rfl, Nat.le_of_ble_eq_true rfl⟩ va_P.nil (hK.sub [] rfl) hl.1 rfl (Nat.le_of_ble_eq_true rfl) dX0_corner_1 ⟨Nat.zero_le _, Nat.zero_le _⟩ (fun r hr9 => ?_)
  subst hr9
  refine lv_istore (lv' := [(4, .int (nI (gN k))), (0, .ref h0), (1, .int k), (2, .int a), (3, .int b)]) hx hb dX0_corner_4 hl (by decide) rfl (fun ls hl => ?_)
  refine lv_aload_n hx hb dX0_corner_6 rfl (lv_at hl 1 rfl) ?_
  refine x0_x S hK hP 0 rfl dX0_corner_7 ?_
  refine lv_iload hx hb dX0_corner_10 (lv_at hl 0 rfl) ?_
  refine lv_iload_n hx hb dX0_corner_12 rfl (lv_at hl 3 rfl) ?_
  refine lv_bipush (v := nI 31) hx hb dX0_corner_13 (by decide) ?_
  refine lv_iand hx hb dX0_corner_15 ?_
  refine tp_i (y := nI (gB a 5)) (pk_and a 5 (by decide)) ?_
  refine ga_st S hK hP hD hS 1 0 rfl rfl (gN_lt k) (by decide) dX0_corner_16 (fun H locs hP hD hS => ?_)
  rw [gU_upd] at hP hD
  have hP : va_P D vwCl (wX h0 ax ay aa d (gU X (gN k) (gB a 5)) Y) H := hP
  have hD : va_D A (wX h0 ax ay aa d (gU X (gN k) (gB a 5)) Y) := hD
  refine lv_aload_n hx hb dX0_corner_17 rfl (lv_at hl 1 rfl) ?_
  refine x0_y S hK hP 0 rfl dX0_corner_18 ?_
  refine lv_iload hx hb dX0_corner_21 (lv_at hl 0 rfl) ?_
  refine lv_iload_n hx hb dX0_corner_23 rfl (lv_at hl 4 rfl) ?_
  refine lv_bipush (v := nI 31) hx hb dX0_corner_24 (by decide) ?_
  refine lv_iand hx hb dX0_corner_26 ?_
  refine tp_i (y := nI (gB b 5)) (pk_and b 5 (by decide)) ?_
  refine ga_st S hK hP hD hS 2 0 rfl rfl (gN_lt k) (by decide) dX0_corner_27 (fun H locs hP hD hS => ?_)
  rw [gU_upd] at hP hD
  have hP : va_P D vwCl (wX h0 ax ay aa d (gU X (gN k) (gB a 5)) (gU Y (gN k) (gB b 5))) H := hP
  have hD : va_D A (wX h0 ax ay aa d (gU X (gN k) (gB a 5)) (gU Y (gN k) (gB b 5))) := hD
  exact W.vret hx hb hr (fun t ht hW => ⟨⟨(), rfl, trivial, by rw [ht]; exact hP, va_K.moved hW.alike hK, hD⟩, hS.F ht⟩) hS.2.2 dX0_corner_28
set_option maxHeartbeats 4000000 in
set_option maxRecDepth 100000 in
theorem metX1_corner (l : Launch) (D : va_G) (h0 ax ay sz : Nat) (d : ClassId) (X Y : Nat → Nat) (k a b : Int32) : Met l yX1_corner (ws_ yX1_corner cX1_corner 5 none) ({ frames := 0, cells := 0, slots := 0, locals := 0 } : Room) (va_Pc [.ref h0, .int k, .int a, .int b] (fun U => U.heap.size = sz ∧ va_P D vwCl (wM h0 ax ay d X Y) U.heap ∧ va_K D vwCl [(d, .int)] U ∧ va_D (fun _ => True) (wM h0 ax ay d X Y)))
    (va_Qv (fun _ : Unit => True) (fun _ t => va_P D vwCl (wM h0 ax ay d (gU X (gN k) (gB a 5)) (gU Y (gN k) (gB b 5))) t.heap ∧ va_K D vwCl [(d, .int)] t ∧ va_D (va_A (wM h0 ax ay d X Y) sz) (wM h0 ax ay d (gU X (gN k) (gB a 5)) (gU Y (gN k) (gB b 5)))) (va_A (wM h0 ax ay d X Y) sz)) 0 0 (va_A (wM h0 ax ay d X Y) sz) := by
  refine Met.ofW (cc := cX1_corner) (maxL := 5) (ret := none) (by decide) rfl ?_
  intro p e s m args below meth c s₁ B hml hv
  obtain ⟨rfl, hsz, hP, hK, hD0⟩ := hv
  have hx := B.exec
  have hb := B.bytes
  have hr := B.returns
  have hts := atoms_spec (ws := ws_ yX1_corner cX1_corner 5 none) B.pre
  have hts : ∀ w ∈ lw_all, w.before _ s = true := fun w h => hts w (List.mem_cons_of_mem _ h)
  have hown : s.vm.findClass RX1 = some m.cls := findClass_of_methodNamed B.named
  have hlocks := B.notSynchronized
  subst hsz
  have hD := hD0.self (sz := s.heap.size)
  generalize hAe : va_A (wM h0 ax ay d X Y) s.heap.size = A at hD ⊢
  have hA : ∀ q : Nat, s.heap.size ≤ q → A q := fun q h => by rw [← hAe]; exact Or.inr h
  have hS : va_S A s.heap s.heap [] := va_S.rf
  have hP : va_P D vwCl (wM h0 ax ay d X Y) s.heap := hP
  have hl := lv_entry ([.ref h0, .int k, .int a, .int b]) (n := 5) (Nat.le_of_ble_eq_true rfl)
  rw [lg_entry_eq]
  generalize (lg_sl ([.ref h0, .int k, .int a, .int b]) ++ List.replicate (5 - (lg_sl ([.ref h0, .int k, .int a, .int b])).length) Slot.unset).toArray = ls at hl ⊢
  have hl : lv_has ls 5 [(0, .ref h0), (1, .int k), (2, .int a), (3, .int b)] := hl
  have S : CallFix p m c cX1_corner 5 s ([.ref h0, .int k, .int a, .int b] : List Value).toArray lw_all RX1 := ⟨hx, hb, hml, hown, hts⟩
  refine lv_iload_n hx hb dX1_corner_0 rfl (lv_at hl 1 rfl) ?_
  refine lv_ldc hx hb hown (hts _ q97) dX1_corner_1 ?_
  refine lv_iand hx hb dX1_corner_3 ?_
  refine tp_i (y := nI (k.toBitVec.toNat % 2 ^ 31)) (pk_and k 31 (by decide)) ?_
  refine lv_iconst (v := nI 3) hx hb dX1_corner_4 (by decide) ?_
  refine lv_irem hx hb dX1_corner_5 (by decide) ?_
  refine tp_i (y := nI (gN k)) (pk_rem (Nat.mod_lt _ (by decide)) (by decide) (by decide)) ?_
  refine lv_istore (lv' := [(4, .int (nI (gN k))), (0, .ref h0), (1, .int k), (2, .int a), (3, .int b)]) hx hb dX1_corner_6 hl (by decide) rfl (fun ls hl => ?_)
  refine lv_aload_n hx hb dX1_corner_8 rfl (lv_at hl 1 rfl) ?_
  refine x1_x S hK hP 0 rfl dX1_corner_9 ?_
  refine lv_iload hx hb dX1_corner_12 (lv_at hl 0 rfl) ?_
  refine lv_iload_n hx hb dX1_corner_14 rfl (lv_at hl 3 rfl) ?_
  refine lv_bipush (v := nI 31) hx hb dX1_corner_15 (by decide) ?_
  refine lv_iand hx hb dX1_corner_17 ?_
  refine tp_i (y := nI (gB a 5)) (pk_and a 5 (by decide)) ?_
  refine ga_st S hK hP hD hS 1 0 rfl rfl (gN_lt k) (by decide) dX1_corner_18 (fun H locs hP hD hS => ?_)
  rw [gU_upd] at hP hD
  have hP : va_P D vwCl (wM h0 ax ay d (gU X (gN k) (gB a 5)) Y) H := hP
  have hD : va_D A (wM h0 ax ay d (gU X (gN k) (gB a 5)) Y) := hD
  refine lv_aload_n hx hb dX1_corner_19 rfl (lv_at hl 1 rfl) ?_
  refine x1_y S hK hP 0 rfl dX1_corner_20 ?_
  refine lv_iload hx hb dX1_corner_23 (lv_at hl 0 rfl) ?_
  refine lv_iload_n hx hb dX1_corner_25 rfl (lv_at hl 4 rfl) ?_
  refine lv_bipush (v := nI 31) hx hb dX1_corner_26 (by decide) ?_
  refine lv_iand hx hb dX1_corner_28 ?_
  refine tp_i (y := nI (gB b 5)) (pk_and b 5 (by decide)) ?_
  refine ga_st S hK hP hD hS 2 0 rfl rfl (gN_lt k) (by decide) dX1_corner_29 (fun H locs hP hD hS => ?_)
  rw [gU_upd] at hP hD
  have hP : va_P D vwCl (wM h0 ax ay d (gU X (gN k) (gB a 5)) (gU Y (gN k) (gB b 5))) H := hP
  have hD : va_D A (wM h0 ax ay d (gU X (gN k) (gB a 5)) (gU Y (gN k) (gB b 5))) := hD
  exact W.vret hx hb hr (fun t ht hW => ⟨⟨(), rfl, trivial, by rw [ht]; exact hP, va_K.moved hW.alike hK, hD⟩, hS.F ht⟩) hS.2.2 dX1_corner_30
set_option maxHeartbeats 4000000 in
set_option maxRecDepth 100000 in
theorem metX0_init (l : Launch) (D : va_G) (h0 sz : Nat) : Met l yX0_init (ws_ yX0_init cX0_init 1 none) ({ frames := 1, cells := 3, slots := 71, locals := 12 } : Room) (va_Pc [.ref h0] (fun U => U.heap.size = sz ∧ va_P D vwCl [(h0, .inr (0, [.null, .null, .null]))] U.heap ∧ va_K D vwCl [] U ∧ va_D (fun _ => True) [(h0, .inr (0, [.null, .null, .null]))]))
    (va_Qv (fun _ : Unit => True) (fun _ t => ∃ (q1 q2 q3 : Nat) (d : ClassId), va_P D vwCl (wX4 h0 q1 q2 q3 d (fun _ => 0) (fun _ => 0) (fun _ => nI 0)) t.heap ∧ va_K D vwCl [(d, .int)] t ∧ va_D (va_A [(h0, .inr (0, [.null, .null, .null]))] sz) (wX4 h0 q1 q2 q3 d (fun _ => 0) (fun _ => 0) (fun _ => nI 0))) (va_A [(h0, .inr (0, [.null, .null, .null]))] sz)) 3 71 (va_A [(h0, .inr (0, [.null, .null, .null]))] sz) := by
  refine Met.ofW (cc := cX0_init) (maxL := 1) (ret := none) (by decide) rfl ?_
  intro p e s m args below meth c s₁ B hml hv
  obtain ⟨rfl, hsz, hP, hK, hD0⟩ := hv
  have hx := B.exec
  have hb := B.bytes
  have hr := B.returns
  have hts := atoms_spec (ws := ws_ yX0_init cX0_init 1 none) B.pre
  have hts : ∀ w ∈ lw_all, w.before _ s = true := fun w h => hts w (List.mem_cons_of_mem _ h)
  have hown : s.vm.findClass RX0 = some m.cls := findClass_of_methodNamed B.named
  have hlocks := B.notSynchronized
  have hin : meth.name = "<init>" := (name_of_methodNamed B.named B.method).1
  subst hsz
  have hD := hD0.self (sz := s.heap.size)
  generalize hAe : va_A ([(h0, .inr (0, [.null, .null, .null]))]) s.heap.size = A at hD ⊢
  have hA : ∀ q : Nat, s.heap.size ≤ q → A q := fun q h => by rw [← hAe]; exact Or.inr h
  have hS : va_S A s.heap s.heap [] := va_S.rf
  have hP : va_P D vwCl ([(h0, .inr (0, [.null, .null, .null]))]) s.heap := hP
  have hl := lv_entry ([.ref h0]) (n := 1) (Nat.le_of_ble_eq_true rfl)
  rw [lg_entry_eq]
  generalize (lg_sl ([.ref h0]) ++ List.replicate (1 - (lg_sl ([.ref h0])).length) Slot.unset).toArray = ls at hl ⊢
  have hl : lv_has ls 1 [(0, .ref h0)] := hl
  have S : CallFix p m c cX0_init 1 s ([.ref h0] : List Value).toArray lw_all RX0 := ⟨hx, hb, hml, hown, hts⟩
  refine lv_aload_n hx hb dX0_init_0 rfl (lv_at hl 0 rfl) ?_
  refine W.objInit hx hb hown (hts _ q14) (hts _ q15) (hts _ q16) rfl (by rw [hml]; exact hl.1) rfl dX0_init_1 (Nat.le_of_ble_eq_true rfl) (Nat.le_of_ble_eq_true rfl) ?_
  refine W.eq (g2 := F0 m 4 ls []) rfl ?_
  refine lv_aload_n hx hb dX0_init_4 rfl (lv_at hl 0 rfl) ?_
  refine lv_iconst (v := nI 3) hx hb dX0_init_5 (by decide) ?_
  refine na_int (N := 3) S hK hP hD hS hA (by decide) (by decide) (by decide) (Nat.le_of_ble_eq_true rfl) (Nat.le_of_ble_eq_true rfl) dX0_init_6 (fun q1 d1 H hK hP hD hS => ?_)
  have hP : va_P D vwCl [(h0, .inr (0, [.null, .null, .null])), (q1, .inl (d1, 3, .inl (fun _ => nI 0)))] H := hP
  have hD : va_D A [(h0, .inr (0, [.null, .null, .null])), (q1, .inl (d1, 3, .inl (fun _ => nI 0)))] := hD
  refine va_putF (D := D) (ci := 0) (v := .ref q1) (ty := .array .int) (C := RX0) (T := TX0) (N := 3) hx hb hts in_X0 tyX0 tyX0_ok nmX0 hown hK hP hD hS 0 rfl rfl 0 (by decide) (hts _ q17) (fun _ h9 => h9) rfl hin rfl (by decide +kernel) rfl rfl (Nat.le_of_ble_eq_true rfl) dX0_init_8 (fun H locs hP hD hS => ?_)
  have hP : va_P D vwCl [(h0, .inr (0, [.ref q1, .null, .null])), (q1, .inl (d1, 3, .inl (fun _ => nI 0)))] H := hP
  have hD : va_D A [(h0, .inr (0, [.ref q1, .null, .null])), (q1, .inl (d1, 3, .inl (fun _ => nI 0)))] := hD
  refine lv_aload_n hx hb dX0_init_11 rfl (lv_at hl 0 rfl) ?_
  refine lv_iconst (v := nI 3) hx hb dX0_init_12 (by decide) ?_
  refine na_int (N := 3) S hK hP hD hS hA (by decide) (by decide) (by decide) (Nat.le_of_ble_eq_true rfl) (Nat.le_of_ble_eq_true rfl) dX0_init_13 (fun q2 d2 H hK hP hD hS => ?_)
  have hP : va_P D vwCl [(h0, .inr (0, [.ref q1, .null, .null])), (q1, .inl (d1, 3, .inl (fun _ => nI 0))), (q2, .inl (d2, 3, .inl (fun _ => nI 0)))] H := hP
  have hD : va_D A [(h0, .inr (0, [.ref q1, .null, .null])), (q1, .inl (d1, 3, .inl (fun _ => nI 0))), (q2, .inl (d2, 3, .inl (fun _ => nI 0)))] := hD
  refine va_putF (D := D) (ci := 0) (v := .ref q2) (ty := .array .int) (C := RX0) (T := TX0) (N := 3) hx hb hts in_X0 tyX0 tyX0_ok nmX0 hown hK hP hD hS 0 rfl rfl 1 (by decide) (hts _ q18) (fun _ h9 => h9) rfl hin rfl (by decide +kernel) rfl rfl (Nat.le_of_ble_eq_true rfl) dX0_init_15 (fun H locs hP hD hS => ?_)
  have hP : va_P D vwCl [(h0, .inr (0, [.ref q1, .ref q2, .null])), (q1, .inl (d1, 3, .inl (fun _ => nI 0))), (q2, .inl (d2, 3, .inl (fun _ => nI 0)))] H := hP
  have hD : va_D A [(h0, .inr (0, [.ref q1, .ref q2, .null])), (q1, .inl (d1, 3, .inl (fun _ => nI 0))), (q2, .inl (d2, 3, .inl (fun _ => nI 0)))] := hD
  refine lv_aload_n hx hb dX0_init_18 rfl (lv_at hl 0 rfl) ?_
  refine lv_bipush (v := nI 65) hx hb dX0_init_19 (by decide) ?_
  refine na_int (N := 65) S hK hP hD hS hA (by decide) (by decide) (by decide) (Nat.le_of_ble_eq_true rfl) (Nat.le_of_ble_eq_true rfl) dX0_init_21 (fun q3 d3 H hK hP hD hS => ?_)
  have hP : va_P D vwCl [(h0, .inr (0, [.ref q1, .ref q2, .null])), (q1, .inl (d1, 3, .inl (fun _ => nI 0))), (q2, .inl (d2, 3, .inl (fun _ => nI 0))), (q3, .inl (d3, 65, .inl (fun _ => nI 0)))] H := hP
  have hD : va_D A [(h0, .inr (0, [.ref q1, .ref q2, .null])), (q1, .inl (d1, 3, .inl (fun _ => nI 0))), (q2, .inl (d2, 3, .inl (fun _ => nI 0))), (q3, .inl (d3, 65, .inl (fun _ => nI 0)))] := hD
  refine va_putF (D := D) (ci := 0) (v := .ref q3) (ty := .array .int) (C := RX0) (T := TX0) (N := 3) hx hb hts in_X0 tyX0 tyX0_ok nmX0 hown hK hP hD hS 0 rfl rfl 2 (by decide) (hts _ q19) (fun _ h9 => h9) rfl hin rfl (by decide +kernel) rfl rfl (Nat.le_of_ble_eq_true rfl) dX0_init_23 (fun H locs hP hD hS => ?_)
  have hP : va_P D vwCl [(h0, .inr (0, [.ref q1, .ref q2, .ref q3])), (q1, .inl (d1, 3, .inl (fun _ => nI 0))), (q2, .inl (d2, 3, .inl (fun _ => nI 0))), (q3, .inl (d3, 65, .inl (fun _ => nI 0)))] H := hP
  have hD : va_D A [(h0, .inr (0, [.ref q1, .ref q2, .ref q3])), (q1, .inl (d1, 3, .inl (fun _ => nI 0))), (q2, .inl (d2, 3, .inl (fun _ => nI 0))), (q3, .inl (d3, 65, .inl (fun _ => nI 0)))] := hD
  have hK : va_K D vwCl [(d1, .int), (d2, .int), (d3, .int)] s := hK
  have e2 : d2 = d1 := va_K_same hK 1 0 rfl rfl
  have e3 : d3 = d1 := va_K_same hK 2 0 rfl rfl
  subst e2
  subst e3
  refine W.widen (k := 3) (n := 71) (Nat.le_of_ble_eq_true rfl) (Nat.le_of_ble_eq_true rfl) ?_
  exact W.vret hx hb hr (fun t ht hW => ⟨⟨(), rfl, trivial, q1, q2, q3, _, by rw [ht]; exact hP, va_K.moved hW.alike (hK.sub [0] rfl), hD⟩, hS.F ht⟩) hS.2.2 dX0_init_26
set_option maxHeartbeats 4000000 in
set_option maxRecDepth 100000 in
theorem metX1_init (l : Launch) (D : va_G) (h0 sz : Nat) : Met l yX1_init (ws_ yX1_init cX1_init 1 none) ({ frames := 1, cells := 2, slots := 6, locals := 12 } : Room) (va_Pc [.ref h0] (fun U => U.heap.size = sz ∧ va_P D vwCl [(h0, .inr (1, [.null, .null]))] U.heap ∧ va_K D vwCl [] U ∧ va_D (fun _ => True) [(h0, .inr (1, [.null, .null]))]))
    (va_Qv (fun _ : Unit => True) (fun _ t => ∃ (q1 q2 : Nat) (d : ClassId), va_P D vwCl (wM h0 q1 q2 d (fun _ => 0) (fun _ => 0)) t.heap ∧ va_K D vwCl [(d, .int)] t ∧ va_D (va_A [(h0, .inr (1, [.null, .null]))] sz) (wM h0 q1 q2 d (fun _ => 0) (fun _ => 0))) (va_A [(h0, .inr (1, [.null, .null]))] sz)) 2 6 (va_A [(h0, .inr (1, [.null, .null]))] sz) := by
  refine Met.ofW (cc := cX1_init) (maxL := 1) (ret := none) (by decide) rfl ?_
  intro p e s m args below meth c s₁ B hml hv
  obtain ⟨rfl, hsz, hP, hK, hD0⟩ := hv
  have hx := B.exec
  have hb := B.bytes
  have hr := B.returns
  have hts := atoms_spec (ws := ws_ yX1_init cX1_init 1 none) B.pre
  have hts : ∀ w ∈ lw_all, w.before _ s = true := fun w h => hts w (List.mem_cons_of_mem _ h)
  have hown : s.vm.findClass RX1 = some m.cls := findClass_of_methodNamed B.named
  have hlocks := B.notSynchronized
  have hin : meth.name = "<init>" := (name_of_methodNamed B.named B.method).1
  subst hsz
  have hD := hD0.self (sz := s.heap.size)
  generalize hAe : va_A ([(h0, .inr (1, [.null, .null]))]) s.heap.size = A at hD ⊢
  have hA : ∀ q : Nat, s.heap.size ≤ q → A q := fun q h => by rw [← hAe]; exact Or.inr h
  have hS : va_S A s.heap s.heap [] := va_S.rf
  have hP : va_P D vwCl ([(h0, .inr (1, [.null, .null]))]) s.heap := hP
  have hl := lv_entry ([.ref h0]) (n := 1) (Nat.le_of_ble_eq_true rfl)
  rw [lg_entry_eq]
  generalize (lg_sl ([.ref h0]) ++ List.replicate (1 - (lg_sl ([.ref h0])).length) Slot.unset).toArray = ls at hl ⊢
  have hl : lv_has ls 1 [(0, .ref h0)] := hl
  have S : CallFix p m c cX1_init 1 s ([.ref h0] : List Value).toArray lw_all RX1 := ⟨hx, hb, hml, hown, hts⟩
  refine lv_aload_n hx hb dX1_init_0 rfl (lv_at hl 0 rfl) ?_
  refine W.objInit hx hb hown (hts _ q85) (hts _ q15) (hts _ q16) rfl (by rw [hml]; exact hl.1) rfl dX1_init_1 (Nat.le_of_ble_eq_true rfl) (Nat.le_of_ble_eq_true rfl) ?_
  refine W.eq (g2 := F0 m 4 ls []) rfl ?_
  refine lv_aload_n hx hb dX1_init_4 rfl (lv_at hl 0 rfl) ?_
  refine lv_iconst (v := nI 3) hx hb dX1_init_5 (by decide) ?_
  refine na_int (N := 3) S hK hP hD hS hA (by decide) (by decide) (by decide) (Nat.le_of_ble_eq_true rfl) (Nat.le_of_ble_eq_true rfl) dX1_init_6 (fun q1 d1 H hK hP hD hS => ?_)
  have hP : va_P D vwCl [(h0, .inr (1, [.null, .null])), (q1, .inl (d1, 3, .inl (fun _ => nI 0)))] H := hP
  have hD : va_D A [(h0, .inr (1, [.null, .null])), (q1, .inl (d1, 3, .inl (fun _ => nI 0)))] := hD
  refine va_putF (D := D) (ci := 1) (v := .ref q1) (ty := .array .int) (C := RX1) (T := TX1) (N := 2) hx hb hts in_X1 tyX1 tyX1_ok nmX1 hown hK hP hD hS 0 rfl rfl 0 (by decide) (hts _ q86) (fun _ h9 => h9) rfl hin rfl (by decide +kernel) rfl rfl (Nat.le_of_ble_eq_true rfl) dX1_init_8 (fun H locs hP hD hS => ?_)
  have hP : va_P D vwCl [(h0, .inr (1, [.ref q1, .null])), (q1, .inl (d1, 3, .inl (fun _ => nI 0)))] H := hP
  have hD : va_D A [(h0, .inr (1, [.ref q1, .null])), (q1, .inl (d1, 3, .inl (fun _ => nI 0)))] := hD
  refine lv_aload_n hx hb dX1_init_11 rfl (lv_at hl 0 rfl) ?_
  refine lv_iconst (v := nI 3) hx hb dX1_init_12 (by decide) ?_
  refine na_int (N := 3) S hK hP hD hS hA (by decide) (by decide) (by decide) (Nat.le_of_ble_eq_true rfl) (Nat.le_of_ble_eq_true rfl) dX1_init_13 (fun q2 d2 H hK hP hD hS => ?_)
  have hP : va_P D vwCl [(h0, .inr (1, [.ref q1, .null])), (q1, .inl (d1, 3, .inl (fun _ => nI 0))), (q2, .inl (d2, 3, .inl (fun _ => nI 0)))] H := hP
  have hD : va_D A [(h0, .inr (1, [.ref q1, .null])), (q1, .inl (d1, 3, .inl (fun _ => nI 0))), (q2, .inl (d2, 3, .inl (fun _ => nI 0)))] := hD
  refine va_putF (D := D) (ci := 1) (v := .ref q2) (ty := .array .int) (C := RX1) (T := TX1) (N := 2) hx hb hts in_X1 tyX1 tyX1_ok nmX1 hown hK hP hD hS 0 rfl rfl 1 (by decide) (hts _ q87) (fun _ h9 => h9) rfl hin rfl (by decide +kernel) rfl rfl (Nat.le_of_ble_eq_true rfl) dX1_init_15 (fun H locs hP hD hS => ?_)
  have hP : va_P D vwCl [(h0, .inr (1, [.ref q1, .ref q2])), (q1, .inl (d1, 3, .inl (fun _ => nI 0))), (q2, .inl (d2, 3, .inl (fun _ => nI 0)))] H := hP
  have hD : va_D A [(h0, .inr (1, [.ref q1, .ref q2])), (q1, .inl (d1, 3, .inl (fun _ => nI 0))), (q2, .inl (d2, 3, .inl (fun _ => nI 0)))] := hD
  have hK : va_K D vwCl [(d1, .int), (d2, .int)] s := hK
  have e2 : d2 = d1 := va_K_same hK 1 0 rfl rfl
  subst e2
  refine W.widen (k := 2) (n := 6) (Nat.le_of_ble_eq_true rfl) (Nat.le_of_ble_eq_true rfl) ?_
  exact W.vret hx hb hr (fun t ht hW => ⟨⟨(), rfl, trivial, q1, q2, _, by rw [ht]; exact hP, va_K.moved hW.alike (hK.sub [0] rfl), hD⟩, hS.F ht⟩) hS.2.2 dX1_init_18
end
section
/-! GridPoints.seen: the sieve -/
abbrev wXa (h0 ax ay aa : Nat) (d : ClassId) (f : Nat → Int32) : va_W := [(h0, .inr (0, [.ref ax, .ref ay, .ref aa])), (aa, .inl (d, 65, .inl f))]
/-- where it ends -/
abbrev snQ (below : List Frame) (args : Array Value) (s : State) (D : va_G) (h0 ax ay aa : Nat) (d : ClassId) (A : Nat → Prop) (v : Int) : State → Prop :=
  MQ below (va_Qi (fun (r : Int32) (_ : Nat → Int32) => r = Int32.ofInt v) (fun f t => va_P D vwCl (wXa h0 ax ay aa d f) t.heap ∧ va_K D vwCl [(d, .int)] t ∧ va_D A (wXa h0 ax ay aa d f)) A) args s 0 0 A
theorem gu_in {f : Nat → Int32} {k : Nat} {x : Int32} : upd f k x k = x := pk_us
set_option maxHeartbeats 4000000 in
set_option maxRecDepth 100000 in
theorem lp_sv3 {p : Program} {l : Launch} {e : Env} {R : Room} {s : State} {m : MethodId} {args : Array Value} {below : List Frame} {meth : Method} {c : Code} {D : va_G} {h0 ax ay aa : Nat} {d : ClassId} {A : Nat → Prop} {M : Nat} (hM1 : 1 ≤ M) (hM : M < 65) (C : Cx p m c cX0_seen 6 s args RX0 meth .int) (hK : va_K D vwCl [(d, .int)] s) {f : Nat → Int32} (hf : ∀ k, 1 ≤ k → k ≤ M → f k = nI (gA (M + 1) k)) : ∀ (N j : Nat), M - j < N → j ≤ M → ∀ (H : Heap) (locs : List Loc), va_P D vwCl (wXa h0 ax ay aa d f) H → va_D A (wXa h0 ax ay aa d f) → va_S A s.heap H locs → ∀ ls : Array Slot, lv_has ls 6 [(0, .ref h0), (2, .int (nI M)), (3, .int (Int32.ofInt (1 + fb_si (fun z => 2 * (gA (M + 1) (z + 1) : Int)) j))), (4, .int (nI (j + 1)))] →
    W p l e R s m args below meth c H locs 0 0 (snQ below args s D h0 ax ay aa d A (gG M)) (F0 m 103 ls []) := by
  obtain ⟨S, hr, hlocks⟩ := id C
  obtain ⟨hx, hb, hml, hown, hts⟩ := id S
  intro N
  induction N with
  | zero =>
    intro j h
    exact absurd h (Nat.not_lt_zero _)
  | succ N ih =>
    intro j hN hj H locs hP hD hS ls hl
    refine lv_iload hx hb dX0_seen_103 (lv_at hl 3 rfl) ?_
    refine lv_iload_n hx hb dX0_seen_105 rfl (lv_at hl 1 rfl) ?_
    refine lv_icmp_gt (tgt := 127) hx hb dX0_seen_106 (by decide) (fun c0 => ?_) (fun c0 => ?_)
    · have e0 : j = M := by
        have := (nI_ltI (by omega) (by omega)).mp c0
        omega
      subst e0
      refine lv_iload_n hx hb dX0_seen_127 rfl (lv_at hl 2 rfl) ?_
      exact W.iret hx hb hr (fun t ht hW => ⟨⟨_, f, rfl, congrArg Int32.ofInt (gg_seen hM1 hM).symm, by rw [ht]; exact hP, va_K.moved hW.alike hK, hD⟩, hS.F ht⟩) hS.2.2 dX0_seen_128
    · have lt : j + 1 ≤ M := Nat.le_of_not_lt fun z => c0 (nI_lt z (by omega))
      have e1 : (1 + fb_si (fun z => 2 * (gA (M + 1) (z + 1) : Int)) j) + 2 * (gA (M + 1) (j + 1) : Int) = 1 + fb_si (fun z => 2 * (gA (M + 1) (z + 1) : Int)) (j + 1) := by
        rw [fb_si_succ, Int.add_assoc]
      refine lv_iload_n hx hb dX0_seen_109 rfl (lv_at hl 2 rfl) ?_
      refine lv_iconst (v := nI 2) hx hb dX0_seen_110 (by decide) ?_
      refine lv_aload_n hx hb dX0_seen_111 rfl (lv_at hl 0 rfl) ?_
      refine x0_a S hK hP 0 rfl dX0_seen_112 ?_
      refine lv_iload hx hb dX0_seen_115 (lv_at hl 3 rfl) ?_
      refine ga_ld S hK hP 1 0 rfl rfl (show j + 1 < 65 by omega) (by decide) dX0_seen_117 ?_
      refine tp_i (y := nI (gA (M + 1) (j + 1))) (hf (j + 1) (by omega) lt) ?_
      refine lv_imul hx hb dX0_seen_118 ?_
      refine tp_i (y := Int32.ofInt (2 * (gA (M + 1) (j + 1) : Int))) (by rw [pk_mul, ← oi_n, Int.natCast_mul]; rfl) ?_
      refine lv_iadd hx hb dX0_seen_119 ?_
      refine tp_i (y := Int32.ofInt (1 + fb_si (fun z => 2 * (gA (M + 1) (z + 1) : Int)) (j + 1))) (by rw [← e1]; exact (Int32.ofInt_add _ _).symm) ?_
      refine lv_istore_n (lv' := [(3, .int (Int32.ofInt (1 + fb_si (fun z => 2 * (gA (M + 1) (z + 1) : Int)) (j + 1)))), (0, .ref h0), (2, .int (nI M)), (4, .int (nI (j + 1)))]) hx hb dX0_seen_120 rfl hl (by decide) rfl (fun ls hl => ?_)
      refine lv_iinc (v := nI (j + 1 + 1)) (lv' := [(4, .int (nI (j + 1 + 1))), (3, .int (Int32.ofInt (1 + fb_si (fun z => 2 * (gA (M + 1) (z + 1) : Int)) (j + 1)))), (0, .ref h0), (2, .int (nI M))]) hx hb dX0_seen_121 hl (k := 3) rfl (nI_1 (j + 1)) (by decide) rfl (fun ls hl => ?_)
      refine lv_goto (tgt := 103) hx hb dX0_seen_124 (by decide) ?_
      exact ih (j + 1) (by omega) lt H locs hP hD hS ls (lv_sub hl [2, 3, 1, 0] rfl)
theorem ga_on {i j : Nat} (hp : gPr i = true) (h : j % i = 0) : gA (i + 1) j = gA i j - gA i j / i := by
  rw [ga_succ, if_pos ⟨hp, h⟩]
theorem ga_off {i j : Nat} (h : gPr i = true → j % i ≠ 0) : gA (i + 1) j = gA i j := by
  rw [ga_succ, if_neg (fun k => h k.1 k.2)]
/-- the sieve within a round: below j it is done -/
abbrev sv_In (M i j : Nat) (f : Nat → Int32) : Prop := ∀ k, 1 ≤ k → k ≤ M → f k = nI (if k < j then gA (i + 1) k else gA i k)
theorem sv_next {M i j : Nat} {f : Nat → Int32} (hi : 2 ≤ i) (hj : j % i = 0) (h : sv_In M i j f) : sv_In M i (j + i) (upd f j (nI (gA (i + 1) j))) := by
  intro k h1 h2
  by_cases e : k = j
  · subst e
    rw [pk_us, if_pos (by omega)]
  · rw [pk_un e, h k h1 h2]
    by_cases lt : k < j
    · rw [if_pos lt, if_pos (by omega)]
    · rw [if_neg lt]
      by_cases lt2 : k < j + i
      · rw [if_pos lt2, ga_off (fun _ z => by
          have e1 : k = j + (k - j) := by omega
          rw [e1, Nat.add_mod, hj, Nat.zero_add, Nat.mod_mod, Nat.mod_eq_of_lt (by omega)] at z
          omega)]
      · rw [if_neg lt2]
set_option maxHeartbeats 4000000 in
set_option maxRecDepth 100000 in
theorem lp_sv2i {p : Program} {l : Launch} {e : Env} {R : Room} {s : State} {m : MethodId} {args : Array Value} {below : List Frame} {meth : Method} {c : Code} {D : va_G} {h0 ax ay aa : Nat} {d : ClassId} {A : Nat → Prop} {M : Nat} (hM1 : 1 ≤ M) (hM : M < 65) (C : Cx p m c cX0_seen 6 s args RX0 meth .int) (hK : va_K D vwCl [(d, .int)] s) {i : Nat} (hi : 2 ≤ i) (hiM : i ≤ M) (hp : gPr i = true)
    (kk : ∀ (f : Nat → Int32), (∀ k, 1 ≤ k → k ≤ M → f k = nI (gA (i + 1) k)) → ∀ (H : Heap) (locs : List Loc), va_P D vwCl (wXa h0 ax ay aa d f) H → va_D A (wXa h0 ax ay aa d f) → va_S A s.heap H locs → ∀ ls : Array Slot, lv_has ls 6 [(0, .ref h0), (2, .int (nI M)), (3, .int (nI 1)), (4, .int (nI i))] → W p l e R s m args below meth c H locs 0 0 (snQ below args s D h0 ax ay aa d A (gG M)) (F0 m 94 ls [])) : ∀ (N j : Nat), M + 1 - j < N → 1 ≤ j → j % i = 0 → j ≤ 64 + i → ∀ (f : Nat → Int32), sv_In M i j f → ∀ (H : Heap) (locs : List Loc), va_P D vwCl (wXa h0 ax ay aa d f) H → va_D A (wXa h0 ax ay aa d f) → va_S A s.heap H locs → ∀ ls : Array Slot, lv_has ls 6 [(0, .ref h0), (2, .int (nI M)), (3, .int (nI 1)), (4, .int (nI i)), (5, .int (nI j))] →
    W p l e R s m args below meth c H locs 0 0 (snQ below args s D h0 ax ay aa d A (gG M)) (F0 m 58 ls []) := by
  obtain ⟨S, hr, hlocks⟩ := id C
  obtain ⟨hx, hb, hml, hown, hts⟩ := id S
  intro N
  induction N with
  | zero =>
    intro j h
    exact absurd h (Nat.not_lt_zero _)
  | succ N ih =>
    intro j hN hj1 hji hjb f hf H locs hP hD hS ls hl
    refine lv_iload hx hb dX0_seen_58 (lv_at hl 4 rfl) ?_
    refine lv_iload_n hx hb dX0_seen_60 rfl (lv_at hl 1 rfl) ?_
    refine lv_icmp_gt (tgt := 94) hx hb dX0_seen_61 (by decide) (fun c0 => ?_) (fun c0 => ?_)
    · have gt := (nI_ltI (by omega) (by omega)).mp c0
      exact kk f (fun k h1 h2 => by rw [hf k h1 h2, if_pos (by omega)]) H locs hP hD hS ls (lv_sub hl [0, 1, 2, 3] rfl)
    · have le : j ≤ M := Nat.le_of_not_lt fun z => c0 (nI_lt z (by omega))
      have j65 : j < 65 := by omega
      have fj : f j = nI (gA i j) := by rw [hf j hj1 le, if_neg (Nat.lt_irrefl j)]
      have gl := ga_le j i
      have gd : gA i j / i ≤ gA i j := Nat.div_le_self _ _
      refine lv_aload_n hx hb dX0_seen_64 rfl (lv_at hl 0 rfl) ?_
      refine x0_a S hK hP 0 rfl dX0_seen_65 ?_
      refine lv_iload hx hb dX0_seen_68 (lv_at hl 4 rfl) ?_
      refine lv_dup2_11 hx hb dX0_seen_70 rfl rfl ?_
      refine ga_ld S hK hP 1 0 rfl rfl (j65) (by decide) dX0_seen_71 ?_
      refine tp_i (y := nI (gA i j)) (fj) ?_
      refine lv_aload_n hx hb dX0_seen_72 rfl (lv_at hl 0 rfl) ?_
      refine x0_a S hK hP 0 rfl dX0_seen_73 ?_
      refine lv_iload hx hb dX0_seen_76 (lv_at hl 4 rfl) ?_
      refine ga_ld S hK hP 1 0 rfl rfl (j65) (by decide) dX0_seen_78 ?_
      refine tp_i (y := nI (gA i j)) (fj) ?_
      refine lv_iload hx hb dX0_seen_79 (lv_at hl 3 rfl) ?_
      refine lv_idiv hx hb dX0_seen_81 (nI_ne0 (by omega) (by omega)) ?_
      refine tp_i (y := nI (gA i j / i)) (pk_div (by omega) (by omega) (by omega)) ?_
      refine lv_isub hx hb dX0_seen_82 ?_
      refine tp_i (y := nI (gA (i + 1) j)) (by rw [ga_on hp hji]; exact pk_sub gd) ?_
      refine ga_st S hK hP hD hS 1 0 rfl rfl j65 (by decide) dX0_seen_83 (fun H locs hP hD hS => ?_)
      have hP : va_P D vwCl (wXa h0 ax ay aa d (upd f j (nI (gA (i + 1) j)))) H := hP
      have hD : va_D A (wXa h0 ax ay aa d (upd f j (nI (gA (i + 1) j)))) := hD
      refine lv_iload hx hb dX0_seen_84 (lv_at hl 4 rfl) ?_
      refine lv_iload hx hb dX0_seen_86 (lv_at hl 3 rfl) ?_
      refine lv_iadd hx hb dX0_seen_88 ?_
      refine tp_i (y := nI (j + i)) (nI_add _ _) ?_
      refine lv_istore (lv' := [(5, .int (nI (j + i))), (0, .ref h0), (2, .int (nI M)), (3, .int (nI 1)), (4, .int (nI i))]) hx hb dX0_seen_89 hl (by decide) rfl (fun ls hl => ?_)
      refine lv_goto (tgt := 58) hx hb dX0_seen_91 (by decide) ?_
      exact ih (j + i) (by omega) (by omega) (by rw [Nat.add_mod_right]; exact hji) (by omega) _ (sv_next hi hji hf) H locs hP hD hS ls (lv_sub hl [1, 2, 3, 4, 0] rfl)
set_option maxHeartbeats 4000000 in
set_option maxRecDepth 100000 in
theorem lp_sv2 {p : Program} {l : Launch} {e : Env} {R : Room} {s : State} {m : MethodId} {args : Array Value} {below : List Frame} {meth : Method} {c : Code} {D : va_G} {h0 ax ay aa : Nat} {d : ClassId} {A : Nat → Prop} {M : Nat} (hM1 : 1 ≤ M) (hM : M < 65) (C : Cx p m c cX0_seen 6 s args RX0 meth .int) (hK : va_K D vwCl [(d, .int)] s) : ∀ (N i : Nat), M + 1 - i < N → 2 ≤ i → i ≤ M + 1 ∨ (i = 2 ∧ M = 1) → ∀ (f : Nat → Int32), (∀ k, 1 ≤ k → k ≤ M → f k = nI (gA i k)) → ∀ (H : Heap) (locs : List Loc), va_P D vwCl (wXa h0 ax ay aa d f) H → va_D A (wXa h0 ax ay aa d f) → va_S A s.heap H locs → ∀ ls : Array Slot, lv_has ls 6 [(0, .ref h0), (2, .int (nI M)), (3, .int (nI 1)), (4, .int (nI i))] →
    W p l e R s m args below meth c H locs 0 0 (snQ below args s D h0 ax ay aa d A (gG M)) (F0 m 36 ls []) := by
  obtain ⟨S, hr, hlocks⟩ := id C
  obtain ⟨hx, hb, hml, hown, hts⟩ := id S
  intro N
  induction N with
  | zero =>
    intro i h
    exact absurd h (Nat.not_lt_zero _)
  | succ N ih =>
    intro i hN hi hiM f hf H locs hP hD hS ls hl
    refine lv_iload hx hb dX0_seen_36 (lv_at hl 3 rfl) ?_
    refine lv_iload_n hx hb dX0_seen_38 rfl (lv_at hl 1 rfl) ?_
    refine lv_icmp_gt (tgt := 100) hx hb dX0_seen_39 (by decide) (fun c0 => ?_) (fun c0 => ?_)
    · have e0 : i = M + 1 := by
        have := (nI_ltI (by omega) (by omega)).mp c0
        omega
      subst e0
      refine lv_iconst (v := nI 1) hx hb dX0_seen_100 (by decide) ?_
      refine lv_istore (lv' := [(4, .int (nI 1)), (0, .ref h0), (2, .int (nI M)), (3, .int (nI 1))]) hx hb dX0_seen_101 hl (by decide) rfl (fun ls hl => ?_)
      exact lp_sv3 hM1 hM C hK hf (M + 1) 0 (by omega) (Nat.zero_le _) H locs hP hD hS ls (lv_sub hl [1, 2, 3, 0] rfl)
    · have le : i ≤ M := Nat.le_of_not_lt fun z => c0 (nI_lt z (by omega))
      have i65 : i < 65 := by omega
      have gl := ga_le i i
      have next : ∀ (f : Nat → Int32), (∀ k, 1 ≤ k → k ≤ M → f k = nI (gA (i + 1) k)) → ∀ (H : Heap) (locs : List Loc), va_P D vwCl (wXa h0 ax ay aa d f) H → va_D A (wXa h0 ax ay aa d f) → va_S A s.heap H locs → ∀ ls : Array Slot, lv_has ls 6 [(0, .ref h0), (2, .int (nI M)), (3, .int (nI 1)), (4, .int (nI i))] → W p l e R s m args below meth c H locs 0 0 (snQ below args s D h0 ax ay aa d A (gG M)) (F0 m 94 ls []) := by
        intro f hf H locs hP hD hS ls hl
        refine lv_iinc (v := nI (i + 1)) (lv' := [(4, .int (nI (i + 1))), (0, .ref h0), (2, .int (nI M)), (3, .int (nI 1))]) hx hb dX0_seen_94 hl (k := 3) rfl (nI_1 i) (by decide) rfl (fun ls hl => ?_)
        refine lv_goto (tgt := 36) hx hb dX0_seen_97 (by decide) ?_
        exact ih (i + 1) (by omega) (by omega) (Or.inl (by omega)) f hf H locs hP hD hS ls (lv_sub hl [1, 2, 3, 0] rfl)
      refine lv_aload_n hx hb dX0_seen_42 rfl (lv_at hl 0 rfl) ?_
      refine x0_a S hK hP 0 rfl dX0_seen_43 ?_
      refine lv_iload hx hb dX0_seen_46 (lv_at hl 3 rfl) ?_
      refine ga_ld S hK hP 1 0 rfl rfl (i65) (by decide) dX0_seen_48 ?_
      refine tp_i (y := nI (gA i i)) (hf i (by omega) le) ?_
      refine lv_iload hx hb dX0_seen_49 (lv_at hl 3 rfl) ?_
      refine lv_icmp_ne (tgt := 94) hx hb dX0_seen_51 (by decide) (fun c1 => ?_) (fun c1 => ?_)
      · have np : ¬ gPr i = true := fun z => c1 (by rw [(ga_pr hi i65).mpr z])
        exact next f (fun k h1 h2 => by rw [hf k h1 h2, ga_off (fun z => absurd z np)]) H locs hP hD hS ls hl
      · have hp : gPr i = true := (ga_pr hi i65).mp ((nI_eq (by omega) (by omega)).mp c1)
        refine lv_iload hx hb dX0_seen_54 (lv_at hl 3 rfl) ?_
        refine lv_istore (lv' := [(5, .int (nI i)), (0, .ref h0), (2, .int (nI M)), (3, .int (nI 1)), (4, .int (nI i))]) hx hb dX0_seen_56 hl (by decide) rfl (fun ls hl => ?_)
        refine lp_sv2i hM1 hM C hK hi le hp next (M + 2) i (by omega) (by omega) (Nat.mod_self i) (by omega) f (fun k h1 h2 => ?_) H locs hP hD hS ls (lv_sub hl [1, 2, 3, 4, 0] rfl)
        rw [hf k h1 h2]
        by_cases lt : k < i
        · rw [if_pos lt, ga_off (fun _ z => by rw [Nat.mod_eq_of_lt lt] at z; omega)]
        · rw [if_neg lt]
set_option maxHeartbeats 4000000 in
set_option maxRecDepth 100000 in
theorem lp_sv1 {p : Program} {l : Launch} {e : Env} {R : Room} {s : State} {m : MethodId} {args : Array Value} {below : List Frame} {meth : Method} {c : Code} {D : va_G} {h0 ax ay aa : Nat} {d : ClassId} {A : Nat → Prop} {M : Nat} (hM1 : 1 ≤ M) (hM : M < 65) (C : Cx p m c cX0_seen 6 s args RX0 meth .int) (hK : va_K D vwCl [(d, .int)] s) : ∀ (N i : Nat), M + 1 - i < N → 1 ≤ i → i ≤ M + 1 → ∀ (f : Nat → Int32), (∀ k, 1 ≤ k → k < i → f k = nI k) → ∀ (H : Heap) (locs : List Loc), va_P D vwCl (wXa h0 ax ay aa d f) H → va_D A (wXa h0 ax ay aa d f) → va_S A s.heap H locs → ∀ ls : Array Slot, lv_has ls 6 [(0, .ref h0), (2, .int (nI M)), (3, .int (nI 1)), (4, .int (nI i))] →
    W p l e R s m args below meth c H locs 0 0 (snQ below args s D h0 ax ay aa d A (gG M)) (F0 m 12 ls []) := by
  obtain ⟨S, hr, hlocks⟩ := id C
  obtain ⟨hx, hb, hml, hown, hts⟩ := id S
  intro N
  induction N with
  | zero =>
    intro i h
    exact absurd h (Nat.not_lt_zero _)
  | succ N ih =>
    intro i hN hi hiM f hf H locs hP hD hS ls hl
    refine lv_iload hx hb dX0_seen_12 (lv_at hl 3 rfl) ?_
    refine lv_iload_n hx hb dX0_seen_14 rfl (lv_at hl 1 rfl) ?_
    refine lv_icmp_gt (tgt := 33) hx hb dX0_seen_15 (by decide) (fun c0 => ?_) (fun c0 => ?_)
    · have e0 : i = M + 1 := by
        have := (nI_ltI (by omega) (by omega)).mp c0
        omega
      subst e0
      refine lv_iconst (v := nI 2) hx hb dX0_seen_33 (by decide) ?_
      refine lv_istore (lv' := [(4, .int (nI 2)), (0, .ref h0), (2, .int (nI M)), (3, .int (nI 1))]) hx hb dX0_seen_34 hl (by decide) rfl (fun ls hl => ?_)
      exact lp_sv2 hM1 hM C hK (M + 1) 2 (by omega) (by decide) (by omega) f (fun k h1 h2 => by rw [hf k h1 (by omega), ga_two]) H locs hP hD hS ls (lv_sub hl [1, 2, 3, 0] rfl)
    · have le : i ≤ M := Nat.le_of_not_lt fun z => c0 (nI_lt z (by omega))
      have i65 : i < 65 := by omega
      refine lv_aload_n hx hb dX0_seen_18 rfl (lv_at hl 0 rfl) ?_
      refine x0_a S hK hP 0 rfl dX0_seen_19 ?_
      refine lv_iload hx hb dX0_seen_22 (lv_at hl 3 rfl) ?_
      refine lv_iload hx hb dX0_seen_24 (lv_at hl 3 rfl) ?_
      refine ga_st S hK hP hD hS 1 0 rfl rfl i65 (by decide) dX0_seen_26 (fun H locs hP hD hS => ?_)
      have hP : va_P D vwCl (wXa h0 ax ay aa d (upd f i (nI i))) H := hP
      have hD : va_D A (wXa h0 ax ay aa d (upd f i (nI i))) := hD
      refine lv_iinc (v := nI (i + 1)) (lv' := [(4, .int (nI (i + 1))), (0, .ref h0), (2, .int (nI M)), (3, .int (nI 1))]) hx hb dX0_seen_27 hl (k := 3) rfl (nI_1 i) (by decide) rfl (fun ls hl => ?_)
      refine lv_goto (tgt := 12) hx hb dX0_seen_30 (by decide) ?_
      exact ih (i + 1) (by omega) (by omega) (by omega) _ (fun k h1 h2 => by
        by_cases e : k = i
        · subst e; rw [pk_us]
        · rw [pk_un e, hf k h1 (by omega)]) H locs hP hD hS ls (lv_sub hl [1, 2, 3, 0] rfl)
set_option maxHeartbeats 4000000 in
set_option maxRecDepth 100000 in
theorem metX0_seen (l : Launch) (D : va_G) (h0 ax ay aa sz : Nat) (d : ClassId) (f : Nat → Int32) (k : Int32) : Met l yX0_seen (ws_ yX0_seen cX0_seen 6 (some .int)) ({ frames := 0, cells := 0, slots := 0, locals := 0 } : Room) (va_Pc [.ref h0, .int k] (fun U => U.heap.size = sz ∧ va_P D vwCl (wXa h0 ax ay aa d f) U.heap ∧ va_K D vwCl [(d, .int)] U ∧ va_D (fun _ => True) (wXa h0 ax ay aa d f)))
    (va_Qi (fun (r : Int32) (_ : Nat → Int32) => r = Int32.ofInt (gG (1 + gB k 6))) (fun g t => va_P D vwCl (wXa h0 ax ay aa d g) t.heap ∧ va_K D vwCl [(d, .int)] t ∧ va_D (va_A (wXa h0 ax ay aa d f) sz) (wXa h0 ax ay aa d g)) (va_A (wXa h0 ax ay aa d f) sz)) 0 0 (va_A (wXa h0 ax ay aa d f) sz) := by
  refine Met.ofW (cc := cX0_seen) (maxL := 6) (ret := some .int) (by decide) rfl ?_
  intro p e s m args below meth c s₁ B hml hv
  obtain ⟨rfl, hsz, hP, hK, hD0⟩ := hv
  have hx := B.exec
  have hb := B.bytes
  have hr := B.returns
  have hts := atoms_spec (ws := ws_ yX0_seen cX0_seen 6 (some .int)) B.pre
  have hts : ∀ w ∈ lw_all, w.before _ s = true := fun w h => hts w (List.mem_cons_of_mem _ h)
  have hown : s.vm.findClass RX0 = some m.cls := findClass_of_methodNamed B.named
  have hlocks := B.notSynchronized
  subst hsz
  have hD := hD0.self (sz := s.heap.size)
  generalize hAe : va_A (wXa h0 ax ay aa d f) s.heap.size = A at hD ⊢
  have hA : ∀ q : Nat, s.heap.size ≤ q → A q := fun q h => by rw [← hAe]; exact Or.inr h
  have hS : va_S A s.heap s.heap [] := va_S.rf
  have hP : va_P D vwCl (wXa h0 ax ay aa d f) s.heap := hP
  have hl := lv_entry ([.ref h0, .int k]) (n := 6) (Nat.le_of_ble_eq_true rfl)
  rw [lg_entry_eq]
  generalize (lg_sl ([.ref h0, .int k]) ++ List.replicate (6 - (lg_sl ([.ref h0, .int k])).length) Slot.unset).toArray = ls at hl ⊢
  have hl : lv_has ls 6 [(0, .ref h0), (1, .int k)] := hl
  have S : CallFix p m c cX0_seen 6 s ([.ref h0, .int k] : List Value).toArray lw_all RX0 := ⟨hx, hb, hml, hown, hts⟩
  have bk := gB_lt k 6
  refine lv_iconst (v := nI 1) hx hb dX0_seen_0 (by decide) ?_
  refine lv_iload_n hx hb dX0_seen_1 rfl (lv_at hl 1 rfl) ?_
  refine lv_bipush (v := nI 63) hx hb dX0_seen_2 (by decide) ?_
  refine lv_iand hx hb dX0_seen_4 ?_
  refine tp_i (y := nI (gB k 6)) (pk_and k 6 (by decide)) ?_
  refine lv_iadd hx hb dX0_seen_5 ?_
  refine tp_i (y := nI (1 + gB k 6)) (nI_add _ _) ?_
  refine lv_istore_n (lv' := [(2, .int (nI (1 + gB k 6))), (0, .ref h0), (1, .int k)]) hx hb dX0_seen_6 rfl hl (by decide) rfl (fun ls hl => ?_)
  refine lv_iconst (v := nI 1) hx hb dX0_seen_7 (by decide) ?_
  refine lv_istore_n (lv' := [(3, .int (nI 1)), (2, .int (nI (1 + gB k 6))), (0, .ref h0), (1, .int k)]) hx hb dX0_seen_8 rfl hl (by decide) rfl (fun ls hl => ?_)
  refine lv_iconst (v := nI 1) hx hb dX0_seen_9 (by decide) ?_
  refine lv_istore (lv' := [(4, .int (nI 1)), (3, .int (nI 1)), (2, .int (nI (1 + gB k 6))), (0, .ref h0), (1, .int k)]) hx hb dX0_seen_10 hl (by decide) rfl (fun ls hl => ?_)
  exact lp_sv1 (by omega) (by omega) ⟨S, hr, hlocks⟩ hK (1 + gB k 6 + 1) 1 (by omega) (by decide) (by omega) f (fun k h1 h2 => absurd h2 (by omega)) s.heap [] hP hD hS ls (lv_sub hl [3, 2, 1, 0] rfl)
end
section
/-! THE CLAIM OUT OF ONE WALK OF THE LAW'S BODY. Your part is whole_start (and what it stands on); all else here is the same for every law, but numbers. -/
def R_law : String := "GridPointsLaw"
def lw_P (b : Addr) (xs : List Int32) (args : Array Value) (s : State) : Prop := args = #[.ref b] ∧ s.IntsAt b xs ∧ xs.length ≤ 320 ∧ (Jvm.Cond.and given_1 narrow_1).before args s = true
def lw_Q (_ : Array Value) (s : State) (o : Outcome) (t : State) : Prop := o = .returned (some (.int 1)) ∧ Framed s o t [] 600000 7290000
def lw_Z (below : List Frame) (a : Array Value) (s : State) : State → Prop := fun t => ∃ o, t.status = .running ∧ Ended t below o ∧ lw_Q a s o t
/-- the law's own end, with 1 on the stack, nothing written that was there before, its room as the claim has it -/
theorem lw_ret {p : Program} {l : Launch} {e : Env} {s : State} {m : MethodId} {below : List Frame} {meth : Method} {c : Code} {b : Nat} (hx : p.tables.exec = Jvm.exec) (hb : c.code = code) (hr : meth.sig.returnType = ret) (hlocks : meth.locks = false) {pc : Nat} {H : Heap} {ls : Array Slot} (hdg : decode code pc = .ok (.ireturn, 1)) : W p l e room_1 s m #[Value.ref b] below meth c H [] 600000 7290000 (lw_Z below #[Value.ref b] s) (F0 m pc ls [.int 1]) := by
  intro T hT X
  obtain ⟨fs, hret, hrun, hended, hW, hframe⟩ := X.leave (v := some (.int 1)) (hlocks := hlocks) (fun h => by rw [hr] at h; cases h)
  have hmeth' : T.vm.method? m = some meth := X.method'
  refine ⟨T.setFrames fs, ?_, .returned (some (.int 1)), hrun, hended, rfl, ⟨_, rfl⟩, hW, hframe⟩
  jvm_step X.here [X.here.top, hx, hb, hdg, hmeth', hr, ret, narrow_b1]
  (try refine ⟨rfl, ?_⟩); (try refine ⟨rfl, ?_⟩)
  first | (intro acts; rw [hret _ acts rfl rfl rfl]) | rw [hret _ _ rfl rfl rfl]
  exact Steps.refl _
/-- what holds at the law's entry: the machine, the code, the tables' words (any of lw_tbl by 'hts w (by decide +kernel)'), the script of L ints xs at the cell b, what the Statement gives of the start (any of its parts by flat_of_before) -/
def lw_At (p : Program) (s : State) (m : MethodId) (meth : Method) (c : Code) (b L : Nat) (xs : Nat → Int32) : Prop :=
  p.tables.exec = Jvm.exec ∧ c.code = code ∧ meth.sig.returnType = ret ∧ c.maxLocals = 4 ∧ s.vm.findClass R_law = some m.cls ∧ (∀ w ∈ lw_tbl, w.before #[Value.ref b] s = true) ∧ va_X b L xs s s.heap ∧ b < s.heap.size ∧ meth.locks = false ∧ (Jvm.Cond.and given_1 narrow_1).before #[Value.ref b] s = true
end
section
/-! THE LAW'S LOOP -/
/-- both systems, with the same corners -/
abbrev wL (x0 ax ay aa m0 bx b1 : Nat) (d : ClassId) (X Y : Nat → Nat) (f : Nat → Int32) : va_W := [(x0, .inr (0, [.ref ax, .ref ay, .ref aa])), (ax, .inl (d, 3, .inl (fun j => nI (X j)))), (ay, .inl (d, 3, .inl (fun j => nI (Y j)))), (aa, .inl (d, 65, .inl f)), (m0, .inr (1, [.ref bx, .ref b1])), (bx, .inl (d, 3, .inl (fun j => nI (X j)))), (b1, .inl (d, 3, .inl (fun j => nI (Y j))))]
section SC
variable {p : Program} {l : Launch} {e : Env} {R : Room} {s : State} {m : MethodId} {args : Array Value} {below : List Frame} {meth : Method} {c : Code} {H H0 : Heap} {locs : List Loc} {cells slots : Nat} {Q : State → Prop}
variable {pc : Nat} {ls : Array Slot} {rest : List Value} {cc : ByteArray} {b L i : Nat} {xs : Nat → Int32} {A : Nat → Prop}
theorem sc_ld (hx : p.tables.exec = Jvm.exec) (hb : c.code = cc) (hX : va_X b L xs s H0) (hbl : b < H0.size) (hbA : ¬ A b) (hS : va_S A H0 H locs) (hi : i < L) (hL : L < 2 ^ 31) (hdg : decode cc pc = .ok (.iaload, 1))
    (kk : W p l e R s m args below meth c H locs cells slots Q (F0 m (pc + 1) ls (.int (xs i) :: rest))) : W p l e R s m args below meth c H locs cells slots Q (F0 m pc ls (.int (nI i) :: .ref b :: rest)) :=
  va_sld hx hb hX hbl hbA hS (vp_in_nI hi hL) hdg (by rw [nI_clamp (Nat.lt_trans hi hL)]; exact kk)
end SC
set_option maxHeartbeats 4000000 in
set_option maxRecDepth 100000 in
theorem law_loop {p : Program} {l : Launch} {e : Env} {s : State} {m : MethodId} {below : List Frame} {meth : Method} {c : Code} {D : va_G} {b L : Nat} {xs : Nat → Int32} (hL : L ≤ 320) (C0 : lw_At p s m meth c b L xs) {x0 ax ay aa m0 bx b1 : Nat} {d : ClassId} (hK : va_K D vwCl [(d, .int)] s) :
    ∀ (N i : Nat), L - i < N → i ≤ L → ∀ (X Y : Nat → Nat), gC X → gC Y → ∀ (f : Nat → Int32) (H : Heap) (locs : List Loc), va_P D vwCl (wL x0 ax ay aa m0 bx b1 d X Y f) H → va_D (fun q : Nat => s.heap.size ≤ q) (wL x0 ax ay aa m0 bx b1 d X Y f) → va_S (fun q : Nat => s.heap.size ≤ q) s.heap H locs → ∀ ls : Array Slot, lv_has ls 4 [(0, .ref b), (1, .ref x0), (2, .ref m0), (3, .int (nI i))] →
    W p l e room_1 s m #[Value.ref b] below meth c H locs 7 82 (lw_Z below #[Value.ref b] s) (F0 m 18 ls []) := by
  obtain ⟨hx, hb, hr, hml, hown, hts0, hX, hbl, hlocks, hgv⟩ := C0
  have hts : ∀ w ∈ lw_all, w.before #[Value.ref b] s = true := fun w h => hts0 w (lw_all_tbl h)
  have S : CallFix p m c cL_law 4 s #[Value.ref b] lw_all R_law := ⟨hx, hb, hml, hown, hts⟩
  have hA : ∀ q : Nat, s.heap.size ≤ q → (fun q : Nat => s.heap.size ≤ q) q := fun _ h => h
  have hbA : ¬ (fun q : Nat => s.heap.size ≤ q) b := Nat.not_le.mpr hbl
  have L31 : L < 2 ^ 31 := by omega
  intro N
  induction N with
  | zero =>
    intro i h
    exact absurd h (Nat.not_lt_zero _)
  | succ N ih =>
    intro i hN hi X Y cX cY f H locs hP hD hS ls hl
    refine lv_iload_n hx hb dL_law_18 rfl (lv_at hl 3 rfl) ?_
    refine lv_aload_n hx hb dL_law_19 rfl (lv_at hl 0 rfl) ?_
    refine va_slen hx hb hX hbl hbA hS dL_law_20 ?_
    refine lv_iconst (v := nI 5) hx hb dL_law_21 (by decide) ?_
    refine lv_isub hx hb dL_law_22 ?_
    refine tp_i (y := Int32.ofInt ((L : Int) - 5)) (oi_sub L 5) ?_
    refine lv_icmp_gt (tgt := 262) hx hb dL_law_23 (by decide) (fun c0 => ?_) (fun c0 => ?_)
    · refine lv_iconst (v := 1) hx hb dL_law_262 (by decide) ?_
      refine va_forget (fun q hq => hS.2.2 q hq) ?_
      refine W.widen (k := 600000) (n := 7290000) (by decide) (by decide) ?_
      exact lw_ret hx hb hr hlocks dL_law_263
    · have lt : i + 5 ≤ L := by
        have nz : ¬ ((L : Int) - 5 < (i : Int)) := fun z => c0 (by rw [← oi_n]; exact (oi_lt (by omega) (by omega) (by omega) (by omega)).mpr z)
        omega
      have next : ∀ (X Y : Nat → Nat), gC X → gC Y → ∀ (f : Nat → Int32) (H : Heap) (locs : List Loc), va_P D vwCl (wL x0 ax ay aa m0 bx b1 d X Y f) H → va_D (fun q : Nat => s.heap.size ≤ q) (wL x0 ax ay aa m0 bx b1 d X Y f) → va_S (fun q : Nat => s.heap.size ≤ q) s.heap H locs → ∀ ls : Array Slot, lv_has ls 4 [(0, .ref b), (1, .ref x0), (2, .ref m0), (3, .int (nI i))] → W p l e room_1 s m #[Value.ref b] below meth c H locs 7 82 (lw_Z below #[Value.ref b] s) (F0 m 256 ls []) := by
        intro X Y cX cY f H locs hP hD hS ls hl
        refine lv_iinc (v := nI (i + 5)) (lv' := [(3, .int (nI (i + 5))), (0, .ref b), (1, .ref x0), (2, .ref m0)]) hx hb dL_law_256 hl (k := 3) rfl (nI_add i 5) (by decide) rfl (fun ls hl => ?_)
        refine lv_goto (tgt := 18) hx hb dL_law_259 (by decide) ?_
        exact ih (i + 5) (by omega) lt X Y cX cY f H locs hP hD hS ls (lv_sub hl [1, 2, 3, 0] rfl)
      have same : W p l e room_1 s m #[Value.ref b] below meth c H locs 7 82 (lw_Z below #[Value.ref b] s) (F0 m 256 ls []) := next X Y cX cY f H locs hP hD hS ls hl
      have hPx : va_P D vwCl (wX x0 ax ay aa d X Y) H := hP.sub [0, 1, 2] rfl
      have hPm : va_P D vwCl (wM m0 bx b1 d X Y) H := hP.sub [4, 5, 6] rfl
      have rx := va_recv hK hP (ci := 0) (q0 := 0) rfl rfl
      have rm := va_recv hK hP (ci := 1) (q0 := 4) rfl rfl
      refine lv_aload_n hx hb dL_law_26 rfl (lv_at hl 0 rfl) ?_
      refine lv_iload_n hx hb dL_law_27 rfl (lv_at hl 3 rfl) ?_
      refine sc_ld hx hb hX hbl hbA hS (by omega) L31 dL_law_28 ?_
      refine lv_bipush (v := nI 7) hx hb dL_law_29 (by decide) ?_
      refine lv_iand hx hb dL_law_31 ?_
      refine tp_i (y := nI (gB (xs i) 3)) (pk_and (xs i) 3 (by decide)) ?_
      have b8 := gB_lt (xs i) 3
      rcases (show gB (xs i) 3 = 0 ∨ gB (xs i) 3 = 1 ∨ gB (xs i) 3 = 2 ∨ gB (xs i) 3 = 3 ∨ gB (xs i) 3 = 4 ∨ gB (xs i) 3 = 5 ∨ gB (xs i) 3 = 6 ∨ gB (xs i) 3 = 7 by omega) with z | z | z | z | z | z | z | z <;> rw [z]
      · refine lv_tableIn (tgt := 76) (off := 44) hx hb dL_law_32 (by decide) (by decide) (by decide) (by decide) ?_
        refine lv_aload_n hx hb dL_law_76 rfl (lv_at hl 1 rfl) ?_
        refine lv_aload_n hx hb dL_law_77 rfl (lv_at hl 0 rfl) ?_
        refine lv_iload_n hx hb dL_law_78 rfl (lv_at hl 3 rfl) ?_
        refine lv_iconst (v := nI 1) hx hb dL_law_79 (by decide) ?_
        refine lv_iadd hx hb dL_law_80 ?_
        refine tp_i (y := nI (i + 1)) (nI_add i 1) ?_
        refine sc_ld hx hb hX hbl hbA hS (by omega) L31 dL_law_81 ?_
        refine lv_aload_n hx hb dL_law_82 rfl (lv_at hl 0 rfl) ?_
        refine lv_iload_n hx hb dL_law_83 rfl (lv_at hl 3 rfl) ?_
        refine lv_iconst (v := nI 2) hx hb dL_law_84 (by decide) ?_
        refine lv_iadd hx hb dL_law_85 ?_
        refine tp_i (y := nI (i + 2)) (nI_add i 2) ?_
        refine sc_ld hx hb hX hbl hbA hS (by omega) L31 dL_law_86 ?_
        refine lv_aload_n hx hb dL_law_87 rfl (lv_at hl 0 rfl) ?_
        refine lv_iload_n hx hb dL_law_88 rfl (lv_at hl 3 rfl) ?_
        refine lv_iconst (v := nI 3) hx hb dL_law_89 (by decide) ?_
        refine lv_iadd hx hb dL_law_90 ?_
        refine tp_i (y := nI (i + 3)) (nI_add i 3) ?_
        refine sc_ld hx hb hX hbl hbA hS (by omega) L31 dL_law_91 ?_
        have hPc := hP.sub (ws' := (wX x0 ax ay aa d X Y)) [0, 1, 2] rfl
        have hDc := hD.sub (ws' := (wX x0 ax ay aa d X Y)) [0, 1, 2] (by decide) rfl
        have hFc := va_free (wc := (wX x0 ax ay aa d X Y)) hD hS hA [0, 1, 2] rfl
        refine va_callv (va_runV (As := [.int (xs (i + 1)), .int (xs (i + 2)), .int (xs (i + 3))]) (rest := []) S (metX0_corner l D x0 ax ay aa H.size d X Y (xs (i + 1)) (xs (i + 2)) (xs (i + 3))) (cwV 3 hts (lw_V q28 q29 q30 q5 q31) rfl rfl rfl (by decide +kernel) ⟨Nat.le_of_ble_eq_true rfl, Nat.le_of_ble_eq_true rfl⟩) ⟨fun a U g mk q => by obtain ⟨q0, q1, qP, qK, qD⟩ := q; exact ⟨q0, q1, qP, va_K.moved (u := U) (U := U.calling g mk a) (Vm.Alike.refl U.vm) qK, qD⟩, rx, fun U hU hW => ⟨rfl, by rw [hU], by rw [hU]; exact hPc, va_K.moved hW.alike hK, hDc.weaken (fun _ _ _ _ => trivial)⟩⟩ rfl rfl hl.1 rfl (lv_room (Nat.le_of_ble_eq_true rfl)) dL_law_92 ⟨Nat.le_of_ble_eq_true rfl, Nat.le_of_ble_eq_true rfl⟩) hS (fun q _ h => hFc q h) hFc (fun u t H1 locs ht hvm hw hB hz1 hk1 hS => ?_)
        obtain ⟨hP1, hK1, hD1⟩ := hB
        rw [ht] at hP1
        obtain ⟨hP, hD⟩ := va_join (wr := [(aa, .inl (d, 65, .inl f)), (m0, .inr (1, [.ref bx, .ref b1])), (bx, .inl (d, 3, .inl (fun j => nI (X j)))), (b1, .inl (d, 3, .inl (fun j => nI (Y j))))]) (w1 := (wX x0 ax ay aa d (gU X (gN (xs (i + 1))) (gB (xs (i + 2)) 5)) (gU Y (gN (xs (i + 1))) (gB (xs (i + 3)) 5)))) hP hD [0, 1, 2] [3, 4, 5, 6] rfl rfl (by decide) (by decide) hk1 hFc hP1 hD1
        generalize H1 = H at hP hS ⊢
        have rm := va_recv hK hP (ci := 1) (q0 := 1) rfl rfl
        refine lv_aload_n hx hb dL_law_95 rfl (lv_at hl 2 rfl) ?_
        refine lv_aload_n hx hb dL_law_96 rfl (lv_at hl 0 rfl) ?_
        refine lv_iload_n hx hb dL_law_97 rfl (lv_at hl 3 rfl) ?_
        refine lv_iconst (v := nI 1) hx hb dL_law_98 (by decide) ?_
        refine lv_iadd hx hb dL_law_99 ?_
        refine tp_i (y := nI (i + 1)) (nI_add i 1) ?_
        refine sc_ld hx hb hX hbl hbA hS (by omega) L31 dL_law_100 ?_
        refine lv_aload_n hx hb dL_law_101 rfl (lv_at hl 0 rfl) ?_
        refine lv_iload_n hx hb dL_law_102 rfl (lv_at hl 3 rfl) ?_
        refine lv_iconst (v := nI 2) hx hb dL_law_103 (by decide) ?_
        refine lv_iadd hx hb dL_law_104 ?_
        refine tp_i (y := nI (i + 2)) (nI_add i 2) ?_
        refine sc_ld hx hb hX hbl hbA hS (by omega) L31 dL_law_105 ?_
        refine lv_aload_n hx hb dL_law_106 rfl (lv_at hl 0 rfl) ?_
        refine lv_iload_n hx hb dL_law_107 rfl (lv_at hl 3 rfl) ?_
        refine lv_iconst (v := nI 3) hx hb dL_law_108 (by decide) ?_
        refine lv_iadd hx hb dL_law_109 ?_
        refine tp_i (y := nI (i + 3)) (nI_add i 3) ?_
        refine sc_ld hx hb hX hbl hbA hS (by omega) L31 dL_law_110 ?_
        have hPc := hP.sub (ws' := (wM m0 bx b1 d X Y)) [1, 2, 3] rfl
        have hDc := hD.sub (ws' := (wM m0 bx b1 d X Y)) [1, 2, 3] (by decide) rfl
        have hFc := va_free (wc := (wM m0 bx b1 d X Y)) hD hS hA [1, 2, 3] rfl
        refine va_callv (va_runV (As := [.int (xs (i + 1)), .int (xs (i + 2)), .int (xs (i + 3))]) (rest := []) S (metX1_corner l D m0 bx b1 H.size d X Y (xs (i + 1)) (xs (i + 2)) (xs (i + 3))) (cwV 3 hts (lw_V q93 q94 q95 q6 q96) rfl rfl rfl (by decide +kernel) ⟨Nat.le_of_ble_eq_true rfl, Nat.le_of_ble_eq_true rfl⟩) ⟨fun a U g mk q => by obtain ⟨q0, q1, qP, qK, qD⟩ := q; exact ⟨q0, q1, qP, va_K.moved (u := U) (U := U.calling g mk a) (Vm.Alike.refl U.vm) qK, qD⟩, rm, fun U hU hW => ⟨rfl, by rw [hU], by rw [hU]; exact hPc, va_K.moved hW.alike hK, hDc.weaken (fun _ _ _ _ => trivial)⟩⟩ rfl rfl hl.1 rfl (lv_room (Nat.le_of_ble_eq_true rfl)) dL_law_111 ⟨Nat.le_of_ble_eq_true rfl, Nat.le_of_ble_eq_true rfl⟩) hS (fun q _ h => hFc q h) hFc (fun u t H1 locs ht hvm hw hB hz1 hk1 hS => ?_)
        obtain ⟨hP1, hK1, hD1⟩ := hB
        rw [ht] at hP1
        obtain ⟨hP, hD⟩ := va_join (wr := [(x0, .inr (0, [.ref ax, .ref ay, .ref aa])), (ax, .inl (d, 3, .inl (fun j => nI ((gU X (gN (xs (i + 1))) (gB (xs (i + 2)) 5)) j)))), (ay, .inl (d, 3, .inl (fun j => nI ((gU Y (gN (xs (i + 1))) (gB (xs (i + 3)) 5)) j)))), (aa, .inl (d, 65, .inl f))]) (w1 := (wM m0 bx b1 d (gU X (gN (xs (i + 1))) (gB (xs (i + 2)) 5)) (gU Y (gN (xs (i + 1))) (gB (xs (i + 3)) 5)))) hP hD [1, 2, 3] [4, 5, 6, 0] rfl rfl (by decide) (by decide) hk1 hFc hP1 hD1
        generalize H1 = H at hP hS ⊢
        refine lv_goto (tgt := 256) hx hb dL_law_114 (by decide) ?_
        have c2 := gB_lt (xs (i + 2)) 5
        have c3 := gB_lt (xs (i + 3)) 5
        exact next (gU X (gN (xs (i + 1))) (gB (xs (i + 2)) 5)) (gU Y (gN (xs (i + 1))) (gB (xs (i + 3)) 5)) (gU_C cX (by omega)) (gU_C cY (by omega)) f H _ (hP.sub [0, 1, 2, 3, 4, 5, 6] rfl) (hD.sub [0, 1, 2, 3, 4, 5, 6] (by decide) rfl) hS ls hl
      · refine lv_tableIn (tgt := 117) (off := 85) hx hb dL_law_32 (by decide) (by decide) (by decide) (by decide) ?_
        refine lv_aload_n hx hb dL_law_117 rfl (lv_at hl 1 rfl) ?_
        refine ro_V 0 S (metX0_inside l D x0 ax ay aa d X Y cX cY) (lw_V q63 q64 q65 q5 q66) rfl rfl (by decide +kernel) rfl ⟨Nat.le_of_ble_eq_true rfl, Nat.le_of_ble_eq_true rfl⟩ rx hPx hK hl.1 rfl (Nat.le_of_ble_eq_true rfl) dL_law_118 ⟨Nat.le_of_ble_eq_true rfl, Nat.le_of_ble_eq_true rfl⟩ (fun r hr9 => ?_)
        subst hr9
        refine lv_aload_n hx hb dL_law_121 rfl (lv_at hl 2 rfl) ?_
        refine ro_V 0 S (metX1_inside l D m0 bx b1 d X Y cX cY) (lw_V q98 q99 q100 q6 q101) rfl rfl (by decide +kernel) rfl ⟨Nat.le_of_ble_eq_true rfl, Nat.le_of_ble_eq_true rfl⟩ rm hPm hK hl.1 rfl (Nat.le_of_ble_eq_true rfl) dL_law_122 ⟨Nat.le_of_ble_eq_true rfl, Nat.le_of_ble_eq_true rfl⟩ (fun r hr9 => ?_)
        subst hr9
        exact lv_icmp_eq (tgt := 256) hx hb dL_law_125 (by decide) (fun _ => same) (fun c1 => absurd rfl c1)
      · refine lv_tableIn (tgt := 130) (off := 98) hx hb dL_law_32 (by decide) (by decide) (by decide) (by decide) ?_
        refine lv_aload_n hx hb dL_law_130 rfl (lv_at hl 1 rfl) ?_
        refine ro_V 0 S (metX0_edge l D x0 ax ay aa d X Y cX cY) (lw_V q55 q56 q57 q5 q58) rfl rfl (by decide +kernel) rfl ⟨Nat.le_of_ble_eq_true rfl, Nat.le_of_ble_eq_true rfl⟩ rx hPx hK hl.1 rfl (Nat.le_of_ble_eq_true rfl) dL_law_131 ⟨Nat.le_of_ble_eq_true rfl, Nat.le_of_ble_eq_true rfl⟩ (fun r hr9 => ?_)
        subst hr9
        refine lv_aload_n hx hb dL_law_134 rfl (lv_at hl 2 rfl) ?_
        refine ro_V 0 S (metX1_edge l D m0 bx b1 d X Y cX cY) (lw_V q114 q115 q116 q6 q117) rfl rfl (by decide +kernel) rfl ⟨Nat.le_of_ble_eq_true rfl, Nat.le_of_ble_eq_true rfl⟩ rm hPm hK hl.1 rfl (Nat.le_of_ble_eq_true rfl) dL_law_135 ⟨Nat.le_of_ble_eq_true rfl, Nat.le_of_ble_eq_true rfl⟩ (fun r hr9 => ?_)
        subst hr9
        exact lv_icmp_eq (tgt := 256) hx hb dL_law_138 (by decide) (fun _ => same) (fun c1 => absurd rfl c1)
      · refine lv_tableIn (tgt := 143) (off := 111) hx hb dL_law_32 (by decide) (by decide) (by decide) (by decide) ?_
        refine lv_aload_n hx hb dL_law_143 rfl (lv_at hl 1 rfl) ?_
        refine ro_V 0 S (metX0_area l D x0 ax ay aa d X Y cX cY) (lw_V q36 q37 q38 q5 q39) rfl rfl (by decide +kernel) rfl ⟨Nat.le_of_ble_eq_true rfl, Nat.le_of_ble_eq_true rfl⟩ rx hPx hK hl.1 rfl (Nat.le_of_ble_eq_true rfl) dL_law_144 ⟨Nat.le_of_ble_eq_true rfl, Nat.le_of_ble_eq_true rfl⟩ (fun r hr9 => ?_)
        subst hr9
        refine lv_aload_n hx hb dL_law_147 rfl (lv_at hl 2 rfl) ?_
        refine ro_V 0 S (metX1_area l D m0 bx b1 d X Y cX cY) (lw_V q118 q119 q120 q6 q121) rfl rfl (by decide +kernel) rfl ⟨Nat.le_of_ble_eq_true rfl, Nat.le_of_ble_eq_true rfl⟩ rm hPm hK hl.1 rfl (Nat.le_of_ble_eq_true rfl) dL_law_148 ⟨Nat.le_of_ble_eq_true rfl, Nat.le_of_ble_eq_true rfl⟩ (fun r hr9 => ?_)
        subst hr9
        exact lv_icmp_eq (tgt := 256) hx hb dL_law_151 (by decide) (fun _ => same) (fun c1 => absurd rfl c1)
      · refine lv_tableIn (tgt := 156) (off := 124) hx hb dL_law_32 (by decide) (by decide) (by decide) (by decide) ?_
        refine lv_aload_n hx hb dL_law_156 rfl (lv_at hl 1 rfl) ?_
        refine lv_aload_n hx hb dL_law_157 rfl (lv_at hl 0 rfl) ?_
        refine lv_iload_n hx hb dL_law_158 rfl (lv_at hl 3 rfl) ?_
        refine lv_iconst (v := nI 1) hx hb dL_law_159 (by decide) ?_
        refine lv_iadd hx hb dL_law_160 ?_
        refine tp_i (y := nI (i + 1)) (nI_add i 1) ?_
        refine sc_ld hx hb hX hbl hbA hS (by omega) L31 dL_law_161 ?_
        refine ro_V 1 S (metX0_side l D x0 ax ay aa d X Y cX cY (xs (i + 1))) (lw_V q43 q44 q45 q5 q46) rfl rfl (by decide +kernel) rfl ⟨Nat.le_of_ble_eq_true rfl, Nat.le_of_ble_eq_true rfl⟩ rx hPx hK hl.1 rfl (Nat.le_of_ble_eq_true rfl) dL_law_162 ⟨Nat.le_of_ble_eq_true rfl, Nat.le_of_ble_eq_true rfl⟩ (fun r hr9 => ?_)
        subst hr9
        refine lv_aload_n hx hb dL_law_165 rfl (lv_at hl 2 rfl) ?_
        refine lv_aload_n hx hb dL_law_166 rfl (lv_at hl 0 rfl) ?_
        refine lv_iload_n hx hb dL_law_167 rfl (lv_at hl 3 rfl) ?_
        refine lv_iconst (v := nI 1) hx hb dL_law_168 (by decide) ?_
        refine lv_iadd hx hb dL_law_169 ?_
        refine tp_i (y := nI (i + 1)) (nI_add i 1) ?_
        refine sc_ld hx hb hX hbl hbA hS (by omega) L31 dL_law_170 ?_
        refine ro_V 1 S (metX1_side l D m0 bx b1 d X Y cX cY (xs (i + 1))) (lw_V q122 q123 q124 q6 q125) rfl rfl (by decide +kernel) rfl ⟨Nat.le_of_ble_eq_true rfl, Nat.le_of_ble_eq_true rfl⟩ rm hPm hK hl.1 rfl (Nat.le_of_ble_eq_true rfl) dL_law_171 ⟨Nat.le_of_ble_eq_true rfl, Nat.le_of_ble_eq_true rfl⟩ (fun r hr9 => ?_)
        subst hr9
        exact lv_icmp_eq (tgt := 256) hx hb dL_law_174 (by decide) (fun _ => same) (fun c1 => absurd rfl c1)
      · refine lv_tableIn (tgt := 179) (off := 147) hx hb dL_law_32 (by decide) (by decide) (by decide) (by decide) ?_
        refine lv_aload_n hx hb dL_law_179 rfl (lv_at hl 1 rfl) ?_
        refine lv_aload_n hx hb dL_law_180 rfl (lv_at hl 0 rfl) ?_
        refine lv_iload_n hx hb dL_law_181 rfl (lv_at hl 3 rfl) ?_
        refine lv_iconst (v := nI 1) hx hb dL_law_182 (by decide) ?_
        refine lv_iadd hx hb dL_law_183 ?_
        refine tp_i (y := nI (i + 1)) (nI_add i 1) ?_
        refine sc_ld hx hb hX hbl hbA hS (by omega) L31 dL_law_184 ?_
        refine lv_aload_n hx hb dL_law_185 rfl (lv_at hl 0 rfl) ?_
        refine lv_iload_n hx hb dL_law_186 rfl (lv_at hl 3 rfl) ?_
        refine lv_iconst (v := nI 2) hx hb dL_law_187 (by decide) ?_
        refine lv_iadd hx hb dL_law_188 ?_
        refine tp_i (y := nI (i + 2)) (nI_add i 2) ?_
        refine sc_ld hx hb hX hbl hbA hS (by omega) L31 dL_law_189 ?_
        refine lv_aload_n hx hb dL_law_190 rfl (lv_at hl 0 rfl) ?_
        refine lv_iload_n hx hb dL_law_191 rfl (lv_at hl 3 rfl) ?_
        refine lv_iconst (v := nI 3) hx hb dL_law_192 (by decide) ?_
        refine lv_iadd hx hb dL_law_193 ?_
        refine tp_i (y := nI (i + 3)) (nI_add i 3) ?_
        refine sc_ld hx hb hX hbl hbA hS (by omega) L31 dL_law_194 ?_
        refine lv_aload_n hx hb dL_law_195 rfl (lv_at hl 0 rfl) ?_
        refine lv_iload_n hx hb dL_law_196 rfl (lv_at hl 3 rfl) ?_
        refine lv_iconst (v := nI 4) hx hb dL_law_197 (by decide) ?_
        refine lv_iadd hx hb dL_law_198 ?_
        refine tp_i (y := nI (i + 4)) (nI_add i 4) ?_
        refine sc_ld hx hb hX hbl hbA hS (by omega) L31 dL_law_199 ?_
        refine ro_VL 4 S (metX0_under l D x0 (xs (i + 1)) (xs (i + 2)) (xs (i + 3)) (xs (i + 4))) (lw_V q68 q69 q70 q5 q71) rfl rfl (by decide +kernel) rfl ⟨Nat.le_of_ble_eq_true rfl, Nat.le_of_ble_eq_true rfl⟩ rx va_P.nil (hK.sub [] rfl) hl.1 rfl (Nat.le_of_ble_eq_true rfl) dL_law_200 ⟨Nat.le_of_ble_eq_true rfl, Nat.le_of_ble_eq_true rfl⟩ (fun r hr9 => ?_)
        subst hr9
        refine lv_aload_n hx hb dL_law_203 rfl (lv_at hl 2 rfl) ?_
        refine lv_aload_n hx hb dL_law_204 rfl (lv_at hl 0 rfl) ?_
        refine lv_iload_n hx hb dL_law_205 rfl (lv_at hl 3 rfl) ?_
        refine lv_iconst (v := nI 1) hx hb dL_law_206 (by decide) ?_
        refine lv_iadd hx hb dL_law_207 ?_
        refine tp_i (y := nI (i + 1)) (nI_add i 1) ?_
        refine sc_ld hx hb hX hbl hbA hS (by omega) L31 dL_law_208 ?_
        refine lv_aload_n hx hb dL_law_209 rfl (lv_at hl 0 rfl) ?_
        refine lv_iload_n hx hb dL_law_210 rfl (lv_at hl 3 rfl) ?_
        refine lv_iconst (v := nI 2) hx hb dL_law_211 (by decide) ?_
        refine lv_iadd hx hb dL_law_212 ?_
        refine tp_i (y := nI (i + 2)) (nI_add i 2) ?_
        refine sc_ld hx hb hX hbl hbA hS (by omega) L31 dL_law_213 ?_
        refine lv_aload_n hx hb dL_law_214 rfl (lv_at hl 0 rfl) ?_
        refine lv_iload_n hx hb dL_law_215 rfl (lv_at hl 3 rfl) ?_
        refine lv_iconst (v := nI 3) hx hb dL_law_216 (by decide) ?_
        refine lv_iadd hx hb dL_law_217 ?_
        refine tp_i (y := nI (i + 3)) (nI_add i 3) ?_
        refine sc_ld hx hb hX hbl hbA hS (by omega) L31 dL_law_218 ?_
        refine lv_aload_n hx hb dL_law_219 rfl (lv_at hl 0 rfl) ?_
        refine lv_iload_n hx hb dL_law_220 rfl (lv_at hl 3 rfl) ?_
        refine lv_iconst (v := nI 4) hx hb dL_law_221 (by decide) ?_
        refine lv_iadd hx hb dL_law_222 ?_
        refine tp_i (y := nI (i + 4)) (nI_add i 4) ?_
        refine sc_ld hx hb hX hbl hbA hS (by omega) L31 dL_law_223 ?_
        refine ro_VL 4 S (metX1_under l D m0 (xs (i + 1)) (xs (i + 2)) (xs (i + 3)) (xs (i + 4))) (lw_V q126 q127 q128 q6 q129) rfl rfl (by decide +kernel) rfl ⟨Nat.le_of_ble_eq_true rfl, Nat.le_of_ble_eq_true rfl⟩ rm va_P.nil (hK.sub [] rfl) hl.1 rfl (Nat.le_of_ble_eq_true rfl) dL_law_224 ⟨Nat.le_of_ble_eq_true rfl, Nat.le_of_ble_eq_true rfl⟩ (fun r hr9 => ?_)
        subst hr9
        refine W.lcmp hx hb dL_law_227 ?_
        exact lv_if_eq (tgt := 256) hx hb dL_law_228 (by decide) (fun _ => same) (fun c1 => absurd ((lg_cmp_eq _ _).mpr rfl) c1)
      · refine lv_tableIn (tgt := 233) (off := 201) hx hb dL_law_32 (by decide) (by decide) (by decide) (by decide) ?_
        refine lv_aload_n hx hb dL_law_233 rfl (lv_at hl 1 rfl) ?_
        refine lv_aload_n hx hb dL_law_234 rfl (lv_at hl 0 rfl) ?_
        refine lv_iload_n hx hb dL_law_235 rfl (lv_at hl 3 rfl) ?_
        refine lv_iconst (v := nI 1) hx hb dL_law_236 (by decide) ?_
        refine lv_iadd hx hb dL_law_237 ?_
        refine tp_i (y := nI (i + 1)) (nI_add i 1) ?_
        refine sc_ld hx hb hX hbl hbA hS (by omega) L31 dL_law_238 ?_
        have hPc := hP.sub (ws' := (wXa x0 ax ay aa d f)) [0, 3] rfl
        have hDc := hD.sub (ws' := (wXa x0 ax ay aa d f)) [0, 3] (by decide) rfl
        have hFc := va_free (wc := (wXa x0 ax ay aa d f)) hD hS hA [0, 3] rfl
        refine va_calli (va_runV (As := [.int (xs (i + 1))]) (rest := []) S (metX0_seen l D x0 ax ay aa H.size d f (xs (i + 1))) (cwV 1 hts (lw_V q76 q77 q78 q5 q79) rfl rfl rfl (by decide +kernel) ⟨Nat.le_of_ble_eq_true rfl, Nat.le_of_ble_eq_true rfl⟩) ⟨fun a U g mk q => by obtain ⟨q0, q1, qP, qK, qD⟩ := q; exact ⟨q0, q1, qP, va_K.moved (u := U) (U := U.calling g mk a) (Vm.Alike.refl U.vm) qK, qD⟩, rx, fun U hU hW => ⟨rfl, by rw [hU], by rw [hU]; exact hPc, va_K.moved hW.alike hK, hDc.weaken (fun _ _ _ _ => trivial)⟩⟩ rfl rfl hl.1 rfl (lv_room (Nat.le_of_ble_eq_true rfl)) dL_law_239 ⟨Nat.le_of_ble_eq_true rfl, Nat.le_of_ble_eq_true rfl⟩) hS (fun q _ h => hFc q h) hFc (fun r g t H1 locs ht hvm hw hB hz1 hk1 hS => ?_)
        obtain ⟨hP1, hK1, hD1⟩ := hB
        rw [ht] at hP1
        obtain ⟨hP, hD⟩ := va_join (wr := [(ax, .inl (d, 3, .inl (fun j => nI (X j)))), (ay, .inl (d, 3, .inl (fun j => nI (Y j)))), (m0, .inr (1, [.ref bx, .ref b1])), (bx, .inl (d, 3, .inl (fun j => nI (X j)))), (b1, .inl (d, 3, .inl (fun j => nI (Y j))))]) (w1 := (wXa x0 ax ay aa d g)) hP hD [0, 3] [1, 2, 4, 5, 6] rfl rfl (by decide) (by decide) hk1 hFc hP1 hD1
        generalize H1 = H at hP hS ⊢
        subst hw
        have rm := va_recv hK hP (ci := 1) (q0 := 2) rfl rfl
        refine lv_aload_n hx hb dL_law_242 rfl (lv_at hl 2 rfl) ?_
        refine lv_aload_n hx hb dL_law_243 rfl (lv_at hl 0 rfl) ?_
        refine lv_iload_n hx hb dL_law_244 rfl (lv_at hl 3 rfl) ?_
        refine lv_iconst (v := nI 1) hx hb dL_law_245 (by decide) ?_
        refine lv_iadd hx hb dL_law_246 ?_
        refine tp_i (y := nI (i + 1)) (nI_add i 1) ?_
        refine sc_ld hx hb hX hbl hbA hS (by omega) L31 dL_law_247 ?_
        refine ro_V 1 S (metX1_seen l D m0 (xs (i + 1))) (lw_V q130 q131 q132 q6 q133) rfl rfl (by decide +kernel) rfl ⟨Nat.le_of_ble_eq_true rfl, Nat.le_of_ble_eq_true rfl⟩ rm va_P.nil (hK.sub [] rfl) hl.1 rfl (Nat.le_of_ble_eq_true rfl) dL_law_248 ⟨Nat.le_of_ble_eq_true rfl, Nat.le_of_ble_eq_true rfl⟩ (fun r hr9 => ?_)
        subst hr9
        exact lv_icmp_eq (tgt := 256) hx hb dL_law_251 (by decide) (fun _ => next X Y cX cY g H _ (hP.sub [5, 0, 1, 6, 2, 3, 4] rfl) (hD.sub [5, 0, 1, 6, 2, 3, 4] (by decide) rfl) hS ls hl) (fun c1 => absurd rfl c1)
      · exact lv_tableOut (tgt := 256) hx hb dL_law_32 (by decide) (by decide) same
end
section
set_option maxHeartbeats 4000000 in
set_option maxRecDepth 100000 in
theorem whole_start {p : Program} {e : Env} {s : State} {m : MethodId} {below : List Frame} {meth : Method} {c : Code} (l : Launch) {b L : Nat} {xs : Nat → Int32} (hL : L ≤ 320) (C0 : lw_At p s m meth c b L xs) : W p l e room_1 s m #[Value.ref b] below meth c s.heap [] 0 0 (lw_Z below #[Value.ref b] s) (entryFrame m ([Value.ref b] : List Value).toArray 4) := by
  obtain ⟨hx, hb, hr, hml, hown, hts0, hX, hbl, hlocks, hgv⟩ := id C0
  have hts : ∀ w ∈ lw_all, w.before #[Value.ref b] s = true := fun w h => hts0 w (lw_all_tbl h)
  have S : CallFix p m c cL_law 4 s #[Value.ref b] lw_all R_law := ⟨hx, hb, hml, hown, hts⟩
  have hA : ∀ q : Nat, s.heap.size ≤ q → (fun q : Nat => s.heap.size ≤ q) q := fun _ h => h
  obtain ⟨c0_, iS0, hKn0⟩ := u_known (C := RX0) (T := TX0) (N := 3) (n := 3) hts0 (fun w h => lw_all_tbl (in_X0 w h)) (hts _ q10)
  obtain ⟨c1_, iS1, hKn1⟩ := u_known (C := RX1) (T := TX1) (N := 2) (n := 2) hts0 (fun w h => lw_all_tbl (in_X1 w h)) (hts _ q81)
  obtain ⟨D, hKc⟩ : ∃ D : va_G, ∀ (k : Nat) (q : vw_C), vwCl[k]? = some q → u_Kn s q.1 q.2.1 q.2.2 (D.1 k) (D.2 k) := by
    refine ⟨(fun k => if k = 0 then c0_ else c1_, fun k => if k = 0 then iS0 else iS1), ?_⟩
    intro k q hq
    match k, hq with
    | 0, hq => cases hq; exact hKn0
    | 1, hq => cases hq; exact hKn1
    | k + 2, hq => simp [vwCl] at hq
  have hS : va_S (fun q : Nat => s.heap.size ≤ q) s.heap s.heap [] := va_S.rf
  have hK : va_K D vwCl [] s := ⟨hKc, fun k q h => by simp at h⟩
  have hP : va_P D vwCl [] s.heap := fun k q h => by simp at h
  have hD : va_D (fun q : Nat => s.heap.size ≤ q) [] := ⟨fun i j p q h => by simp at h, fun k q h => by simp at h⟩
  have hl := lv_entry ([.ref b]) (n := 4) (Nat.le_of_ble_eq_true rfl)
  rw [lg_entry_eq]
  generalize (lg_sl ([.ref b]) ++ List.replicate (4 - (lg_sl ([.ref b])).length) Slot.unset).toArray = ls at hl ⊢
  have hl : lv_has ls 4 [(0, .ref b)] := hl
  refine va_new (ci := 0) (fs := [.null, .null, .null]) (C := RX0) (T := TX0) (N := 3) hx hb hts in_X0 tyX0 tyX0_ok hown (hts _ q9) (hts _ q10) (hts _ q5) hK hP hD hS hA rfl (fun j hj => by rcases (show j = 0 ∨ j = 1 ∨ j = 2 by omega) with rfl | rfl | rfl <;> rfl) (Nat.le_of_ble_eq_true rfl) (Nat.le_of_ble_eq_true rfl) dL_law_0 (fun x0 H hP hD hS => ?_)
  have hP : va_P D vwCl ([(x0, .inr (0, [.null, .null, .null]))]) H := hP
  have hD : va_D (fun q : Nat => s.heap.size ≤ q) ([(x0, .inr (0, [.null, .null, .null]))]) := hD
  refine W.widen (k := 1) (n := 3) (Nat.le_of_ble_eq_true rfl) (Nat.le_of_ble_eq_true rfl) ?_
  refine lv_dup hx hb dL_law_3 rfl ?_
  have hPc := hP.sub (ws' := [(x0, .inr (0, [.null, .null, .null]))]) [0] rfl
  have hDc := hD.sub (ws' := [(x0, .inr (0, [.null, .null, .null]))]) [0] (by decide) rfl
  have hFc := va_free (wc := [(x0, .inr (0, [.null, .null, .null]))]) hD hS hA [0] rfl
  refine va_callv (va_runI (As := []) (rest := [.ref x0]) S (metX0_init l D x0 H.size) (cwI 0 hts (lw_meth q13) rfl rfl rfl (hts _ q5) (hts _ q11) (hts _ q12) rfl (by decide +kernel) ⟨Nat.le_of_ble_eq_true rfl, Nat.le_of_ble_eq_true rfl⟩) ⟨fun a U g mk q => by obtain ⟨q0, q1, qP, qK, qD⟩ := q; exact ⟨q0, q1, qP, va_K.moved (u := U) (U := U.calling g mk a) (Vm.Alike.refl U.vm) qK, qD⟩, fun U hU hW => ⟨rfl, by rw [hU], by rw [hU]; exact hPc, va_K.moved hW.alike (hK.sub (tys' := []) [] rfl), hDc.weaken (fun _ _ _ _ => trivial)⟩⟩ rfl rfl hl.1 rfl (lv_room (Nat.le_of_ble_eq_true rfl)) dL_law_4 ⟨Nat.le_of_ble_eq_true rfl, Nat.le_of_ble_eq_true rfl⟩) hS (fun q _ h => hFc q h) hFc (fun u t H1 locs ht hvm hw hB hz1 hk1 hS => ?_)
  obtain ⟨ax, ay, aa, d, hP1, hK1, hD1⟩ := hB
  rw [ht] at hP1
  have hK1 := va_K.moved hvm.symm hK1
  obtain ⟨hP, hD⟩ := va_join (wr := []) (w1 := (wX4 x0 ax ay aa d (fun _ => 0) (fun _ => 0) (fun _ => nI 0))) hP hD [0] [] rfl rfl (by decide) (by decide) hk1 hFc hP1 hD1
  have hK := hK.app hK1
  generalize H1 = H at hP hS ⊢
  have hP : va_P D vwCl (wX4 x0 ax ay aa d (fun _ => 0) (fun _ => 0) (fun _ => nI 0)) H := hP
  have hD : va_D (fun q : Nat => s.heap.size ≤ q) (wX4 x0 ax ay aa d (fun _ => 0) (fun _ => 0) (fun _ => nI 0)) := hD
  have hK : va_K D vwCl [(d, .int)] s := hK
  refine W.widen (k := 4) (n := 74) (Nat.le_of_ble_eq_true rfl) (Nat.le_of_ble_eq_true rfl) ?_
  refine lv_astore_n (lv' := [(1, .ref x0), (0, .ref b)]) hx hb dL_law_7 rfl hl (by decide) rfl (fun ls hl => ?_)
  refine va_new (ci := 1) (fs := [.null, .null]) (C := RX1) (T := TX1) (N := 2) hx hb hts in_X1 tyX1 tyX1_ok hown (hts _ q80) (hts _ q81) (hts _ q6) hK hP hD hS hA rfl (fun j hj => by rcases (show j = 0 ∨ j = 1 by omega) with rfl | rfl <;> rfl) (Nat.le_of_ble_eq_true rfl) (Nat.le_of_ble_eq_true rfl) dL_law_8 (fun m0 H hP hD hS => ?_)
  have hP : va_P D vwCl ([(x0, .inr (0, [.ref ax, .ref ay, .ref aa])), (ax, .inl (d, 3, .inl (fun _ => nI 0))), (ay, .inl (d, 3, .inl (fun _ => nI 0))), (aa, .inl (d, 65, .inl (fun _ => nI 0))), (m0, .inr (1, [.null, .null]))]) H := hP
  have hD : va_D (fun q : Nat => s.heap.size ≤ q) ([(x0, .inr (0, [.ref ax, .ref ay, .ref aa])), (ax, .inl (d, 3, .inl (fun _ => nI 0))), (ay, .inl (d, 3, .inl (fun _ => nI 0))), (aa, .inl (d, 65, .inl (fun _ => nI 0))), (m0, .inr (1, [.null, .null]))]) := hD
  refine W.widen (k := 5) (n := 76) (Nat.le_of_ble_eq_true rfl) (Nat.le_of_ble_eq_true rfl) ?_
  refine lv_dup hx hb dL_law_11 rfl ?_
  have hPc := hP.sub (ws' := [(m0, .inr (1, [.null, .null]))]) [4] rfl
  have hDc := hD.sub (ws' := [(m0, .inr (1, [.null, .null]))]) [4] (by decide) rfl
  have hFc := va_free (wc := [(m0, .inr (1, [.null, .null]))]) hD hS hA [4] rfl
  refine va_callv (va_runI (As := []) (rest := [.ref m0]) S (metX1_init l D m0 H.size) (cwI 0 hts (lw_meth q84) rfl rfl rfl (hts _ q6) (hts _ q82) (hts _ q83) rfl (by decide +kernel) ⟨Nat.le_of_ble_eq_true rfl, Nat.le_of_ble_eq_true rfl⟩) ⟨fun a U g mk q => by obtain ⟨q0, q1, qP, qK, qD⟩ := q; exact ⟨q0, q1, qP, va_K.moved (u := U) (U := U.calling g mk a) (Vm.Alike.refl U.vm) qK, qD⟩, fun U hU hW => ⟨rfl, by rw [hU], by rw [hU]; exact hPc, va_K.moved hW.alike (hK.sub (tys' := []) [] rfl), hDc.weaken (fun _ _ _ _ => trivial)⟩⟩ rfl rfl hl.1 rfl (lv_room (Nat.le_of_ble_eq_true rfl)) dL_law_12 ⟨Nat.le_of_ble_eq_true rfl, Nat.le_of_ble_eq_true rfl⟩) hS (fun q _ h => hFc q h) hFc (fun u t H1 locs ht hvm hw hB hz1 hk1 hS => ?_)
  obtain ⟨bx, b1, d2, hP1, hK1, hD1⟩ := hB
  rw [ht] at hP1
  have hK1 := va_K.moved hvm.symm hK1
  obtain ⟨hP, hD⟩ := va_join (wr := [(x0, .inr (0, [.ref ax, .ref ay, .ref aa])), (ax, .inl (d, 3, .inl (fun _ => nI 0))), (ay, .inl (d, 3, .inl (fun _ => nI 0))), (aa, .inl (d, 65, .inl (fun _ => nI 0)))]) (w1 := (wM m0 bx b1 d2 (fun _ => 0) (fun _ => 0))) hP hD [4] [0, 1, 2, 3] rfl rfl (by decide) (by decide) hk1 hFc hP1 hD1
  have hK := hK.app hK1
  generalize H1 = H at hP hS ⊢
  have hK : va_K D vwCl [(d, .int), (d2, .int)] s := hK
  have ed : d2 = d := va_K_same hK 1 0 rfl rfl
  subst ed
  refine W.widen (k := 7) (n := 82) (Nat.le_of_ble_eq_true rfl) (Nat.le_of_ble_eq_true rfl) ?_
  refine lv_astore_n (lv' := [(2, .ref m0), (1, .ref x0), (0, .ref b)]) hx hb dL_law_15 rfl hl (by decide) rfl (fun ls hl => ?_)
  refine lv_iconst (v := nI 0) hx hb dL_law_16 (by decide) ?_
  refine lv_istore_n (lv' := [(3, .int (nI 0)), (2, .ref m0), (1, .ref x0), (0, .ref b)]) hx hb dL_law_17 rfl hl (by decide) rfl (fun ls hl => ?_)
  exact law_loop hL C0 (hK.sub [0] rfl) (L + 1) 0 (by omega) (Nat.zero_le _) (fun _ => 0) (fun _ => 0) (fun _ => (by decide : 0 < 32)) (fun _ => (by decide : 0 < 32)) (fun _ => nI 0) H _ hP hD hS ls (lv_sub hl [3, 2, 1, 0] rfl)
end
section
set_option maxHeartbeats 4000000 in
theorem lw_walk (l : Launch) (b : Addr) (xs : List Int32) : MetFree l x (headSpec (Jvm.Cond.code x code maxLocals ret :: tables_1) room_1) (lw_P b xs) (fun _ _ _ _ _ => True) lw_Q := by
  refine MetFree.of_bodyS (code := code) (maxLocals := maxLocals) (ret := ret) (by decide) ?_ ?_
  · intro args s m h hn
    obtain ⟨meth, c, h1, h2, h3, h4, h5, h6, -, -⟩ := Cond.code_spec hn (atoms_spec (ws := Jvm.Cond.code x code maxLocals ret :: tables_1) h _ List.mem_cons_self)
    exact ⟨meth, c, h1, h2, h3, h4, h5, h6⟩
  · intro p e s m args below meth c s₁ B hml0 hP _
    obtain ⟨rfl, hx, hbd, hgv⟩ := hP
    obtain ⟨scr, harrAt, hlist, hof, hsmall⟩ := hx
    obtain ⟨hcb, hkn, -, -⟩ := State.arrayAt?_spec harrAt
    have hown : s.vm.findClass R_law = some m.cls := findClass_of_methodNamed B.named
    have hts0 : ∀ c ∈ (Jvm.Cond.code x code maxLocals ret :: tables_1), c.before #[Value.ref b] s = true := atoms_spec (ws := Jvm.Cond.code x code maxLocals ret :: tables_1) B.pre
    have hts : ∀ w ∈ lw_tbl, w.before #[Value.ref b] s = true := k2_hts_sels lw_privs (fun w hw => hts0 w (List.mem_cons_of_mem _ hw)) lw_privs_ok
    have hml : c.maxLocals = 4 := B.maxLocals_eq (hts0 _ List.mem_cons_self)
    have X₀ : Stand p l e room_1 s m #[Value.ref b] below meth c s₁ [] 0 0 := Stand.of_body B
    have hh0 : s₁.heap = s.heap := by rw [B.state]; rfl
    have hsz : scr.slots.size = xs.length := by rw [← Array.length_toList, hlist, List.length_map]
    have hval : ∀ j : Nat, j < xs.length → scr.slots[j]? = some (.int (xs.getD j 0)) := fun j hj => by
      rw [← Array.getElem?_toList, hlist]
      simp [hj]
    have hbl : b < s.heap.size := (Array.getElem?_eq_some_iff.mp hcb).1
    have hX : va_X b xs.length (fun j => xs.getD j 0) s s.heap := ⟨scr, hcb, hof, hkn, hsz, hval⟩
    have K : W p l e room_1 s m #[Value.ref b] below meth c s₁.heap [] 0 0 (lw_Z below #[Value.ref b] s) (entryFrame m ([Value.ref b] : List Value).toArray 4) := by
      rw [hh0]
      exact whole_start l hbd ⟨B.exec, B.bytes, B.returns, hml, hown, hts, hX, hbl, B.notSynchronized, hgv⟩
    obtain ⟨t, a1, o, b1, b2, b3⟩ := K s₁ rfl X₀
    exact ⟨t, o, a1, b1, b2, b3⟩
theorem lw_pre_spec {args : Array Value} {s : State} (h : (Jvm.Cond.and given_1 narrow_1).before args s = true) (hr : rest_1_c.before args s = true) : ∃ (b : Addr) (xs : List Int32), lw_P b xs args s := by
  have hs := flat_of_before _ h
  have hq := flat_of_before _ hr
  have hc : (Cond.count 1).before args s = true := hs _ (by decide +kernel)
  have harr : (Cond.arrayOf (.arg 0) .int).before args s = true := hs _ (by decide +kernel)
  have hle : (Cond.le (.length (.arg 0)) (.int 320)).before args s = true := hs _ (by decide +kernel)
  have hlen : (Cond.isInt (.length (.arg 0))).before args s = true := hq _ (by decide +kernel)
  have hall : (Cond.all (.arg 0) (.isInt (.elem (.arg 0) (.index 0)))).before args s = true := hq _ (by decide +kernel)
  obtain ⟨b, xs, hb, hx⟩ := State.ints_of_pre rfl harr hlen hall
  have hsm : xs.length < 2 ^ 31 := hx.choose_spec.2.2.2
  have hev : (Term.length (.arg 0)).eval args s none [] s = some (.int xs.length.toInt32) := hx.length_eval hb
  have hv := Cond.le_ints hev (show (Term.int 320).eval args s none [] s = some (.int 320) from rfl)
  have hd : xs.length.toInt32 ≤ 320 := by
    simpa [Cond.before, Cond.holds, hv] using hle
  have hN : xs.length ≤ 320 := (Int32.ofNat_le_ofNat hsm (by decide)).mp (show Int32.ofNat xs.length ≤ Int32.ofNat 320 from hd)
  exact ⟨b, xs, Cond.one_arg hc (show args[0]? = some (.ref b) from hb), hx, hN, h⟩
theorem lw_comes (l : Launch) : Comes l x (Jvm.Cond.code x code maxLocals ret :: tables_1) room_1 (fun tb e args s => Calls_1 tb e args s ∧ rest_1 tb e args s ∧ Pre_1 tb e args s)
    (fun _ _ args s o t => lw_Q args s o t) := by
  intro p e ha hc hk s m args below hf hfit hheap happ hpre
  obtain ⟨b, xs, hP⟩ := lw_pre_spec hpre.2.2 hpre.2.1
  obtain ⟨k, o, h1, h2, h3, hQ⟩ := lw_walk l b xs p e ha hc hk s m args below hf ((Spec.applies_iff_loose hf).mp happ).1 hP trivial
  exact ⟨k, o, h1, h2, h3, hQ⟩
theorem lw_frame {s t : State} {o : Outcome} {args : Array Value} (h : Framed s o t [] 600000 7290000) :
    Framed s o t (fieldLocs frame_1_writes args s ++ arrayLocs frame_1_arrays args s ++ staticLocs frame_1_statics s) 600000 7290000 := h
theorem lw_limb (L : Cond) (hL : ∀ (args : Array Value) (s t : State), L.after args s (.returned (some (.int 1))) t = true) :
    ArmFor flags0 classFile x code maxLocals ret World_1 tables_1 room_1 Calls_1 rest_1 Pre_1
      (fun tb e a s o t => postC L tb e a s o t ∧ Framed s o t (fieldLocs frame_1_writes a s ++ arrayLocs frame_1_arrays a s ++ staticLocs frame_1_statics s) 600000 7290000) := by
  intro l _ _ _ p e ha hc hk s m args below hf hfit hheap happ hpre
  obtain ⟨k, o, h1, h2, h3, rfl, hF⟩ := lw_comes l p e ha hc hk s m args below hf hfit hheap happ hpre
  exact ⟨k, _, h1, h2, h3, hL args s _, lw_frame hF⟩
theorem i_vc : Claimed_1_1 ∧ Claimed_1_2 := ⟨lw_limb limb_1_1 (fun args s t => by simp [limb_1_1, Cond.after, Cond.holds, Cond.value]), lw_limb limb_1_2 (fun args s t => Cond.after_iff.mpr (by
  first | (rw [show limb_1_2 = Cond.eq .result (.int 1) from rfl, Cond.eq_ints (x := 1) (y := 1) rfl rfl]; simp; done) | (simp [limb_1_2, Cond.value, Term.eval]; done)))⟩
end
