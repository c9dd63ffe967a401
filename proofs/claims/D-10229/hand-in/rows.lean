section
/-! Part 01: naturals as sets of bits; reduction by a triangular table; monomials, products, values -/
theorem gb_x1 (a b c : Nat) : (a ^^^ c) ^^^ (b ^^^ c) = a ^^^ b := by
  apply Nat.eq_of_testBit_eq
  intro i
  simp only [Nat.testBit_xor]
  cases a.testBit i <;> cases b.testBit i <;> cases c.testBit i <;> rfl
theorem gb_x2 (a b c : Nat) : (a ^^^ c) ^^^ b = (a ^^^ b) ^^^ c := by
  apply Nat.eq_of_testBit_eq
  intro i
  simp only [Nat.testBit_xor]
  cases a.testBit i <;> cases b.testBit i <;> cases c.testBit i <;> rfl
theorem gb_x4 (a b c d : Nat) : (a ^^^ b) ^^^ (c ^^^ d) = (a ^^^ c) ^^^ (b ^^^ d) := by
  apply Nat.eq_of_testBit_eq
  intro i
  simp only [Nat.testBit_xor]
  cases a.testBit i <;> cases b.testBit i <;> cases c.testBit i <;> cases d.testBit i <;> rfl
theorem gb_x5 (a b : Nat) : a ^^^ (a ^^^ b) = b := by
  rw [← Nat.xor_assoc, Nat.xor_self, Nat.zero_xor]
theorem gb_x6 (a b : Nat) : (a ^^^ b) ^^^ b = a := by
  rw [Nat.xor_assoc, Nat.xor_self, Nat.xor_zero]
theorem gb_x7 {a b : Nat} (h : a ^^^ b = 0) : a = b := by
  have e := gb_x6 a b
  rw [h, Nat.zero_xor] at e
  exact e.symm
theorem gb_pw {a b : Nat} (h : a ≤ b) : 2 ^ a ≤ 2 ^ b := Nat.pow_le_pow_right (by omega) h
/-- m is the greatest bit of f -/
def gb_top (f m : Nat) : Prop := f.testBit m = true ∧ f < 2 ^ (m + 1)
theorem gb_hi {f k i : Nat} (h : f < 2 ^ k) (hi : k ≤ i) : f.testBit i = false :=
  Nat.testBit_lt_two_pow (Nat.lt_of_lt_of_le h (gb_pw hi))
theorem gb_top_ne {f m : Nat} (h : gb_top f m) : f ≠ 0 := by
  intro e
  have h1 := h.1
  rw [e, Nat.zero_testBit] at h1
  exact absurd h1 (by decide)
theorem gb_top_log {f m : Nat} (h : gb_top f m) : f.log2 = m :=
  (Nat.log2_eq_iff (gb_top_ne h)).mpr ⟨Nat.ge_two_pow_of_testBit h.1, h.2⟩
theorem gb_top_of {f : Nat} (h : f ≠ 0) : gb_top f f.log2 := ⟨Nat.testBit_log2 h, Nat.lt_log2_self⟩
theorem gb_top_xor {f g m : Nat} (hf : gb_top f m) (hg : gb_top g m) : f ^^^ g < 2 ^ m := by
  apply Nat.lt_pow_two_of_testBit
  intro i hi
  rw [Nat.testBit_xor]
  by_cases e : i = m
  · rw [e, hf.1, hg.1]; rfl
  · rw [gb_hi hf.2 (by omega), gb_hi hg.2 (by omega)]; rfl
theorem gb_top_low {f g m : Nat} (hf : gb_top f m) (hg : g < 2 ^ m) : gb_top (f ^^^ g) m := by
  refine ⟨?_, Nat.xor_lt_two_pow hf.2 (Nat.lt_of_lt_of_le hg (gb_pw (by omega)))⟩
  rw [Nat.testBit_xor, hf.1, gb_hi hg (Nat.le_refl m)]; rfl
theorem gb_top_pow (m : Nat) : gb_top (2 ^ m) m := ⟨Nat.testBit_two_pow_self, Nat.pow_lt_pow_right (by omega) (by omega)⟩
theorem gb_top_lt {f m k : Nat} (h : gb_top f m) (hf : f < 2 ^ k) : m < k := by
  rcases Nat.lt_or_ge m k with z | z
  · exact z
  · have := h.1
    rw [gb_hi hf z] at this
    exact absurd this (by decide)
theorem gb_ext {f g : Nat} (hf : f < 65536) (hg : g < 65536) (h : ∀ i, i < 16 → f.testBit i = g.testBit i) : f = g := by
  apply Nat.eq_of_testBit_eq
  intro i
  rcases Nat.lt_or_ge i 16 with z | z
  · exact h i z
  · rw [gb_hi (k := 16) hf z, gb_hi (k := 16) hg z]
/-! ===== reduction ===== -/
def gb_st (b : Nat → Nat) (n f : Nat) : Nat := if f.testBit n = true then f ^^^ b n else f
def gb_rd (b : Nat → Nat) : Nat → Nat → Nat
  | 0, f => f
  | n + 1, f => gb_rd b n (gb_st b n f)
def gb_tri (b : Nat → Nat) : Prop := ∀ m, m < 16 → b m = 0 ∨ gb_top (b m) m
theorem gb_st_t {b : Nat → Nat} {n f : Nat} (h : f.testBit n = true) : gb_st b n f = f ^^^ b n := if_pos h
theorem gb_st_f {b : Nat → Nat} {n f : Nat} (h : f.testBit n = false) : gb_st b n f = f := if_neg (by rw [h]; decide)
theorem gb_st_xor (b : Nat → Nat) (n f g : Nat) : gb_st b n (f ^^^ g) = gb_st b n f ^^^ gb_st b n g := by
  have hx := Nat.testBit_xor f g n
  cases hf : f.testBit n <;> cases hg : g.testBit n <;> rw [hf, hg] at hx
  · rw [gb_st_f hf, gb_st_f hg, gb_st_f hx]
  · rw [gb_st_f hf, gb_st_t hg, gb_st_t hx, Nat.xor_assoc]
  · rw [gb_st_t hf, gb_st_f hg, gb_st_t hx, gb_x2]
  · rw [gb_st_t hf, gb_st_t hg, gb_st_f hx, gb_x1]
theorem gb_rd_xor (b : Nat → Nat) : ∀ n f g : Nat, gb_rd b n (f ^^^ g) = gb_rd b n f ^^^ gb_rd b n g
  | 0, _, _ => rfl
  | n + 1, f, g => by
    show gb_rd b n (gb_st b n (f ^^^ g)) = gb_rd b n (gb_st b n f) ^^^ gb_rd b n (gb_st b n g)
    rw [gb_st_xor, gb_rd_xor b n]
theorem gb_rd_zero (b : Nat → Nat) : ∀ n : Nat, gb_rd b n 0 = 0
  | 0 => rfl
  | n + 1 => by
    show gb_rd b n (gb_st b n 0) = 0
    rw [gb_st_f (Nat.zero_testBit n), gb_rd_zero b n]
theorem gb_rd_ind {b : Nat → Nat} {C : Nat → Prop} (h0 : C 0) (hx : ∀ x y, C x → C y → C (x ^^^ y)) :
    ∀ n : Nat, (∀ m, m < n → b m ≠ 0 → C (b m)) → ∀ f : Nat, C (f ^^^ gb_rd b n f)
  | 0, _, f => by
    show C (f ^^^ f)
    rw [Nat.xor_self]; exact h0
  | n + 1, hb, f => by
    show C (f ^^^ gb_rd b n (gb_st b n f))
    have ih := gb_rd_ind h0 hx n (fun m hm => hb m (by omega)) (gb_st b n f)
    cases hf : f.testBit n
    · rw [gb_st_f hf] at ih ⊢
      exact ih
    · rw [gb_st_t hf] at ih ⊢
      have hbn : C (b n) := by
        by_cases e : b n = 0
        · rw [e]; exact h0
        · exact hb n (by omega) e
      have t := hx _ _ hbn ih
      rw [Nat.xor_comm f (b n), ← Nat.xor_assoc, ← Nat.xor_assoc, Nat.xor_self, Nat.zero_xor, Nat.xor_comm (b n) f] at t
      exact t
theorem gb_rd_ind0 {b : Nat → Nat} {C : Nat → Prop} (h0 : C 0) (hx : ∀ x y, C x → C y → C (x ^^^ y)) {n f : Nat}
    (hb : ∀ m, m < n → b m ≠ 0 → C (b m)) (h : gb_rd b n f = 0) : C f := by
  have t := gb_rd_ind h0 hx n hb f
  rw [h, Nat.xor_zero] at t
  exact t
theorem gb_rd_low {b : Nat → Nat} {k f : Nat} (hf : f < 2 ^ k) : ∀ n : Nat, k ≤ n → gb_rd b n f = gb_rd b k f
  | 0, h => by
    have e : k = 0 := by omega
    rw [e]
  | n + 1, h => by
    by_cases e : k = n + 1
    · rw [e]
    · show gb_rd b n (gb_st b n f) = gb_rd b k f
      rw [gb_st_f (gb_hi hf (by omega))]
      exact gb_rd_low hf n (by omega)
theorem gb_st_lt {b : Nat → Nat} (ht : gb_tri b) {n k f : Nat} (hn : n < 16) (hk : n < k) (hf : f < 2 ^ k) : gb_st b n f < 2 ^ k := by
  cases h : f.testBit n
  · rw [gb_st_f h]; exact hf
  · rw [gb_st_t h]
    rcases ht n hn with e | e
    · rw [e, Nat.xor_zero]; exact hf
    · exact Nat.xor_lt_two_pow hf (Nat.lt_of_lt_of_le e.2 (gb_pw (by omega)))
theorem gb_rd_lt {b : Nat → Nat} (ht : gb_tri b) {k : Nat} : ∀ n f : Nat, n ≤ 16 → n ≤ k → f < 2 ^ k → gb_rd b n f < 2 ^ k
  | 0, _, _, _, hf => hf
  | n + 1, _, hn, hk, hf => gb_rd_lt ht n _ (by omega) (by omega) (gb_st_lt ht (by omega) (by omega) hf)
theorem gb_rd_hi {b : Nat → Nat} (ht : gb_tri b) {i : Nat} : ∀ n f : Nat, n ≤ 16 → n ≤ i → (gb_rd b n f).testBit i = f.testBit i
  | 0, _, _, _ => rfl
  | n + 1, f, hn, hi => by
    show (gb_rd b n (gb_st b n f)).testBit i = f.testBit i
    rw [gb_rd_hi ht n _ (by omega) (by omega)]
    cases h : f.testBit n
    · rw [gb_st_f h]
    · rw [gb_st_t h, Nat.testBit_xor]
      rcases ht n (by omega) with e | e
      · rw [e, Nat.zero_testBit, Bool.xor_false]
      · rw [gb_hi e.2 hi, Bool.xor_false]
theorem gb_rd_bit {b : Nat → Nat} (ht : gb_tri b) {m : Nat} (hb : b m ≠ 0) : ∀ n f : Nat, n ≤ 16 → m < n → (gb_rd b n f).testBit m = false
  | 0, _, _, h => absurd h (by omega)
  | n + 1, f, hn, hm => by
    show (gb_rd b n (gb_st b n f)).testBit m = false
    by_cases e : m = n
    · rw [e, gb_rd_hi ht n _ (by omega) (Nat.le_refl n)]
      cases h : f.testBit n
      · rw [gb_st_f h]; exact h
      · rw [gb_st_t h, Nat.testBit_xor, h]
        rcases ht n (by omega) with z | z
        · rw [e] at hb; exact absurd z hb
        · rw [z.1]; rfl
    · exact gb_rd_bit ht hb n _ (by omega) (by omega)
theorem gb_rd_id {b : Nat → Nat} : ∀ n f : Nat, (∀ m, m < n → f.testBit m = true → b m = 0) → gb_rd b n f = f
  | 0, _, _ => rfl
  | n + 1, f, h => by
    show gb_rd b n (gb_st b n f) = f
    have e : gb_st b n f = f := by
      cases hf : f.testBit n
      · exact gb_st_f hf
      · rw [gb_st_t hf, h n (by omega) hf, Nat.xor_zero]
    rw [e]
    exact gb_rd_id n f (fun m hm => h m (by omega))
theorem gb_rd_rd {b : Nat → Nat} (ht : gb_tri b) (f : Nat) : gb_rd b 16 (gb_rd b 16 f) = gb_rd b 16 f := by
  apply gb_rd_id
  intro m hm h
  by_cases e : b m = 0
  · exact e
  · rw [gb_rd_bit ht e 16 f (Nat.le_refl 16) hm] at h
    exact absurd h (by decide)
/-- what reduces to nothing -/
def gb_S (b : Nat → Nat) (f : Nat) : Prop := gb_rd b 16 f = 0
theorem gb_S_0 (b : Nat → Nat) : gb_S b 0 := gb_rd_zero b 16
theorem gb_S_x {b : Nat → Nat} (x y : Nat) (hx : gb_S b x) (hy : gb_S b y) : gb_S b (x ^^^ y) := by
  unfold gb_S at *
  rw [gb_rd_xor, hx, hy]; rfl
theorem gb_S_b {b : Nat → Nat} (ht : gb_tri b) {m : Nat} (hm : m < 16) : gb_S b (b m) := by
  unfold gb_S
  rcases ht m hm with e | e
  · rw [e, gb_rd_zero]
  · rw [gb_rd_low e.2 16 (by omega)]
    show gb_rd b m (gb_st b m (b m)) = 0
    rw [gb_st_t e.1, Nat.xor_self, gb_rd_zero]
theorem gb_S_rest {b : Nat → Nat} (ht : gb_tri b) (f : Nat) : gb_S b (f ^^^ gb_rd b 16 f) := by
  unfold gb_S
  rw [gb_rd_xor, gb_rd_rd ht, Nat.xor_self]
/-- an element of S that is less than 2^k is built of the b m with m < k -/
theorem gb_S_ind {b : Nat → Nat} {C : Nat → Prop} (h0 : C 0) (hx : ∀ x y, C x → C y → C (x ^^^ y)) {k f : Nat} (hk : k ≤ 16) (hf : f < 2 ^ k)
    (hb : ∀ m, m < k → b m ≠ 0 → C (b m)) (h : gb_S b f) : C f := by
  unfold gb_S at h
  rw [gb_rd_low hf 16 hk] at h
  exact gb_rd_ind0 h0 hx hb h
/-- the head of an element of S is the head of a row of the table -/
theorem gb_S_top {b : Nat → Nat} (ht : gb_tri b) {f m : Nat} (hm : m < 16) (hf : gb_top f m) (h : gb_S b f) : b m ≠ 0 := by
  intro e
  unfold gb_S at h
  rw [gb_rd_low hf.2 16 (by omega)] at h
  have t : (gb_rd b m (gb_st b m f)).testBit m = true := by
    rw [gb_rd_hi ht m _ (by omega) (Nat.le_refl m), gb_st_t hf.1, e, Nat.xor_zero]
    exact hf.1
  have h' : gb_rd b m (gb_st b m f) = 0 := h
  rw [h', Nat.zero_testBit] at t
  exact absurd t (by decide)
/-! ===== linear induction over the 16 monomials ===== -/
theorem gb_tri_pow : gb_tri (fun m => 2 ^ m) := fun m _ => Or.inr (gb_top_pow m)
theorem gb_lin {C : Nat → Prop} (h0 : C 0) (hx : ∀ x y, C x → C y → C (x ^^^ y)) (hp : ∀ m, m < 16 → C (2 ^ m)) {f : Nat} (hf : f < 65536) : C f := by
  refine gb_rd_ind0 (b := fun m => 2 ^ m) (n := 16) h0 hx (fun m hm _ => hp m hm) ?_
  apply gb_ext
  · exact gb_rd_lt gb_tri_pow (k := 16) 16 f (by omega) (by omega) hf
  · omega
  · intro i hi
    rw [Nat.zero_testBit]
    exact gb_rd_bit gb_tri_pow (m := i) (by exact Nat.ne_of_gt (Nat.two_pow_pos i)) 16 f (by omega) hi
end
section
/-! Part 02: monomials as sets of four variables; multiples, values, products, indicators -/
def gb_sub (a b : Nat) : Bool := a &&& (15 ^^^ b) == 0
def gb_dif (a b : Nat) : Nat := a &&& (15 ^^^ b)
/-- a weight of monomials: monotone, and additive on disjoint ones -/
def gb_W (m : Nat) : Nat := m % 2 + 3 * (m / 2 % 2) + 9 * (m / 4 % 2) + 27 * (m / 8 % 2)
theorem gb_W_mono : ∀ a, a < 16 → ∀ b, b < 16 → a < b → gb_W a < gb_W b := by decide +kernel
theorem gb_W_or : ∀ a, a < 16 → ∀ b, b < 16 → gb_W (a ||| b) ≤ gb_W a + gb_W b := by decide +kernel
theorem gb_W_dis : ∀ a, a < 16 → ∀ b, b < 16 → a &&& b = 0 → gb_W (a ||| b) = gb_W a + gb_W b := by decide +kernel
theorem gb_W_bit : ∀ v, v < 4 → 0 < gb_W (2 ^ v) := by decide +kernel
theorem gb_or_mono : ∀ h, h < 16 → ∀ k, k < 16 → k &&& h = 0 → ∀ m, m < h → m ||| k < h ||| k := by decide +kernel
theorem gb_or_lt {a b : Nat} (ha : a < 16) (hb : b < 16) : a ||| b < 16 := Nat.or_lt_two_pow (n := 4) ha hb
theorem gb_dif_lt {a b : Nat} (ha : a < 16) : gb_dif a b < 16 := Nat.lt_of_le_of_lt Nat.and_le_left ha
theorem gb_sub_or : ∀ a, a < 16 → ∀ b, b < 16 → ∀ p, p < 16 → gb_sub (a ||| b) p = (gb_sub a p && gb_sub b p) := by decide +kernel
theorem gb_dif_or : ∀ m, m < 16 → ∀ h, h < 16 → gb_sub h m = true → gb_dif m h ||| h = m ∧ gb_dif m h &&& h = 0 := by decide +kernel
/-- the multiple of f by the monomial k, the first n monomials of f alone -/
def gb_tm (k : Nat) : Nat → Nat → Nat
  | 0, _ => 0
  | n + 1, f => gb_tm k n f ^^^ (if f.testBit n = true then 2 ^ (n ||| k) else 0)
def gb_times (f k : Nat) : Nat := gb_tm k 16 f
theorem gb_if_xor (c d : Bool) (x : Nat) : (if (c ^^ d) = true then x else 0) = (if c = true then x else 0) ^^^ (if d = true then x else 0) := by
  cases c <;> cases d
  · exact (Nat.xor_zero 0).symm
  · exact (Nat.zero_xor x).symm
  · exact (Nat.xor_zero x).symm
  · exact (Nat.xor_self x).symm
theorem gb_tm_xor (k : Nat) : ∀ n f g : Nat, gb_tm k n (f ^^^ g) = gb_tm k n f ^^^ gb_tm k n g
  | 0, _, _ => (Nat.xor_zero 0).symm
  | n + 1, f, g => by
    show gb_tm k n (f ^^^ g) ^^^ (if (f ^^^ g).testBit n = true then 2 ^ (n ||| k) else 0) = (gb_tm k n f ^^^ (if f.testBit n = true then 2 ^ (n ||| k) else 0)) ^^^ (gb_tm k n g ^^^ (if g.testBit n = true then 2 ^ (n ||| k) else 0))
    rw [gb_tm_xor k n, Nat.testBit_xor, gb_if_xor, gb_x4]
theorem gb_times_xor (f g k : Nat) : gb_times (f ^^^ g) k = gb_times f k ^^^ gb_times g k := gb_tm_xor k 16 f g
theorem gb_tm_zero (k : Nat) : ∀ n : Nat, gb_tm k n 0 = 0
  | 0 => rfl
  | n + 1 => by
    show gb_tm k n 0 ^^^ (if (0 : Nat).testBit n = true then 2 ^ (n ||| k) else 0) = 0
    rw [gb_tm_zero k n, Nat.zero_testBit]; exact Nat.xor_zero 0
theorem gb_times_zero (k : Nat) : gb_times 0 k = 0 := gb_tm_zero k 16
theorem gb_times_pow : ∀ m, m < 16 → ∀ k, k < 16 → gb_times (2 ^ m) k = 2 ^ (m ||| k) := by decide +kernel
theorem gb_tm_lt {k : Nat} (hk : k < 16) (f : Nat) : ∀ n : Nat, n ≤ 16 → gb_tm k n f < 2 ^ 16
  | 0, _ => Nat.two_pow_pos 16
  | n + 1, hn => by
    refine Nat.xor_lt_two_pow (gb_tm_lt hk f n (by omega)) ?_
    have h1 : n ||| k < 16 := gb_or_lt (by omega) hk
    cases f.testBit n
    · exact Nat.two_pow_pos 16
    · exact Nat.pow_lt_pow_right (by omega) h1
theorem gb_times_lt {k : Nat} (hk : k < 16) (f : Nat) : gb_times f k < 65536 := gb_tm_lt hk f 16 (Nat.le_refl 16)
theorem gb_times_times {f k l : Nat} (hf : f < 65536) (hk : k < 16) (hl : l < 16) : gb_times (gb_times f k) l = gb_times f (k ||| l) := by
  refine gb_lin (C := fun f => gb_times (gb_times f k) l = gb_times f (k ||| l)) ?_ ?_ ?_ hf
  · show gb_times (gb_times 0 k) l = gb_times 0 (k ||| l)
    rw [gb_times_zero, gb_times_zero, gb_times_zero]
  · intro x y hx hy
    show gb_times (gb_times (x ^^^ y) k) l = gb_times (x ^^^ y) (k ||| l)
    rw [gb_times_xor, gb_times_xor, gb_times_xor, hx, hy]
  · intro m hm
    show gb_times (gb_times (2 ^ m) k) l = gb_times (2 ^ m) (k ||| l)
    rw [gb_times_pow m hm k hk, gb_times_pow m hm _ (gb_or_lt hk hl), gb_times_pow _ (gb_or_lt hm hk) l hl, Nat.or_assoc]
theorem gb_times_one {f : Nat} (hf : f < 65536) : gb_times f 0 = f := by
  refine gb_lin (C := fun f => gb_times f 0 = f) ?_ ?_ ?_ hf
  · exact gb_times_zero 0
  · intro x y hx hy
    show gb_times (x ^^^ y) 0 = x ^^^ y
    rw [gb_times_xor, hx, hy]
  · intro m hm
    show gb_times (2 ^ m) 0 = 2 ^ m
    rw [gb_times_pow m hm 0 (by omega), Nat.or_zero]
/-- monomials of a multiple -/
theorem gb_tm_below {f k N : Nat} (h : ∀ m, f.testBit m = true → m ||| k < N) : ∀ n : Nat, gb_tm k n f < 2 ^ N
  | 0 => Nat.two_pow_pos N
  | n + 1 => by
    refine Nat.xor_lt_two_pow (gb_tm_below h n) ?_
    cases hf : f.testBit n
    · exact Nat.two_pow_pos N
    · exact Nat.pow_lt_pow_right (by omega) (h n hf)
theorem gb_times_top {f h k : Nat} (hf : gb_top f h) (hh : h < 16) (hk : k < 16) (hd : k &&& h = 0) : gb_top (gb_times f k) (h ||| k) := by
  have e : f = 2 ^ h ^^^ (f ^^^ 2 ^ h) := by rw [Nat.xor_comm f, gb_x5]
  have hlow : f ^^^ 2 ^ h < 2 ^ h := gb_top_xor hf (gb_top_pow h)
  rw [e, gb_times_xor, gb_times_pow h hh k hk]
  refine gb_top_low (gb_top_pow _) (gb_tm_below (fun m hm => ?_) 16)
  refine gb_or_mono h hh k hk hd m ?_
  exact Nat.lt_of_not_le (fun z => by rw [gb_hi hlow z] at hm; exact absurd hm (by decide))
/-! ===== values ===== -/
def gb_evn (p : Nat) : Nat → Nat → Bool
  | 0, _ => false
  | n + 1, f => gb_evn p n f ^^ (gb_sub n p && f.testBit n)
def gb_ev (f p : Nat) : Bool := gb_evn p 16 f
theorem gb_evn_xor (p : Nat) : ∀ n f g : Nat, gb_evn p n (f ^^^ g) = (gb_evn p n f ^^ gb_evn p n g)
  | 0, _, _ => rfl
  | n + 1, f, g => by
    show (gb_evn p n (f ^^^ g) ^^ (gb_sub n p && (f ^^^ g).testBit n)) = ((gb_evn p n f ^^ (gb_sub n p && f.testBit n)) ^^ (gb_evn p n g ^^ (gb_sub n p && g.testBit n)))
    rw [gb_evn_xor p n, Nat.testBit_xor]
    cases gb_evn p n f <;> cases gb_evn p n g <;> cases gb_sub n p <;> cases f.testBit n <;> cases g.testBit n <;> rfl
theorem gb_ev_xor (f g p : Nat) : gb_ev (f ^^^ g) p = (gb_ev f p ^^ gb_ev g p) := gb_evn_xor p 16 f g
theorem gb_evn_zero (p : Nat) : ∀ n : Nat, gb_evn p n 0 = false
  | 0 => rfl
  | n + 1 => by
    show (gb_evn p n 0 ^^ (gb_sub n p && (0 : Nat).testBit n)) = false
    rw [gb_evn_zero p n, Nat.zero_testBit, Bool.and_false]; rfl
theorem gb_ev_zero (p : Nat) : gb_ev 0 p = false := gb_evn_zero p 16
theorem gb_ev_pow : ∀ m, m < 16 → ∀ p, p < 16 → gb_ev (2 ^ m) p = gb_sub m p := by decide +kernel
theorem gb_ev_times {f k p : Nat} (hf : f < 65536) (hk : k < 16) (hp : p < 16) : gb_ev (gb_times f k) p = (gb_ev f p && gb_sub k p) := by
  refine gb_lin (C := fun f => gb_ev (gb_times f k) p = (gb_ev f p && gb_sub k p)) ?_ ?_ ?_ hf
  · show gb_ev (gb_times 0 k) p = (gb_ev 0 p && gb_sub k p)
    rw [gb_times_zero, gb_ev_zero]; rfl
  · intro x y hx hy
    show gb_ev (gb_times (x ^^^ y) k) p = (gb_ev (x ^^^ y) p && gb_sub k p)
    rw [gb_times_xor, gb_ev_xor, gb_ev_xor, hx, hy]
    cases gb_ev x p <;> cases gb_ev y p <;> cases gb_sub k p <;> rfl
  · intro m hm
    show gb_ev (gb_times (2 ^ m) k) p = (gb_ev (2 ^ m) p && gb_sub k p)
    rw [gb_times_pow m hm k hk, gb_ev_pow m hm p hp, gb_ev_pow _ (gb_or_lt hm hk) p hp, gb_sub_or m hm k hk p hp]
theorem gb_ev_times0 {f k p : Nat} (hf : f < 65536) (hk : k < 16) (hp : p < 16) (h : gb_ev f p = false) : gb_ev (gb_times f k) p = false := by
  rw [gb_ev_times hf hk hp, h]; rfl
theorem gb_ev_xor0 {f g p : Nat} (h : gb_ev f p = false) (h' : gb_ev g p = false) : gb_ev (f ^^^ g) p = false := by
  rw [gb_ev_xor, h, h']; rfl
/-! ===== products ===== -/
def gb_prn (f : Nat) : Nat → Nat → Nat
  | 0, _ => 0
  | n + 1, g => gb_prn f n g ^^^ (if g.testBit n = true then gb_times f n else 0)
def gb_pr (f g : Nat) : Nat := gb_prn f 16 g
theorem gb_prn_xr (f : Nat) : ∀ n g h : Nat, gb_prn f n (g ^^^ h) = gb_prn f n g ^^^ gb_prn f n h
  | 0, _, _ => (Nat.xor_zero 0).symm
  | n + 1, g, h => by
    show gb_prn f n (g ^^^ h) ^^^ (if (g ^^^ h).testBit n = true then gb_times f n else 0) = (gb_prn f n g ^^^ (if g.testBit n = true then gb_times f n else 0)) ^^^ (gb_prn f n h ^^^ (if h.testBit n = true then gb_times f n else 0))
    rw [gb_prn_xr f n, Nat.testBit_xor, gb_if_xor, gb_x4]
theorem gb_prn_xl (e f g : Nat) : ∀ n : Nat, gb_prn (e ^^^ f) n g = gb_prn e n g ^^^ gb_prn f n g
  | 0 => (Nat.xor_zero 0).symm
  | n + 1 => by
    show gb_prn (e ^^^ f) n g ^^^ (if g.testBit n = true then gb_times (e ^^^ f) n else 0) = (gb_prn e n g ^^^ (if g.testBit n = true then gb_times e n else 0)) ^^^ (gb_prn f n g ^^^ (if g.testBit n = true then gb_times f n else 0))
    rw [gb_prn_xl e f g n, gb_times_xor]
    cases g.testBit n
    · exact gb_x4 _ _ 0 0
    · exact gb_x4 _ _ _ _
theorem gb_prn_0r (f : Nat) : ∀ n : Nat, gb_prn f n 0 = 0
  | 0 => rfl
  | n + 1 => by
    show gb_prn f n 0 ^^^ (if (0 : Nat).testBit n = true then gb_times f n else 0) = 0
    rw [gb_prn_0r f n, Nat.zero_testBit]; exact Nat.xor_zero 0
theorem gb_prn_0l (g : Nat) : ∀ n : Nat, gb_prn 0 n g = 0
  | 0 => rfl
  | n + 1 => by
    show gb_prn 0 n g ^^^ (if g.testBit n = true then gb_times 0 n else 0) = 0
    rw [gb_prn_0l g n, gb_times_zero]
    cases g.testBit n <;> exact Nat.xor_zero 0
theorem gb_prn_pow (f m : Nat) : ∀ n : Nat, gb_prn f n (2 ^ m) = if m < n then gb_times f m else 0
  | 0 => rfl
  | n + 1 => by
    show gb_prn f n (2 ^ m) ^^^ (if (2 ^ m).testBit n = true then gb_times f n else 0) = _
    rw [gb_prn_pow f m n, Nat.testBit_two_pow]
    by_cases h1 : m < n
    · rw [if_pos h1, if_neg (by rw [decide_eq_true_iff]; omega), if_pos (show m < n + 1 by omega), Nat.xor_zero]
    · rw [if_neg h1, Nat.zero_xor]
      by_cases h2 : m = n
      · rw [if_pos (by rw [decide_eq_true_iff]; exact h2), if_pos (by omega), h2]
      · rw [if_neg (by rw [decide_eq_true_iff]; exact h2), if_neg (by omega)]
theorem gb_pr_pow {f m : Nat} (hm : m < 16) : gb_pr f (2 ^ m) = gb_times f m := by
  unfold gb_pr
  rw [gb_prn_pow, if_pos hm]
theorem gb_pr_comm {f g : Nat} (hf : f < 65536) (hg : g < 65536) : gb_pr f g = gb_pr g f := by
  refine gb_lin (C := fun g => gb_pr f g = gb_pr g f) ?_ ?_ ?_ hg
  · show gb_prn f 16 0 = gb_prn 0 16 f
    rw [gb_prn_0r, gb_prn_0l]
  · intro x y hx hy
    show gb_prn f 16 (x ^^^ y) = gb_prn (x ^^^ y) 16 f
    rw [gb_prn_xr, gb_prn_xl]
    show gb_pr f x ^^^ gb_pr f y = gb_pr x f ^^^ gb_pr y f
    rw [hx, hy]
  · intro m hm
    show gb_pr f (2 ^ m) = gb_pr (2 ^ m) f
    rw [gb_pr_pow hm]
    refine gb_lin (C := fun f => gb_times f m = gb_pr (2 ^ m) f) ?_ ?_ ?_ hf
    · show gb_times 0 m = gb_prn (2 ^ m) 16 0
      rw [gb_prn_0r, gb_times_zero]
    · intro x y hx hy
      show gb_times (x ^^^ y) m = gb_prn (2 ^ m) 16 (x ^^^ y)
      rw [gb_prn_xr, gb_times_xor, hx, hy]; rfl
    · intro k hk
      show gb_times (2 ^ k) m = gb_pr (2 ^ m) (2 ^ k)
      rw [gb_pr_pow hk, gb_times_pow k hk m hm, gb_times_pow m hm k hk, Nat.or_comm]
theorem gb_prn_lt (f g : Nat) : ∀ n : Nat, n ≤ 16 → gb_prn f n g < 2 ^ 16
  | 0, _ => Nat.two_pow_pos 16
  | n + 1, hn => by
    refine Nat.xor_lt_two_pow (gb_prn_lt f g n (by omega)) ?_
    cases g.testBit n
    · exact Nat.two_pow_pos 16
    · exact gb_times_lt (show n < 16 by omega) f
/-- a set that is closed under sums and multiples holds all products -/
theorem gb_prn_in {C : Nat → Prop} (h0 : C 0) (hx : ∀ x y, C x → C y → C (x ^^^ y)) {f : Nat} (ht : ∀ k, k < 16 → C (gb_times f k)) (g : Nat) :
    ∀ n : Nat, n ≤ 16 → C (gb_prn f n g)
  | 0, _ => h0
  | n + 1, hn => by
    refine hx _ _ (gb_prn_in h0 hx ht g n (by omega)) ?_
    cases g.testBit n
    · exact h0
    · exact ht n (by omega)
/-! ===== indicators of points ===== -/
def gb_en (p : Nat) : Nat → Nat
  | 0 => 0
  | n + 1 => gb_en p n ^^^ (if gb_sub p n = true then 2 ^ n else 0)
def gb_e (p : Nat) : Nat := gb_en p 16
theorem gb_e_lt : ∀ p, p < 16 → gb_e p < 65536 := by decide +kernel
theorem gb_e_times : ∀ p, p < 16 → ∀ m, m < 16 → gb_times (gb_e p) m = if gb_sub m p = true then gb_e p else 0 := by decide +kernel
theorem gb_e_ev : ∀ p, p < 16 → ∀ q, q < 16 → gb_ev (gb_e p) q = (p == q) := by decide +kernel
theorem gb_e_pr {p g : Nat} (hp : p < 16) (hg : g < 65536) : gb_pr (gb_e p) g = if gb_ev g p = true then gb_e p else 0 := by
  refine gb_lin (C := fun g => gb_pr (gb_e p) g = if gb_ev g p = true then gb_e p else 0) ?_ ?_ ?_ hg
  · show gb_prn (gb_e p) 16 0 = if gb_ev 0 p = true then gb_e p else 0
    rw [gb_prn_0r, gb_ev_zero]; rfl
  · intro x y hx hy
    show gb_prn (gb_e p) 16 (x ^^^ y) = if gb_ev (x ^^^ y) p = true then gb_e p else 0
    rw [gb_prn_xr, gb_ev_xor, gb_if_xor]
    show gb_pr (gb_e p) x ^^^ gb_pr (gb_e p) y = _
    rw [hx, hy]
  · intro m hm
    show gb_pr (gb_e p) (2 ^ m) = if gb_ev (2 ^ m) p = true then gb_e p else 0
    rw [gb_pr_pow hm, gb_e_times p hp m hm, gb_ev_pow m hm p hp]
/-- a polynomial out of its values -/
def gb_ip (f : Nat) : Nat → Nat
  | 0 => 0
  | n + 1 => gb_ip f n ^^^ (if gb_ev f n = true then gb_e n else 0)
theorem gb_ip_xor (f g : Nat) : ∀ n : Nat, gb_ip (f ^^^ g) n = gb_ip f n ^^^ gb_ip g n
  | 0 => (Nat.xor_zero 0).symm
  | n + 1 => by
    show gb_ip (f ^^^ g) n ^^^ (if gb_ev (f ^^^ g) n = true then gb_e n else 0) = (gb_ip f n ^^^ (if gb_ev f n = true then gb_e n else 0)) ^^^ (gb_ip g n ^^^ (if gb_ev g n = true then gb_e n else 0))
    rw [gb_ip_xor f g n, gb_ev_xor, gb_if_xor, gb_x4]
theorem gb_ip_zero : gb_ip 0 16 = 0 := by decide +kernel
theorem gb_ip_pow : ∀ m, m < 16 → gb_ip (2 ^ m) 16 = 2 ^ m := by decide +kernel
theorem gb_ip_id {f : Nat} (hf : f < 65536) : gb_ip f 16 = f := by
  refine gb_lin (C := fun f => gb_ip f 16 = f) gb_ip_zero ?_ gb_ip_pow hf
  intro x y hx hy
  show gb_ip (x ^^^ y) 16 = x ^^^ y
  rw [gb_ip_xor, hx, hy]
/-- an ideal holds all that vanishes where its members do -/
theorem gb_null {C : Nat → Prop} (h0 : C 0) (hx : ∀ x y, C x → C y → C (x ^^^ y)) (ht : ∀ f k, f < 65536 → k < 16 → C f → C (gb_times f k))
    {f : Nat} (hf : f < 65536) (h : ∀ p, p < 16 → gb_ev f p = true → ∃ g, g < 65536 ∧ C g ∧ gb_ev g p = true) : C f := by
  have he : ∀ p, p < 16 → gb_ev f p = true → C (gb_e p) := by
    intro p hp hv
    obtain ⟨g, hg, hc, hgv⟩ := h p hp hv
    have t : C (gb_pr g (gb_e p)) := gb_prn_in h0 hx (fun k hk => ht g k hg hk hc) (gb_e p) 16 (Nat.le_refl 16)
    rw [gb_pr_comm hg (gb_e_lt p hp), gb_e_pr hp hg, if_pos hgv] at t
    exact t
  have hn : ∀ n, n ≤ 16 → C (gb_ip f n) := by
    intro n
    induction n with
    | zero => exact fun _ => h0
    | succ n ih =>
      intro hn
      refine hx _ _ (ih (by omega)) ?_
      cases hv : gb_ev f n
      · exact h0
      · exact he n (by omega) hv
  have t := hn 16 (Nat.le_refl 16)
  rw [gb_ip_id hf] at t
  exact t
end
section
/-! Part 03: a list of polynomials, its table of multiples; the criterion -/
def gb_fd (G : List Nat) (m : Nat) : Option Nat := G.find? (fun g => gb_sub g.log2 m)
def gb_b (G : List Nat) (m : Nat) : Nat := match gb_fd G m with
  | some g => gb_times g (gb_dif m g.log2)
  | none => 0
def gb_good (G : List Nat) : Prop := ∀ g, g ∈ G → 0 < g ∧ g < 65536
theorem gb_log_lt {g : Nat} (h0 : 0 < g) (h : g < 65536) : g.log2 < 16 := (Nat.log2_lt (by omega)).mpr h
theorem gb_b_some {G : List Nat} {m g : Nat} (h : gb_fd G m = some g) : gb_b G m = gb_times g (gb_dif m g.log2) := by
  unfold gb_b
  rw [h]
theorem gb_b_none {G : List Nat} {m : Nat} (h : gb_fd G m = none) : gb_b G m = 0 := by
  unfold gb_b
  rw [h]
theorem gb_b_ne {G : List Nat} {m : Nat} (h : gb_b G m ≠ 0) : ∃ g, gb_fd G m = some g := by
  cases e : gb_fd G m with
  | none => exact absurd (gb_b_none e) h
  | some g => exact ⟨g, rfl⟩
theorem gb_fd_in {G : List Nat} {m g : Nat} (h : gb_fd G m = some g) : g ∈ G ∧ gb_sub g.log2 m = true :=
  ⟨List.mem_of_find?_eq_some h, List.find?_some (p := fun (g : Nat) => gb_sub g.log2 m) h⟩
theorem gb_fd_ex {G : List Nat} {m g : Nat} (hg : g ∈ G) (h : gb_sub g.log2 m = true) : ∃ g', gb_fd G m = some g' := by
  cases e : gb_fd G m with
  | none => exact absurd h (List.find?_eq_none.mp e g hg)
  | some g' => exact ⟨g', rfl⟩
theorem gb_b_top {G : List Nat} (hG : gb_good G) {m g : Nat} (hm : m < 16) (h : gb_fd G m = some g) : gb_top (gb_b G m) m := by
  obtain ⟨hg, hs⟩ := gb_fd_in h
  obtain ⟨g0, g1⟩ := hG g hg
  have hl := gb_log_lt g0 g1
  obtain ⟨d1, d2⟩ := gb_dif_or m hm g.log2 hl hs
  have t := gb_times_top (gb_top_of (show g ≠ 0 by omega)) hl (gb_dif_lt (b := g.log2) hm) d2
  rw [Nat.or_comm, d1] at t
  rw [gb_b_some h]
  exact t
theorem gb_b_tri {G : List Nat} (hG : gb_good G) : gb_tri (gb_b G) := by
  intro m hm
  cases e : gb_fd G m with
  | none => exact Or.inl (gb_b_none e)
  | some g => exact Or.inr (gb_b_top hG hm e)
theorem gb_b_nz {G : List Nat} (hG : gb_good G) {m g : Nat} (hm : m < 16) (h : gb_fd G m = some g) : gb_b G m ≠ 0 := gb_top_ne (gb_b_top hG hm h)
theorem gb_fd_app {G T : List Nat} {m g : Nat} (h : gb_fd G m = some g) : gb_fd (G ++ T) m = some g := by
  unfold gb_fd at *
  rw [List.find?_append, h]; rfl
theorem gb_fd_app0 {G T : List Nat} {m : Nat} (h : gb_fd G m = none) : gb_fd (G ++ T) m = gb_fd T m := by
  unfold gb_fd at *
  rw [List.find?_append, h]; rfl
theorem gb_good_l {G T : List Nat} (h : gb_good (G ++ T)) : gb_good G := fun g hg => h g (List.mem_append_left T hg)
theorem gb_S_ext {G T : List Nat} (hG : gb_good (G ++ T)) {f : Nat} (hf : f < 65536) (h : gb_S (gb_b G) f) : gb_S (gb_b (G ++ T)) f := by
  refine gb_S_ind (gb_S_0 _) (fun x y => gb_S_x x y) (k := 16) (Nat.le_refl 16) hf (fun m hm hb => ?_) h
  obtain ⟨g, hg⟩ := gb_b_ne hb
  rw [gb_b_some hg, ← gb_b_some (gb_fd_app (T := T) hg)]
  exact gb_S_b (gb_b_tri hG) hm
theorem gb_sub_self : ∀ a, a < 16 → gb_sub a a = true ∧ gb_dif a a = 0 := by decide +kernel
/-- taking in what is left of f -/
theorem gb_take {G : List Nat} (hG : gb_good G) {f : Nat} (hf : f < 65536) (hr : gb_rd (gb_b G) 16 f ≠ 0) :
    gb_good (G ++ [gb_rd (gb_b G) 16 f]) ∧ gb_fd G (gb_rd (gb_b G) 16 f).log2 = none ∧ gb_S (gb_b (G ++ [gb_rd (gb_b G) 16 f])) f := by
  have ht := gb_b_tri hG
  have hl : gb_rd (gb_b G) 16 f < 65536 := gb_rd_lt ht (k := 16) 16 f (by omega) (by omega) hf
  have hrest := gb_S_rest ht f
  have hbit : ∀ m, m < 16 → gb_b G m ≠ 0 → (gb_rd (gb_b G) 16 f).testBit m = false := fun m hm hb => gb_rd_bit ht hb 16 f (by omega) hm
  generalize gb_rd (gb_b G) 16 f = r at *
  have hg' : gb_good (G ++ [r]) := by
    intro g hg
    rcases List.mem_append.mp hg with h | h
    · exact hG g h
    · rw [List.mem_singleton.mp h]; exact ⟨by omega, hl⟩
  have hlog := gb_log_lt (show 0 < r by omega) hl
  have hnone : gb_fd G r.log2 = none := by
    cases e : gb_fd G r.log2 with
    | none => rfl
    | some g =>
      have t := hbit _ hlog (gb_b_nz hG hlog e)
      rw [Nat.testBit_log2 hr] at t
      exact absurd t (by decide)
  refine ⟨hg', hnone, ?_⟩
  have hsome : gb_fd (G ++ [r]) r.log2 = some r := by
    rw [gb_fd_app0 hnone]
    unfold gb_fd
    exact List.find?_cons_of_pos (p := fun (g : Nat) => gb_sub g.log2 r.log2) (gb_sub_self _ hlog).1
  have hrS : gb_S (gb_b (G ++ [r])) r := by
    have t := gb_S_b (gb_b_tri hg') hlog
    rw [gb_b_some hsome, (gb_sub_self _ hlog).2, gb_times_one hl] at t
    exact t
  have t := gb_S_x _ _ (gb_S_ext hg' (Nat.xor_lt_two_pow (n := 16) hf hl) hrest) hrS
  rw [gb_x6] at t
  exact t
/-! ===== the criterion ===== -/
def gb_sp (g h : Nat) : Nat := gb_times g (gb_dif (g.log2 ||| h.log2) g.log2) ^^^ gb_times h (gb_dif (g.log2 ||| h.log2) h.log2)
theorem gb_sp_self (g : Nat) : gb_sp g g = 0 := Nat.xor_self _
theorem gb_sp_comm (g h : Nat) : gb_sp g h = gb_sp h g := by
  unfold gb_sp
  rw [Nat.or_comm h.log2 g.log2, Nat.xor_comm]
def gb_closed (G : List Nat) : Prop :=
  (∀ g, g ∈ G → ∀ v, v < 4 → g.log2.testBit v = true → gb_S (gb_b G) (gb_times g (2 ^ v) ^^^ g)) ∧
  (∀ g, g ∈ G → ∀ h, h ∈ G → gb_S (gb_b G) (gb_sp g h))
theorem gb_c1 : ∀ h, h < 16 → ∀ k, k < 16 → k &&& h = 0 → gb_sub h (h ||| k) = true ∧ gb_W (h ||| k) = gb_W k + gb_W h := by decide +kernel
theorem gb_c2a : ∀ h, h < 16 → ∀ k, k < 16 → k &&& h = 0 → ∀ h', h' < 16 → gb_sub h' (h ||| k) = true → gb_dif (h ||| h') h ||| gb_dif (h ||| k) (h ||| h') = k := by decide +kernel
theorem gb_c2b : ∀ h, h < 16 → ∀ k, k < 16 → k &&& h = 0 → ∀ h', h' < 16 → gb_sub h' (h ||| k) = true → gb_dif (h ||| h') h' ||| gb_dif (h ||| k) (h ||| h') = gb_dif (h ||| k) h' := by decide +kernel
theorem gb_c2c : ∀ h, h < 16 → ∀ k, k < 16 → k &&& h = 0 → ∀ h', h' < 16 → gb_sub h' (h ||| k) = true → gb_W (h ||| h') + gb_W (gb_dif (h ||| k) (h ||| h')) = gb_W (h ||| k) := by decide +kernel
theorem gb_c3 : ∀ h, h < 16 → ∀ h', h' < 16 → gb_dif (h ||| h') h &&& h = 0 ∧ h ||| gb_dif (h ||| h') h = h ||| h' ∧ gb_dif (h ||| h') h' &&& h' = 0 ∧ h' ||| gb_dif (h ||| h') h' = h ||| h' := by decide +kernel
theorem gb_c4 : ∀ m, m < 16 → ∀ h, h < 16 → gb_sub h m = true → gb_W (gb_dif m h) + gb_W h = gb_W m := by decide +kernel
def gb_vs (k h : Nat) : Nat := if (k &&& h).testBit 0 = true then 0 else if (k &&& h).testBit 1 = true then 1 else if (k &&& h).testBit 2 = true then 2 else 3
theorem gb_c5 : ∀ k, k < 16 → ∀ h, h < 16 → k &&& h ≠ 0 → gb_vs k h < 4 ∧ h.testBit (gb_vs k h) = true ∧ 2 ^ gb_vs k h ||| gb_dif k (2 ^ gb_vs k h) = k ∧ gb_W (gb_dif k (2 ^ gb_vs k h)) + gb_W (2 ^ gb_vs k h) = gb_W k := by decide +kernel
def gb_K (v h : Nat) : Nat := (h / 2 ^ (v + 1) + 1) * 2 ^ (v + 1)
theorem gb_c6 : ∀ v, v < 4 → ∀ h, h < 16 → h.testBit v = true → gb_K v h ≤ 16 ∧ h < gb_K v h ∧ 2 ^ v < 16 := by decide +kernel
theorem gb_c7 : ∀ v, v < 4 → ∀ h, h < 16 → h.testBit v = true → ∀ m, m < 16 → m < gb_K v h → gb_W m < gb_W (2 ^ v) + gb_W h := by decide +kernel
theorem gb_c8 : ∀ v, v < 4 → ∀ h, h < 16 → h.testBit v = true → ∀ m, m < 16 → m ≤ h → m ||| 2 ^ v < gb_K v h := by decide +kernel
theorem gb_sp_lt {g h : Nat} (g0 : 0 < g) (g1 : g < 65536) (h0 : 0 < h) (h1 : h < 65536) : gb_sp g h < 2 ^ (g.log2 ||| h.log2) := by
  have hl := gb_log_lt g0 g1
  have hl' := gb_log_lt h0 h1
  obtain ⟨c1, c2, c3, c4⟩ := gb_c3 _ hl _ hl'
  have ho := gb_or_lt hl hl'
  have t1 := gb_times_top (gb_top_of (show g ≠ 0 by omega)) hl (gb_dif_lt (b := g.log2) ho) c1
  have t2 := gb_times_top (gb_top_of (show h ≠ 0 by omega)) hl' (gb_dif_lt (b := h.log2) ho) c3
  rw [c2] at t1
  rw [c4] at t2
  exact gb_top_xor t1 t2
theorem gb_crit {G : List Nat} (hG : gb_good G) (hc : gb_closed G) : ∀ N, ∀ g, g ∈ G → ∀ k, k < 16 → gb_W k + gb_W g.log2 = N → gb_S (gb_b G) (gb_times g k) := by
  intro N
  induction N using Nat.strongRecOn with
  | ind N ih =>
    intro g hg k hk hN
    obtain ⟨g0, g1⟩ := hG g hg
    have hl := gb_log_lt g0 g1
    -- a multiple of a row of the table, where the weights allow it
    have row : ∀ r, r < 16 → ∀ m, m < 16 → gb_W m + gb_W r < N → gb_b G m ≠ 0 → gb_S (gb_b G) (gb_times (gb_b G m) r) := by
      intro r hr m hm hw hb
      obtain ⟨l, hl2⟩ := gb_b_ne hb
      obtain ⟨lin, ls⟩ := gb_fd_in hl2
      obtain ⟨l0, l1⟩ := hG l lin
      have ll := gb_log_lt l0 l1
      have hd := gb_dif_lt (b := l.log2) hm
      rw [gb_b_some hl2, gb_times_times l1 hd hr]
      have e1 := gb_W_or _ hd r hr
      have e2 := gb_c4 m hm _ ll ls
      exact ih _ (by omega) l lin _ (gb_or_lt hd hr) rfl
    by_cases hd : k &&& g.log2 = 0
    · obtain ⟨s1, w1⟩ := gb_c1 _ hl k hk hd
      have hm : g.log2 ||| k < 16 := gb_or_lt hl hk
      obtain ⟨g', hg'⟩ := gb_fd_ex hg s1
      obtain ⟨gin, gs⟩ := gb_fd_in hg'
      obtain ⟨g0', g1'⟩ := hG g' gin
      have hl' := gb_log_lt g0' g1'
      have e1 := gb_c2a _ hl k hk hd _ hl' gs
      have e2 := gb_c2b _ hl k hk hd _ hl' gs
      have e3 := gb_c2c _ hl k hk hd _ hl' gs
      have ho := gb_or_lt hl hl'
      have hr := gb_dif_lt (b := g.log2 ||| g'.log2) hm
      have hsp : gb_S (gb_b G) (gb_times (gb_sp g g') (gb_dif (g.log2 ||| k) (g.log2 ||| g'.log2))) := by
        refine gb_S_ind (C := fun x => gb_S (gb_b G) (gb_times x (gb_dif (g.log2 ||| k) (g.log2 ||| g'.log2)))) ?_ ?_ (Nat.le_of_lt ho) (gb_sp_lt g0 g1 g0' g1') (fun m hm' hb => ?_) (hc.2 g hg g' gin)
        · show gb_S (gb_b G) (gb_times 0 _)
          rw [gb_times_zero]; exact gb_S_0 _
        · intro x y hx hy
          show gb_S (gb_b G) (gb_times (x ^^^ y) _)
          rw [gb_times_xor]; exact gb_S_x _ _ hx hy
        · have hmo := gb_W_mono m (by omega) _ ho hm'
          exact row _ hr m (by omega) (by omega) hb
      have e : gb_times (gb_sp g g') (gb_dif (g.log2 ||| k) (g.log2 ||| g'.log2)) = gb_times g k ^^^ gb_b G (g.log2 ||| k) := by
        rw [gb_b_some hg']
        unfold gb_sp
        rw [gb_times_xor, gb_times_times g1 (gb_dif_lt ho) hr, gb_times_times g1' (gb_dif_lt ho) hr, e1, e2]
      rw [e] at hsp
      have t := gb_S_x _ _ hsp (gb_S_b (gb_b_tri hG) hm)
      rw [gb_x6] at t
      exact t
    · obtain ⟨v4, vh, vk, vw⟩ := gb_c5 k hk _ hl hd
      generalize gb_vs k g.log2 = v at *
      obtain ⟨k16, kh, v16⟩ := gb_c6 v v4 _ hl vh
      have hk1 := gb_dif_lt (b := 2 ^ v) hk
      have hw := gb_W_bit v v4
      have hek : gb_times g (2 ^ v) ^^^ g < 2 ^ gb_K v g.log2 := by
        refine Nat.xor_lt_two_pow (gb_tm_below (fun m hm => ?_) 16) (Nat.lt_of_lt_of_le Nat.lt_log2_self (gb_pw kh))
        have hml : m ≤ g.log2 := by
          rcases Nat.lt_or_ge g.log2 m with z | z
          · rw [gb_hi (Nat.lt_log2_self (n := g)) z] at hm
            exact absurd hm (by decide)
          · exact z
        exact gb_c8 v v4 _ hl vh m (by omega) hml
      have hA : gb_S (gb_b G) (gb_times (gb_times g (2 ^ v) ^^^ g) (gb_dif k (2 ^ v))) := by
        refine gb_S_ind (C := fun x => gb_S (gb_b G) (gb_times x (gb_dif k (2 ^ v)))) ?_ ?_ k16 hek (fun m hm' hb => ?_) (hc.1 g hg v v4 vh)
        · show gb_S (gb_b G) (gb_times 0 _)
          rw [gb_times_zero]; exact gb_S_0 _
        · intro x y hx hy
          show gb_S (gb_b G) (gb_times (x ^^^ y) _)
          rw [gb_times_xor]; exact gb_S_x _ _ hx hy
        · have hmo := gb_c7 v v4 _ hl vh m (by omega) hm'
          exact row _ hk1 m (by omega) (by omega) hb
      have hB : gb_S (gb_b G) (gb_times g (gb_dif k (2 ^ v))) := ih _ (by omega) g hg _ hk1 rfl
      have t := gb_S_x _ _ hA hB
      rw [← gb_times_xor, gb_x6, gb_times_times g1 v16 hk1, vk] at t
      exact t
theorem gb_ideal {G : List Nat} (hG : gb_good G) (hc : gb_closed G) {f k : Nat} (hf : f < 65536) (hk : k < 16) (h : gb_S (gb_b G) f) : gb_S (gb_b G) (gb_times f k) := by
  refine gb_S_ind (C := fun x => gb_S (gb_b G) (gb_times x k)) ?_ ?_ (k := 16) (Nat.le_refl 16) hf (fun m hm hb => ?_) h
  · show gb_S (gb_b G) (gb_times 0 _)
    rw [gb_times_zero]; exact gb_S_0 _
  · intro x y hx hy
    show gb_S (gb_b G) (gb_times (x ^^^ y) _)
    rw [gb_times_xor]; exact gb_S_x _ _ hx hy
  · obtain ⟨l, hl2⟩ := gb_b_ne hb
    obtain ⟨lin, ls⟩ := gb_fd_in hl2
    obtain ⟨l0, l1⟩ := hG l lin
    have hd := gb_dif_lt (b := l.log2) hm
    show gb_S (gb_b G) (gb_times (gb_b G m) k)
    rw [gb_b_some hl2, gb_times_times l1 hd hk]
    exact gb_crit hG hc _ l lin _ (gb_or_lt hd hk) rfl
/-! ===== complete: what reduces to nothing is what vanishes on V ===== -/
def gb_full (V : Nat → Bool) (G : List Nat) : Prop :=
  gb_good G ∧ ∀ f, f < 65536 → (gb_S (gb_b G) f ↔ ∀ p, p < 16 → V p = true → gb_ev f p = false)
def gb_van (V : Nat → Bool) (G : List Nat) : Prop := ∀ g, g ∈ G → ∀ p, p < 16 → V p = true → gb_ev g p = false
theorem gb_van_b {V : Nat → Bool} {G : List Nat} (hG : gb_good G) (hv : gb_van V G) {m : Nat} (hm : m < 16) {p : Nat} (hp : p < 16) (hV : V p = true) : gb_ev (gb_b G m) p = false := by
  cases e : gb_fd G m with
  | none => rw [gb_b_none e]; exact gb_ev_zero p
  | some g =>
    obtain ⟨hg, _⟩ := gb_fd_in e
    rw [gb_b_some e]
    exact gb_ev_times0 (hG g hg).2 (gb_dif_lt hm) hp (hv g hg p hp hV)
theorem gb_full_of {V : Nat → Bool} {G : List Nat} (hG : gb_good G) (hc : gb_closed G) (hv : gb_van V G)
    (hgen : ∀ p, p < 16 → V p = false → ∃ f, f < 65536 ∧ gb_S (gb_b G) f ∧ gb_ev f p = true) : gb_full V G := by
  refine ⟨hG, fun f hf => ⟨fun h => ?_, fun h => ?_⟩⟩
  · refine gb_S_ind (C := fun x => ∀ p, p < 16 → V p = true → gb_ev x p = false) ?_ ?_ (k := 16) (Nat.le_refl 16) hf (fun m hm hb => ?_) h
    · exact fun p _ _ => gb_ev_zero p
    · exact fun x y hx hy p hp hV => gb_ev_xor0 (hx p hp hV) (hy p hp hV)
    · exact fun p hp hV => gb_van_b hG hv hm hp hV
  · refine gb_null (gb_S_0 _) (fun x y => gb_S_x x y) (fun x k hx hk hs => gb_ideal hG hc hx hk hs) hf (fun p hp he => ?_)
    cases hV : V p with
    | false => exact hgen p hp hV
    | true =>
      rw [h p hp hV] at he
      exact absurd he (by decide)
theorem gb_nf_uniq {V : Nat → Bool} {G1 G2 : List Nat} (h1 : gb_full V G1) (h2 : gb_full V G2) {f : Nat} (hf : f < 65536) : gb_rd (gb_b G1) 16 f = gb_rd (gb_b G2) 16 f := by
  have t1 := gb_b_tri h1.1
  have t2 := gb_b_tri h2.1
  have l1 : gb_rd (gb_b G1) 16 f < 65536 := gb_rd_lt t1 (k := 16) 16 f (by omega) (by omega) hf
  have l2 : gb_rd (gb_b G2) 16 f < 65536 := gb_rd_lt t2 (k := 16) 16 f (by omega) (by omega) hf
  have r1 := gb_S_rest t1 f
  have r2 := gb_S_rest t2 f
  have b1 : ∀ m, m < 16 → gb_b G1 m ≠ 0 → (gb_rd (gb_b G1) 16 f).testBit m = false := fun m hm hb => gb_rd_bit t1 hb 16 f (by omega) hm
  have b2 : ∀ m, m < 16 → gb_b G2 m ≠ 0 → (gb_rd (gb_b G2) 16 f).testBit m = false := fun m hm hb => gb_rd_bit t2 hb 16 f (by omega) hm
  generalize gb_rd (gb_b G1) 16 f = a at *
  generalize gb_rd (gb_b G2) 16 f = c at *
  have v1 := (h1.2 _ (Nat.xor_lt_two_pow (n := 16) hf l1)).mp r1
  have v2 := (h2.2 _ (Nat.xor_lt_two_pow (n := 16) hf l2)).mp r2
  have v : ∀ p, p < 16 → V p = true → gb_ev (a ^^^ c) p = false := by
    intro p hp hV
    have t := gb_ev_xor0 (v1 p hp hV) (v2 p hp hV)
    rw [Nat.xor_comm f a, Nat.xor_comm f c, gb_x1] at t
    exact t
  have hl : a ^^^ c < 65536 := Nat.xor_lt_two_pow (n := 16) l1 l2
  by_cases e : a ^^^ c = 0
  · exact gb_x7 e
  · have hm := gb_log_lt (show 0 < a ^^^ c by omega) hl
    have ht := gb_top_of e
    have n1 := gb_S_top t1 hm ht ((h1.2 _ hl).mpr v)
    have n2 := gb_S_top t2 hm ht ((h2.2 _ hl).mpr v)
    have h := ht.1
    rw [Nat.testBit_xor, b1 _ hm n1, b2 _ hm n2] at h
    exact absurd h (by decide)
end
section
/-! Part 04: counting, masks, the basis of least bound monomials -/
def gb_cnt (p : Nat → Bool) : Nat → Nat
  | 0 => 0
  | n + 1 => gb_cnt p n + (if p n = true then 1 else 0)
theorem gb_cnt_congr {p q : Nat → Bool} : ∀ n : Nat, (∀ m, m < n → p m = q m) → gb_cnt p n = gb_cnt q n
  | 0, _ => rfl
  | n + 1, h => by
    show gb_cnt p n + (if p n = true then 1 else 0) = gb_cnt q n + (if q n = true then 1 else 0)
    rw [gb_cnt_congr n (fun m hm => h m (by omega)), h n (by omega)]
theorem gb_cnt_mono {p q : Nat → Bool} : ∀ n : Nat, (∀ m, m < n → q m = true → p m = true) → gb_cnt q n ≤ gb_cnt p n
  | 0, _ => Nat.le_refl 0
  | n + 1, h => by
    show gb_cnt q n + (if q n = true then 1 else 0) ≤ gb_cnt p n + (if p n = true then 1 else 0)
    have ih := gb_cnt_mono n (fun m hm => h m (by omega))
    have hn := h n (by omega)
    cases hq : q n
    · rw [if_neg (by decide)]
      omega
    · rw [hn hq]
      omega
theorem gb_cnt_lt {p q : Nat → Bool} {k : Nat} (hk1 : p k = true) (hk2 : q k = false) : ∀ n : Nat, k < n → (∀ m, m < n → q m = true → p m = true) → gb_cnt q n < gb_cnt p n
  | 0, hk, _ => absurd hk (by omega)
  | n + 1, hk, h => by
    show gb_cnt q n + (if q n = true then 1 else 0) < gb_cnt p n + (if p n = true then 1 else 0)
    by_cases e : k = n
    · have ih := gb_cnt_mono n (fun m hm => h m (by omega))
      rw [← e, hk1, hk2, e, if_neg (by decide), if_pos rfl]
      omega
    · have ih := gb_cnt_lt hk1 hk2 n (by omega) (fun m hm => h m (by omega))
      have hn := h n (by omega)
      cases hq : q n
      · rw [if_neg (by decide)]
        omega
      · rw [hn hq]
        omega
/-- one place is lost, all others stay -/
theorem gb_cnt_one {p q : Nat → Bool} {k : Nat} (hk1 : p k = true) (hk2 : q k = false) : ∀ n : Nat, k < n → (∀ m, m < n → m ≠ k → q m = p m) → gb_cnt p n = gb_cnt q n + 1
  | 0, hk, _ => absurd hk (by omega)
  | n + 1, hk, h => by
    show gb_cnt p n + (if p n = true then 1 else 0) = gb_cnt q n + (if q n = true then 1 else 0) + 1
    by_cases e : k = n
    · have ih : gb_cnt q n = gb_cnt p n := gb_cnt_congr n (fun m hm => h m (by omega) (by omega))
      rw [← e, hk1, hk2, e, if_pos rfl, if_neg (by decide)]
      omega
    · have ih := gb_cnt_one hk1 hk2 n (by omega) (fun m hm => h m (by omega))
      rw [h n (by omega) (fun z => e z.symm)]
      omega
theorem gb_cnt_all : ∀ n : Nat, gb_cnt (fun _ => true) n = n
  | 0 => rfl
  | n + 1 => by
    show gb_cnt (fun _ => true) n + 1 = n + 1
    rw [gb_cnt_all n]
theorem gb_cnt_le (p : Nat → Bool) : ∀ n : Nat, gb_cnt p n ≤ n
  | 0 => Nat.le_refl 0
  | n + 1 => by
    show gb_cnt p n + (if p n = true then 1 else 0) ≤ n + 1
    have := gb_cnt_le p n
    cases p n
    · rw [if_neg (by decide)]; omega
    · rw [if_pos rfl]; omega
theorem gb_cnt_not (p : Nat → Bool) : ∀ n : Nat, gb_cnt (fun m => !p m) n + gb_cnt p n = n
  | 0 => rfl
  | n + 1 => by
    show gb_cnt (fun m => !p m) n + (if (!p n) = true then 1 else 0) + (gb_cnt p n + (if p n = true then 1 else 0)) = n + 1
    have := gb_cnt_not p n
    cases p n
    · show gb_cnt (fun m => !p m) n + 1 + (gb_cnt p n + 0) = n + 1
      omega
    · show gb_cnt (fun m => !p m) n + 0 + (gb_cnt p n + 1) = n + 1
      omega
/-- a mask out of its bits -/
def gb_mk (P : Nat → Bool) : Nat → Nat
  | 0 => 0
  | n + 1 => gb_mk P n ||| (if P n = true then 2 ^ n else 0)
theorem gb_mk_lt (P : Nat → Bool) : ∀ n : Nat, gb_mk P n < 2 ^ n
  | 0 => Nat.two_pow_pos 0
  | n + 1 => by
    refine Nat.or_lt_two_pow (Nat.lt_of_lt_of_le (gb_mk_lt P n) (gb_pw (by omega))) ?_
    cases P n
    · exact Nat.two_pow_pos _
    · exact Nat.pow_lt_pow_right (by omega) (by omega)
theorem gb_mk_bit (P : Nat → Bool) {i : Nat} : ∀ n : Nat, (gb_mk P n).testBit i = (decide (i < n) && P i)
  | 0 => by
    show (0 : Nat).testBit i = _
    rw [Nat.zero_testBit]; rfl
  | n + 1 => by
    show (gb_mk P n ||| (if P n = true then 2 ^ n else 0)).testBit i = _
    rw [Nat.testBit_or, gb_mk_bit P n]
    by_cases e : i = n
    · rw [e]
      cases hP : P n
      · rw [if_neg (by decide), Nat.zero_testBit, Bool.and_false, Bool.and_false]; rfl
      · rw [if_pos rfl, Nat.testBit_two_pow_self, decide_eq_true (show n < n + 1 by omega), Bool.or_true]; rfl
    · have e2 : ((if P n = true then 2 ^ n else 0 : Nat)).testBit i = false := by
        cases P n
        · rw [if_neg (by decide), Nat.zero_testBit]
        · rw [if_pos rfl, Nat.testBit_two_pow_of_ne (fun z => e z.symm)]
      rw [e2, Bool.or_false]
      by_cases h : i < n
      · rw [decide_eq_true h, decide_eq_true (show i < n + 1 by omega)]
      · rw [decide_eq_false h, decide_eq_false (show ¬ i < n + 1 by omega)]
/-! ===== heads of what vanishes on the first k points of V ===== -/
def gb_H (V : Nat → Bool) (k m : Nat) : Prop := ∃ f, f < 65536 ∧ gb_top f m ∧ ∀ p, p < k → V p = true → gb_ev f p = false
noncomputable def gb_HB (V : Nat → Bool) (k m : Nat) : Bool := @decide (gb_H V k m) (Classical.propDecidable _)
theorem gb_HB_t {V : Nat → Bool} {k m : Nat} (h : gb_H V k m) : gb_HB V k m = true := @decide_eq_true _ (Classical.propDecidable _) h
theorem gb_HB_f {V : Nat → Bool} {k m : Nat} (h : ¬ gb_H V k m) : gb_HB V k m = false := @decide_eq_false _ (Classical.propDecidable _) h
theorem gb_HB_e {V : Nat → Bool} {k k' m : Nat} (h : gb_H V k m ↔ gb_H V k' m) : gb_HB V k m = gb_HB V k' m := by
  by_cases e : gb_H V k m
  · rw [gb_HB_t e, gb_HB_t (h.mp e)]
  · rw [gb_HB_f e, gb_HB_f (fun z => e (h.mpr z))]
theorem gb_H_step {V : Nat → Bool} {k : Nat} (hk : k < 16) (hV : V k = true) : gb_cnt (gb_HB V k) 16 = gb_cnt (gb_HB V (k + 1)) 16 + 1 := by
  have hex : ∃ m f, f < 65536 ∧ gb_top f m ∧ (∀ p, p < k → V p = true → gb_ev f p = false) ∧ gb_ev f k = true := by
    have hv : gb_ev (gb_e k) k = true := by rw [gb_e_ev k hk k hk]; exact beq_self_eq_true k
    have hne : gb_e k ≠ 0 := by
      intro z
      rw [z, gb_ev_zero] at hv
      exact absurd hv (by decide)
    refine ⟨(gb_e k).log2, gb_e k, gb_e_lt k hk, gb_top_of hne, fun p hp _ => ?_, hv⟩
    rw [gb_e_ev k hk p (by omega)]
    exact beq_false_of_ne (by omega)
  obtain ⟨m0, ⟨f0, f0l, f0t, f0v, f0k⟩, hmin⟩ := pk_least _ hex
  have hm0 : m0 < 16 := gb_top_lt (k := 16) f0t f0l
  have hle : ∀ m, m ≠ m0 → gb_H V k m → gb_H V (k + 1) m := by
    intro m hne ⟨f, fl, ft, fv⟩
    cases hf : gb_ev f k
    · refine ⟨f, fl, ft, fun p hp hVp => ?_⟩
      by_cases e : p = k
      · rw [e]; exact hf
      · exact fv p (by omega) hVp
    · have hlt : m0 < m := by
        rcases Nat.lt_or_ge m m0 with z | z
        · exact absurd ⟨f, fl, ft, fv, hf⟩ (hmin m z)
        · omega
      refine ⟨f ^^^ f0, Nat.xor_lt_two_pow (n := 16) fl f0l, gb_top_low ft (Nat.lt_of_lt_of_le f0t.2 (gb_pw hlt)), fun p hp hVp => ?_⟩
      by_cases e : p = k
      · rw [e, gb_ev_xor, hf, f0k]; rfl
      · exact gb_ev_xor0 (fv p (by omega) hVp) (f0v p (by omega) hVp)
  have hge : ∀ m, gb_H V (k + 1) m → gb_H V k m := fun m ⟨f, fl, ft, fv⟩ => ⟨f, fl, ft, fun p hp => fv p (by omega)⟩
  have hno : ¬ gb_H V (k + 1) m0 := by
    intro ⟨f, fl, ft, fv⟩
    have hv : gb_ev (f ^^^ f0) k = true := by rw [gb_ev_xor, fv k (by omega) hV, f0k]; rfl
    have hne : f ^^^ f0 ≠ 0 := by
      intro z
      rw [z, gb_ev_zero] at hv
      exact absurd hv (by decide)
    have hl := gb_top_lt (gb_top_of hne) (gb_top_xor ft f0t)
    exact hmin _ hl ⟨f ^^^ f0, Nat.xor_lt_two_pow (n := 16) fl f0l, gb_top_of hne, fun p hp hVp => gb_ev_xor0 (fv p (by omega) hVp) (f0v p hp hVp), hv⟩
  exact gb_cnt_one (gb_HB_t ⟨f0, f0l, f0t, f0v⟩) (gb_HB_f hno) 16 hm0 (fun m _ hne => gb_HB_e ⟨hge m, hle m hne⟩)
theorem gb_H_cnt (V : Nat → Bool) : ∀ k : Nat, k ≤ 16 → gb_cnt (gb_HB V k) 16 + gb_cnt V k = 16
  | 0, _ => by
    have e : gb_cnt (gb_HB V 0) 16 = gb_cnt (fun _ => true) 16 := gb_cnt_congr 16 (fun m hm => gb_HB_t ⟨2 ^ m, Nat.pow_lt_pow_right (n := 16) (by omega) hm, gb_top_pow m, fun p hp => absurd hp (by omega)⟩)
    rw [e, gb_cnt_all]; rfl
  | k + 1, hk => by
    have ih := gb_H_cnt V k (by omega)
    show gb_cnt (gb_HB V (k + 1)) 16 + (gb_cnt V k + (if V k = true then 1 else 0)) = 16
    cases hV : V k
    · have e : gb_cnt (gb_HB V (k + 1)) 16 = gb_cnt (gb_HB V k) 16 := by
        refine gb_cnt_congr 16 (fun m _ => gb_HB_e ⟨fun ⟨f, fl, ft, fv⟩ => ⟨f, fl, ft, fun p hp => fv p (by omega)⟩, fun ⟨f, fl, ft, fv⟩ => ⟨f, fl, ft, fun p hp hVp => ?_⟩⟩)
        by_cases e : p = k
        · rw [e, hV] at hVp
          exact absurd hVp (by decide)
        · exact fv p (by omega) hVp
      rw [e, if_neg (by decide)]
      omega
    · have := gb_H_step (show k < 16 by omega) hV
      rw [if_pos rfl]
      omega
def gb_bd (G : List Nat) (m : Nat) : Bool := (gb_fd G m).isSome
theorem gb_bd_t {G : List Nat} {m g : Nat} (h : gb_fd G m = some g) : gb_bd G m = true := by
  unfold gb_bd
  rw [h]; rfl
theorem gb_bd_f {G : List Nat} {m : Nat} (h : gb_fd G m = none) : gb_bd G m = false := by
  unfold gb_bd
  rw [h]; rfl
theorem gb_bd_ex {G : List Nat} {m : Nat} (h : gb_bd G m = true) : ∃ g, gb_fd G m = some g := Option.isSome_iff_exists.mp h
theorem gb_bd_none {G : List Nat} {m : Nat} (h : gb_bd G m = false) : gb_fd G m = none := by
  cases e : gb_fd G m with
  | none => rfl
  | some g =>
    rw [gb_bd_t e] at h
    exact absurd h (by decide)
/-- as many monomials are free as there are zeros -/
theorem gb_count {V : Nat → Bool} {G : List Nat} (h : gb_full V G) : gb_cnt (fun m => !gb_bd G m) 16 = gb_cnt V 16 := by
  have e : gb_cnt (gb_HB V 16) 16 = gb_cnt (gb_bd G) 16 := by
    refine gb_cnt_congr 16 (fun m hm => ?_)
    cases hb : gb_bd G m
    · refine gb_HB_f (fun ⟨f, fl, ft, fv⟩ => ?_)
      exact gb_S_top (gb_b_tri h.1) hm ft ((h.2 f fl).mpr fv) (gb_b_none (gb_bd_none hb))
    · obtain ⟨g, hg⟩ := gb_bd_ex hb
      have ht := gb_b_top h.1 hm hg
      have hl : gb_b G m < 65536 := Nat.lt_of_lt_of_le ht.2 (gb_pw (b := 16) (by omega))
      exact gb_HB_t ⟨gb_b G m, hl, ht, (h.2 _ hl).mp (gb_S_b (gb_b_tri h.1) hm)⟩
  have h1 := gb_H_cnt V 16 (Nat.le_refl 16)
  have h2 := gb_cnt_not (gb_bd G) 16
  omega
/-! ===== the basis ===== -/
def gb_lb (G : List Nat) (m : Nat) : Bool := gb_bd G m && (List.range 4).all (fun v => gb_dif m (2 ^ v) == m || !gb_bd G (gb_dif m (2 ^ v)))
def gb_q (G : List Nat) (m : Nat) : Nat := 2 ^ m ^^^ gb_rd (gb_b G) 16 (2 ^ m)
def gb_M (G : List Nat) (n : Nat) : List Nat := (List.range n).filter (gb_lb G)
def gb_Q (G : List Nat) (n : Nat) : List Nat := (gb_M G n).map (gb_q G)
theorem gb_q_S {G : List Nat} (hG : gb_good G) (m : Nat) : gb_S (gb_b G) (gb_q G m) := gb_S_rest (gb_b_tri hG) _
theorem gb_q_top {G : List Nat} (hG : gb_good G) {m : Nat} (hm : m < 16) (hb : gb_bd G m = true) : gb_top (gb_q G m) m := by
  obtain ⟨g, hg⟩ := gb_bd_ex hb
  have ht := gb_b_tri hG
  have hl : gb_rd (gb_b G) 16 (2 ^ m) < 2 ^ (m + 1) := by
    rw [gb_rd_low (gb_top_pow m).2 16 (by omega)]
    exact gb_rd_lt ht (m + 1) _ (by omega) (Nat.le_refl _) (gb_top_pow m).2
  refine gb_top_low (gb_top_pow m) (Nat.lt_pow_two_of_testBit _ (fun i hi => ?_))
  by_cases e : i = m
  · rw [e]
    exact gb_rd_bit ht (gb_b_nz hG hm hg) 16 _ (by omega) hm
  · exact gb_hi hl (by omega)
theorem gb_lb_bd {G : List Nat} {m : Nat} (h : gb_lb G m = true) : gb_bd G m = true := by
  unfold gb_lb at h
  rw [Bool.and_eq_true] at h
  exact h.1
theorem gb_c9 : ∀ m, m < 16 → ∀ v, v < 4 → gb_dif m (2 ^ v) ≠ m → gb_dif m (2 ^ v) < m ∧ gb_sub (gb_dif m (2 ^ v)) m = true := by decide +kernel
theorem gb_c10 : ∀ a, a < 16 → ∀ b, b < 16 → ∀ c, c < 16 → gb_sub a b = true → gb_sub b c = true → gb_sub a c = true := by decide +kernel
theorem gb_lb_ex {G : List Nat} : ∀ m, m < 16 → gb_bd G m = true → ∃ m', m' < 16 ∧ gb_lb G m' = true ∧ gb_sub m' m = true := by
  intro m
  induction m using Nat.strongRecOn with
  | ind m ih =>
    intro hm hb
    cases hl : gb_lb G m
    · have h2 : (List.range 4).all (fun v => gb_dif m (2 ^ v) == m || !gb_bd G (gb_dif m (2 ^ v))) = false := by
        unfold gb_lb at hl
        rw [hb, Bool.true_and] at hl
        exact hl
      rw [List.all_eq_false] at h2
      obtain ⟨v, hv, h3⟩ := h2
      have hv4 : v < 4 := List.mem_range.mp hv
      have hne : gb_dif m (2 ^ v) ≠ m := fun z => h3 (by rw [beq_iff_eq.mpr z]; rfl)
      have hbd : gb_bd G (gb_dif m (2 ^ v)) = true := by
        cases e : gb_bd G (gb_dif m (2 ^ v))
        · exact absurd (show (gb_dif m (2 ^ v) == m || !gb_bd G (gb_dif m (2 ^ v))) = true by rw [e]; exact Bool.or_true _) h3
        · rfl
      obtain ⟨lt, sb⟩ := gb_c9 m hm v hv4 hne
      obtain ⟨m', a1, a2, a3⟩ := ih _ lt (by omega) hbd
      exact ⟨m', a1, a2, gb_c10 m' a1 _ (by omega) m hm a3 sb⟩
    · exact ⟨m, hm, hl, (gb_sub_self m hm).1⟩
theorem gb_full_ev {V : Nat → Bool} {G : List Nat} (h : gb_full V G) {f p : Nat} (hf : f < 65536) (hs : gb_S (gb_b G) f) (hp : p < 16) (hV : V p = true) : gb_ev f p = false :=
  (h.2 f hf).mp hs p hp hV
theorem gb_q_lt {G : List Nat} (hG : gb_good G) {m : Nat} (hm : m < 16) : gb_q G m < 65536 := by
  have h1 : 2 ^ m < 2 ^ 16 := Nat.pow_lt_pow_right (by omega) hm
  exact Nat.xor_lt_two_pow (n := 16) h1 (gb_rd_lt (gb_b_tri hG) (k := 16) 16 _ (by omega) (by omega) h1)
/-- where the basis vanishes all of S does -/
theorem gb_zall {V : Nat → Bool} {G : List Nat} (h : gb_full V G) {p : Nat} (hp : p < 16) (hz : ∀ m, m < 16 → gb_lb G m = true → gb_ev (gb_q G m) p = false) :
    ∀ f, f < 65536 → gb_S (gb_b G) f → gb_ev f p = false := by
  intro f
  induction f using Nat.strongRecOn with
  | ind f ih =>
    intro hf hs
    by_cases e : f = 0
    · rw [e]; exact gb_ev_zero p
    · have ht := gb_top_of e
      have hm := gb_log_lt (show 0 < f by omega) hf
      obtain ⟨g, hg⟩ := gb_b_ne (gb_S_top (gb_b_tri h.1) hm ht hs)
      obtain ⟨m', a1, a2, a3⟩ := gb_lb_ex _ hm (gb_bd_t hg)
      have ql := gb_q_lt h.1 a1
      have qt := gb_q_top h.1 a1 (gb_lb_bd a2)
      obtain ⟨d1, d2⟩ := gb_dif_or _ hm _ a1 a3
      have hd := gb_dif_lt (b := m') hm
      have tt := gb_times_top qt a1 hd d2
      rw [Nat.or_comm, d1] at tt
      have tl := gb_times_lt hd (gb_q G m')
      have ts : gb_S (gb_b G) (gb_times (gb_q G m') (gb_dif f.log2 m')) :=
        (h.2 _ tl).mpr (fun p hp hV => gb_ev_times0 ql hd hp (gb_full_ev h ql (gb_q_S h.1 m') hp hV))
      have hlow := gb_top_xor ht tt
      have hle : 2 ^ f.log2 ≤ f := Nat.log2_self_le e
      have t := ih _ (Nat.lt_of_lt_of_le hlow hle) (Nat.xor_lt_two_pow (n := 16) hf tl) (gb_S_x _ _ hs ts)
      have t2 := gb_ev_xor0 t (gb_ev_times0 ql hd hp (hz m' a1 a2))
      rw [gb_x6] at t2
      exact t2
theorem gb_zV {V : Nat → Bool} {G : List Nat} (h : gb_full V G) {p : Nat} (hp : p < 16) : V p = true ↔ ∀ q, q ∈ gb_Q G 16 → gb_ev q p = false := by
  constructor
  · intro hV q hq
    obtain ⟨m, hm, e⟩ := List.mem_map.mp hq
    have hm16 : m < 16 := List.mem_range.mp (List.mem_filter.mp hm).1
    rw [← e]
    exact gb_full_ev h (gb_q_lt h.1 hm16) (gb_q_S h.1 m) hp hV
  · intro hz
    have hall := gb_zall h hp (fun m hm hl => hz _ (List.mem_map.mpr ⟨m, List.mem_filter.mpr ⟨List.mem_range.mpr hm, hl⟩, rfl⟩))
    cases hV : V p
    · have he : gb_S (gb_b G) (gb_e p) := by
        refine (h.2 _ (gb_e_lt p hp)).mpr (fun r hr hVr => ?_)
        rw [gb_e_ev p hp r hr]
        refine beq_false_of_ne (fun z => ?_)
        rw [z, hVr] at hV
        exact absurd hV (by decide)
      have t := hall _ (gb_e_lt p hp) he
      rw [gb_e_ev p hp p hp, beq_self_eq_true] at t
      exact absurd t (by decide)
    · rfl
theorem gb_M_succ (G : List Nat) (n : Nat) : gb_M G (n + 1) = gb_M G n ++ (if gb_lb G n = true then [n] else []) := by
  unfold gb_M
  rw [List.range_succ, List.filter_append]
  cases h : gb_lb G n
  · rw [if_neg (by decide), List.filter_cons_of_neg (by rw [h]; decide)]; rfl
  · rw [if_pos rfl, List.filter_cons_of_pos h]; rfl
theorem gb_Q_t {G : List Nat} {n : Nat} (h : gb_lb G n = true) : gb_Q G (n + 1) = gb_Q G n ++ [gb_q G n] := by
  unfold gb_Q
  rw [gb_M_succ, if_pos h, List.map_append]; rfl
theorem gb_Q_f {G : List Nat} {n : Nat} (h : gb_lb G n = false) : gb_Q G (n + 1) = gb_Q G n := by
  unfold gb_Q
  rw [gb_M_succ, if_neg (by rw [h]; decide), List.append_nil]
theorem gb_Q_len (G : List Nat) (n : Nat) : (gb_Q G n).length ≤ n := by
  unfold gb_Q gb_M
  rw [List.length_map]
  exact Nat.le_trans (List.length_filter_le _ _) (by rw [List.length_range]; exact Nat.le_refl n)
theorem gb_M_pair (G : List Nat) (n : Nat) : (gb_M G n).Pairwise (· < ·) := List.Pairwise.filter _ List.pairwise_lt_range
end
section
/-! Part 05: ints; walks of the methods that hold no state -/
theorem gb_nand (a b : Nat) : nI a &&& nI b = nI (a &&& b) := by
  apply Int32.toBitVec_inj.1
  show BitVec.ofNat 32 a &&& BitVec.ofNat 32 b = BitVec.ofNat 32 (a &&& b)
  apply BitVec.eq_of_getLsbD_eq
  intro i hi
  simp [hi]
theorem gb_nxor (a b : Nat) : nI a ^^^ nI b = nI (a ^^^ b) := by
  apply Int32.toBitVec_inj.1
  show BitVec.ofNat 32 a ^^^ BitVec.ofNat 32 b = BitVec.ofNat 32 (a ^^^ b)
  apply BitVec.eq_of_getLsbD_eq
  intro i hi
  simp [hi]
theorem gb_nor (a b : Nat) : nI a ||| nI b = nI (a ||| b) := by
  apply Int32.toBitVec_inj.1
  show BitVec.ofNat 32 a ||| BitVec.ofNat 32 b = BitVec.ofNat 32 (a ||| b)
  apply BitVec.eq_of_getLsbD_eq
  intro i hi
  simp [hi]
theorem gb_nall (x : Int32) : ∃ k : Nat, k < 2 ^ 32 ∧ x = nI k := by
  refine ⟨x.toBitVec.toNat, x.toBitVec.isLt, ?_⟩
  apply Int32.toBitVec_inj.1
  show x.toBitVec = BitVec.ofNat 32 x.toBitVec.toNat
  simp
theorem gb_sl : ∀ n, n < 32 → ((nI n &&& 31).toBitVec.smod 32).toNat = n := by decide +kernel
theorem gb_shl : ∀ l, l < 31 → (1 : Int32) <<< (nI l &&& 31) = nI (2 ^ l) := by decide +kernel
def gb_n (b : Bool) : Nat := if b = true then 1 else 0
theorem gb_bit1 {f i : Nat} (hf : f < 65536) (hi : i < 31) : (nI f >>> (nI i &&& 31)) &&& 1 = nI (gb_n (f.testBit i)) := by
  rw [pk_shrN (show f < 2 ^ 31 by omega) (nI i &&& 31) i (gb_sl i (by omega))]
  show nI (f / 2 ^ i) &&& nI 1 = _
  rw [gb_nand, Nat.and_one_is_mod, Nat.testBit_eq_decide_div_mod_eq]
  generalize f / 2 ^ i = z
  have : z % 2 = 0 ∨ z % 2 = 1 := by omega
  rcases this with e | e <;> rw [e] <;> rfl
theorem gb_n0 (b : Bool) : nI (gb_n b) = 0 ↔ b = false := by
  cases b
  · exact ⟨fun _ => rfl, fun _ => rfl⟩
  · exact ⟨fun z => absurd z (by decide), fun z => absurd z (by decide)⟩
theorem gb_bit {f i : Nat} (hf : f < 65536) (hi : i < 31) : ((nI f >>> (nI i &&& 31)) &&& 1) = 0 ↔ f.testBit i = false := by
  rw [gb_bit1 hf hi, gb_n0]
theorem gb_nt {b : Bool} (h : ¬ b = false) : b = true := by
  cases b
  · exact absurd rfl h
  · rfl
theorem gb_nf {b : Bool} (h : ¬ b = true) : b = false := by
  cases b
  · rfl
  · exact absurd rfl h
theorem gb_dif32 : ∀ a, a < 16 → ∀ b, b < 16 → nI a &&& (nI b ^^^ (-1)) = nI (gb_dif a b) := by decide +kernel
theorem gb_sub32 : ∀ a, a < 16 → ∀ b, b < 16 → (nI a &&& (nI b ^^^ (-1)) = 0 ↔ gb_sub a b = true) := by decide +kernel
theorem gb_byte : ∀ a, a < 16 → (nI a).toInt8.toInt32 = nI a := by decide +kernel
/-! ===== times ===== -/
theorem gb_tm_f {k n f : Nat} (h : f.testBit n = false) : gb_tm k (n + 1) f = gb_tm k n f := by
  show gb_tm k n f ^^^ (if f.testBit n = true then 2 ^ (n ||| k) else 0) = _
  rw [h, if_neg (by decide), Nat.xor_zero]
theorem gb_tm_t {k n f : Nat} (h : f.testBit n = true) : gb_tm k (n + 1) f = gb_tm k n f ^^^ 2 ^ (n ||| k) := by
  show gb_tm k n f ^^^ (if f.testBit n = true then 2 ^ (n ||| k) else 0) = _
  rw [h, if_pos rfl]
theorem gb_w_times {post : Int32 → Prop} {f k : Nat} (hf : f < 65536) (hk : k < 16) (H : post (nI (gb_times f k))) (u : St2) : wpX_times post u (nI f) (nI k) := by
  unfold wpX_times
  refine pk_loop (fun n i s => wX_times_4 post (nI f) (nI k) n s (nI i)) (fun i s => s = nI (gb_tm k i f)) 16 0 (0 : Int32) (by omega) rfl ?_ ?_
  · intro n s h
    exact pk_le 16 16 (fun _ => by rw [h]; exact H) (fun z => absurd z (by omega))
  · intro n i s hi h hw
    refine pk_le 16 i (fun z => absurd z (by omega)) (fun _ => ek_if (gb_bit hf (by omega)) (fun z => nm_r (nI_1 i) (hw _ ?_)) (fun z => nm_e (nm_r (nI_1 i) (hw _ ?_))))
    · rw [h, gb_tm_f z]
    · have ho := gb_or_lt hi hk
      rw [h, gb_nor, gb_shl _ (by omega), gb_nxor, gb_tm_t (gb_nt z)]
/-! ===== headOf ===== -/
theorem gb_w_headOf {post : Int32 → Prop} {f : Nat} (hf : f < 65536) (h0 : f ≠ 0) (H : post (nI f.log2)) (u : St2) : wpX_headOf post u (nI f) := by
  unfold wpX_headOf
  refine pk_loop (fun n i s => wX_headOf_4 post (nI f) n s (nI i)) (fun i s => (∀ j, j < i → f.testBit j = false) ∨ ∃ h, h < i ∧ s = nI h ∧ f.testBit h = true ∧ ∀ j, h < j → j < i → f.testBit j = false) 16 0 (-1 : Int32) (by omega) (Or.inl (fun j hj => absurd hj (by omega))) ?_ ?_
  · intro n s h
    refine pk_le 16 16 (fun _ => ?_) (fun z => absurd z (by omega))
    rcases h with h | ⟨m, hm, e, hb, hj⟩
    · exact absurd (gb_ext hf (show 0 < 65536 by omega) (fun i hi => by rw [h i hi, Nat.zero_testBit])) h0
    · have ht : gb_top f m := by
        refine ⟨hb, Nat.lt_pow_two_of_testBit _ (fun i hi => ?_)⟩
        rcases Nat.lt_or_ge i 16 with z | z
        · exact hj i (by omega) z
        · exact gb_hi (k := 16) hf z
      rw [e, ← gb_top_log ht]
      exact H
  · intro n i s hi h hw
    refine pk_le 16 i (fun z => absurd z (by omega)) (fun _ => ek_if (gb_bit hf (by omega)) (fun z => nm_r (nI_1 i) (hw _ ?_)) (fun z => nm_r (nI_1 i) (hw _ (Or.inr ⟨i, by omega, rfl, gb_nt z, fun j h1 h2 => absurd h1 (by omega)⟩))))
    rcases h with h | ⟨m, hm, e, hb, hj⟩
    · refine Or.inl (fun j hj => ?_)
      by_cases e : j = i
      · rw [e]; exact z
      · exact h j (by omega)
    · refine Or.inr ⟨m, by omega, e, hb, fun j h1 h2 => ?_⟩
      by_cases e : j = i
      · rw [e]; exact z
      · exact hj j h1 (by omega)
/-! ===== valueAt ===== -/
theorem gb_n_xor (a b : Bool) : nI (gb_n a) ^^^ nI (gb_n b) = nI (gb_n (a ^^ b)) := by
  cases a <;> cases b <;> rfl
theorem gb_evn_f {p n f : Nat} (h : gb_sub n p = false) : gb_evn p (n + 1) f = gb_evn p n f := by
  show (gb_evn p n f ^^ (gb_sub n p && f.testBit n)) = _
  rw [h, Bool.false_and, Bool.xor_false]
theorem gb_evn_t {p n f : Nat} (h : gb_sub n p = true) : gb_evn p (n + 1) f = (gb_evn p n f ^^ f.testBit n) := by
  show (gb_evn p n f ^^ (gb_sub n p && f.testBit n)) = _
  rw [h, Bool.true_and]
theorem gb_w_valueAt {post : Int32 → Prop} {f p : Nat} (hf : f < 65536) (hp : p < 16) (H : post (nI (gb_n (gb_ev f p)))) (u : St2) : wpX_valueAt post u (nI f) (nI p) := by
  unfold wpX_valueAt
  refine pk_loop (fun n i s => wX_valueAt_4 post (nI f) (nI p) n s (nI i)) (fun i s => s = nI (gb_n (gb_evn p i f))) 16 0 (0 : Int32) (by omega) rfl ?_ ?_
  · intro n s h
    exact pk_le 16 16 (fun _ => by rw [h]; exact H) (fun z => absurd z (by omega))
  · intro n i s hi h hw
    refine pk_le 16 i (fun z => absurd z (by omega)) (fun _ => ek_if (gb_sub32 i hi p hp) (fun z => nm_e (nm_r (nI_1 i) (hw _ ?_))) (fun z => nm_r (nI_1 i) (hw _ ?_)))
    · rw [h, gb_bit1 hf (by omega), gb_n_xor, gb_evn_t z]
    · rw [h, gb_evn_f (gb_nf z)]
/-! ===== isPolynomial, product, value ===== -/
theorem gb_w_isp {post : Int32 → Prop} {f : Nat} (hf : f < 65536) (H : post 1) (u : St2) : wpX_isPolynomial post u (nI f) := by
  unfold wpX_isPolynomial
  exact br_f (nI_pos (by omega)) (pk_lt 65535 f (fun z => absurd z (by omega)) (fun _ => H))
theorem gb_prn_f {f n g : Nat} (h : g.testBit n = false) : gb_prn f (n + 1) g = gb_prn f n g := by
  show gb_prn f n g ^^^ (if g.testBit n = true then gb_times f n else 0) = _
  rw [h, if_neg (by decide), Nat.xor_zero]
theorem gb_prn_t {f n g : Nat} (h : g.testBit n = true) : gb_prn f (n + 1) g = gb_prn f n g ^^^ gb_times f n := by
  show gb_prn f n g ^^^ (if g.testBit n = true then gb_times f n else 0) = _
  rw [h, if_pos rfl]
theorem gb_w_product {post : Int32 → Prop} {f g : Nat} (hf : f < 65536) (hg : g < 65536) (H : post (nI (gb_pr f g))) (u : St1) : wpX_product post u (nI f) (nI g) := by
  obtain ⟨e1, e2, e3, e4, e5, e6, a1, a2, a3, a4⟩ := u
  unfold wpX_product
  refine gb_w_isp hf (br_f (by decide) (gb_w_isp hg (br_f (by decide) ?_) ())) ()
  refine pk_loop (fun n i s => wX_product_21 post (nI f) (nI g) e1 e2 e3 e4 e5 e6 a1 a2 a3 a4 n s (nI i)) (fun i s => s = nI (gb_prn f i g)) 16 0 (0 : Int32) (by omega) rfl ?_ ?_
  · intro n s h
    exact pk_le 16 16 (fun _ => by rw [h]; exact H) (fun z => absurd z (by omega))
  · intro n i s hi h hw
    refine pk_le 16 i (fun z => absurd z (by omega)) (fun _ => ek_if (gb_bit hg (by omega)) (fun z => nm_r (nI_1 i) (hw _ ?_)) (fun z => gb_w_times hf hi (nm_e (nm_r (nI_1 i) (hw _ ?_))) ()))
    · rw [h, gb_prn_f z]
    · rw [h, gb_nxor, gb_prn_t (gb_nt z)]
theorem gb_w_value {post : Int32 → Prop} {f p : Nat} (hf : f < 65536) (hp : p < 16) (H : post (nI (gb_n (gb_ev f p)))) (u : St1) : wpX_value post u (nI f) (nI p) := by
  obtain ⟨e1, e2, e3, e4, e5, e6, a1, a2, a3, a4⟩ := u
  unfold wpX_value
  refine gb_w_isp hf (br_f (by decide) (br_f (nI_pos (by omega)) (pk_le 16 p (fun z => absurd z (by omega)) (fun _ => ?_)))) ()
  exact gb_w_valueAt hf hp H ()
/-! ===== the law's polynomial ===== -/
theorem gb_mask (x : Int32) : ∃ k, k < 65536 ∧ x &&& 65535 = nI k := by
  obtain ⟨j, hj, e⟩ := pk_andE x (m := 65535) 16 (by decide)
  exact ⟨j, hj, e⟩
theorem gb_w_polynomial {post : Int32 → Prop} (x : Int32) (H : ∀ f, f < 65536 → post (nI f)) (u : St2) : wpL_polynomial post u x := by
  unfold wpL_polynomial
  refine nm_e (nm_e ?_)
  obtain ⟨f, hf, e⟩ := gb_mask (x >>> ((2 : Int32) &&& 31))
  rw [e]
  refine br_c (fun _ => H f hf) (fun _ => br_c (fun _ => ?_) (fun _ => ?_))
  · obtain ⟨g, hg, e'⟩ := gb_mask (nI f &&& (nI f >>> ((3 : Int32) &&& 31)))
    rw [e']
    exact H g hg
  · generalize (((1 : Int32) <<< (((x >>> ((18 : Int32) &&& 31)) &&& 15) &&& 31)) ||| ((1 : Int32) <<< (((x >>> ((22 : Int32) &&& 31)) &&& 15) &&& 31))) ||| 1 = y
    obtain ⟨k, _, e'⟩ := gb_nall y
    rw [e', gb_nand]
    exact H _ (Nat.lt_of_le_of_lt Nat.and_le_left hf)
end
section
/-! Part 06: divisor, reduce, takeIn, takeSquares, takeDifference, complete -/
def gb_rel (G : List Nat) (a2 a3 : Nat → Int32) : Prop := ∀ i g, G[i]? = some g → a2 i = nI g ∧ a3 i = nI g.log2
theorem gb_lt_of {G : List Nat} {i g : Nat} (h : G[i]? = some g) : i < G.length := (List.getElem?_eq_some_iff.mp h).1
theorem gb_w_divisor {post : Int32 → Prop} {G : List Nat} {m : Nat} {e1 e2 e4 e5 e6 : Int32} {a1 a2 a3 a4 : Nat → Int32}
    (hG : gb_good G) (hl : G.length ≤ 16) (hr : gb_rel G a2 a3) (hm : m < 16)
    (H0 : gb_fd G m = none → post (-1)) (H1 : ∀ i g, i < G.length → G[i]? = some g → gb_fd G m = some g → post (nI i)) :
    wpX_divisor post (e1, e2, nI G.length, e4, e5, e6, a1, a2, a3, a4) (nI m) := by
  unfold wpX_divisor
  refine pk_loop (σ := Unit) (fun n i _ => wX_divisor_2 post (nI m) e1 e2 (nI G.length) e4 e5 e6 a1 a2 a3 a4 n (nI i)) (fun i _ => ∀ j g, j < i → G[j]? = some g → gb_sub g.log2 m = false) G.length 0 () (by omega) (fun j g hj => absurd hj (by omega)) ?_ ?_
  · intro n _ h
    refine pk_le G.length G.length (fun _ => H0 ?_) (fun z => absurd z (by omega))
    refine List.find?_eq_none.mpr (fun g hg z => ?_)
    obtain ⟨i, hi⟩ := List.getElem?_of_mem hg
    rw [h i g (gb_lt_of hi) hi] at z
    exact absurd z (by decide)
  · intro n i _ hi h hw
    have hg : G[i]? = some G[i] := List.getElem?_eq_getElem hi
    obtain ⟨g0, g1⟩ := hG _ (List.mem_of_getElem? hg)
    have hlog := gb_log_lt g0 g1
    refine pk_le G.length i (fun z => absurd z (by omega)) (fun _ => ⟨pk_in i 32 (by omega), ?_⟩)
    rw [nI_clamp (show i < 2 ^ 31 by omega), (hr i _ hg).2]
    refine ek_if (gb_sub32 _ hlog m hm) (fun z => H1 i _ hi hg ?_) (fun z => nm_r (nI_1 i) (hw () (fun j g hj hjg => ?_)))
    · refine List.find?_eq_some_iff_getElem.mpr ⟨z, i, hi, rfl, fun j hj => ?_⟩
      rw [h j _ hj (List.getElem?_eq_getElem _)]; rfl
    · by_cases e : j = i
      · rw [e, hg] at hjg
        rw [← Option.some.inj hjg]
        exact gb_nf z
      · exact h j g (by omega) hjg
theorem gb_w_reduce {post : Int32 → Prop} {G : List Nat} {f : Nat} {e1 e2 e4 e5 e6 : Int32} {a1 a2 a3 a4 : Nat → Int32}
    (hG : gb_good G) (hl : G.length ≤ 16) (hr : gb_rel G a2 a3) (hf : f < 65536) (H : post (nI (gb_rd (gb_b G) 16 f))) :
    wpX_reduce post (e1, e2, nI G.length, e4, e5, e6, a1, a2, a3, a4) (nI f) := by
  have ht := gb_b_tri hG
  have key : ∀ i, i ≤ 16 → ∀ g, g < 65536 → gb_rd (gb_b G) i g = gb_rd (gb_b G) 16 f → wX_reduce_5 post e1 e2 (nI G.length) e4 e5 e6 a1 a2 a3 a4 (i + 1) (nI g) (nI i + (-1)) := by
    intro i
    induction i with
    | zero =>
      intro _ g hg e
      refine br_t (by decide) ?_
      have e' : g = gb_rd (gb_b G) 16 f := e
      rw [e']
      exact H
    | succ i ih =>
      intro hi g hg e
      rw [pk_m1]
      refine br_f (nI_pos (by omega)) (ek_if (gb_bit hg (by omega)) (fun z => ?_) (fun z => ?_))
      · refine br_t (by decide) (nm_e (ih (by omega) g hg ?_))
        rw [← e]
        show _ = gb_rd (gb_b G) i (gb_st (gb_b G) i g)
        rw [gb_st_f z]
      · have z' := gb_nt z
        refine gb_w_divisor hG hl hr (by omega) (fun hn => br_t (by decide) (nm_e (ih (by omega) g hg ?_))) (fun j h hj hjs hfd => br_f (nI_pos (by omega)) ⟨pk_in j 32 (by omega), pk_in j 32 (by omega), ?_⟩)
        · rw [← e]
          show _ = gb_rd (gb_b G) i (gb_st (gb_b G) i g)
          rw [gb_st_t z', gb_b_none hn, Nat.xor_zero]
        · obtain ⟨h0, h1⟩ := hG _ (List.mem_of_getElem? hjs)
          have hlog := gb_log_lt h0 h1
          have hd := gb_dif_lt (b := h.log2) (show i < 16 by omega)
          rw [nI_clamp (show j < 2 ^ 31 by omega), (hr j _ hjs).1, (hr j _ hjs).2, gb_dif32 i (by omega) _ hlog]
          refine gb_w_times h1 hd (nm_r (gb_nxor _ _) (nm_e (ih (by omega) _ (Nat.xor_lt_two_pow (n := 16) hg (gb_times_lt hd h)) ?_))) ()
          rw [← e]
          show _ = gb_rd (gb_b G) i (gb_st (gb_b G) i g)
          rw [gb_st_t z', gb_b_some hfd]
  unfold wpX_reduce
  exact ⟨17, key 16 (Nat.le_refl 16) f hf rfl⟩
/-! ===== taking in ===== -/
def gb_inv (V : Nat → Bool) (G : List Nat) : Prop := gb_good G ∧ G.length + gb_cnt (fun m => !gb_bd G m) 16 ≤ 16 ∧ gb_van V G
theorem gb_inv_len {V : Nat → Bool} {G : List Nat} (h : gb_inv V G) : G.length ≤ 16 := by
  have := h.2.1
  omega
theorem gb_inv_take {V : Nat → Bool} {G : List Nat} (hi : gb_inv V G) {f : Nat} (hf : f < 65536) (hv : ∀ p, p < 16 → V p = true → gb_ev f p = false) (hr : gb_rd (gb_b G) 16 f ≠ 0) :
    gb_inv V (G ++ [gb_rd (gb_b G) 16 f]) ∧ gb_S (gb_b (G ++ [gb_rd (gb_b G) 16 f])) f ∧ gb_rd (gb_b G) 16 f < 65536 := by
  obtain ⟨hG, hc, hV⟩ := hi
  obtain ⟨t1, t2, t3⟩ := gb_take hG hf hr
  have ht := gb_b_tri hG
  have hl : gb_rd (gb_b G) 16 f < 65536 := gb_rd_lt ht (k := 16) 16 f (by omega) (by omega) hf
  have hrv : ∀ p, p < 16 → V p = true → gb_ev (gb_rd (gb_b G) 16 f) p = false := by
    intro p hp hVp
    have t : gb_ev (f ^^^ gb_rd (gb_b G) 16 f) p = false := gb_rd_ind (C := fun x => gb_ev x p = false) (gb_ev_zero p) (fun x y hx hy => gb_ev_xor0 hx hy) 16 (fun m hm _ => gb_van_b hG hV hm hp hVp) f
    have t2 := gb_ev_xor0 (hv p hp hVp) t
    rw [gb_x5] at t2
    exact t2
  generalize gb_rd (gb_b G) 16 f = r at *
  have hlog := gb_log_lt (show 0 < r by omega) hl
  refine ⟨⟨t1, ?_, ?_⟩, t3, hl⟩
  · have hsome : gb_fd (G ++ [r]) r.log2 = some r := by
      rw [gb_fd_app0 t2]
      unfold gb_fd
      exact List.find?_cons_of_pos (p := fun (g : Nat) => gb_sub g.log2 r.log2) (gb_sub_self _ hlog).1
    have hlt : gb_cnt (fun m => !gb_bd (G ++ [r]) m) 16 < gb_cnt (fun m => !gb_bd G m) 16 := by
      refine gb_cnt_lt (k := r.log2) ?_ ?_ 16 hlog (fun m _ hm => ?_)
      · show (!gb_bd G r.log2) = true
        rw [gb_bd_f t2]; rfl
      · show (!gb_bd (G ++ [r]) r.log2) = false
        rw [gb_bd_t hsome]; rfl
      · show (!gb_bd G m) = true
        cases e : gb_bd G m
        · rfl
        · obtain ⟨g, hg⟩ := gb_bd_ex e
          have hm' : (!gb_bd (G ++ [r]) m) = true := hm
          rw [gb_bd_t (gb_fd_app (T := [r]) hg)] at hm'
          exact absurd hm' (by decide)
    rw [List.length_append, List.length_singleton]
    omega
  · intro g hg p hp hVp
    rcases List.mem_append.mp hg with h | h
    · exact hV g h p hp hVp
    · rw [List.mem_singleton.mp h]
      exact hrv p hp hVp
theorem gb_rel_add {G : List Nat} {a2 a3 : Nat → Int32} (hr : gb_rel G a2 a3) (r : Nat) : gb_rel (G ++ [r]) (upd a2 G.length (nI r)) (upd a3 G.length (nI r.log2)) := by
  intro i g h
  have hl := gb_lt_of h
  rw [List.length_append, List.length_singleton] at hl
  by_cases e : i = G.length
  · rw [e, List.getElem?_concat_length] at h
    rw [e, pk_us, pk_us, Option.some.inj h]
    exact ⟨rfl, rfl⟩
  · rw [List.getElem?_append_left (by omega)] at h
    rw [pk_un e, pk_un e]
    exact hr i g h
theorem gb_w_takeIn {post : Int32 → St1 → Prop} {V : Nat → Bool} {G : List Nat} {f : Nat} {e1 e2 e4 e5 e6 : Int32} {a1 a2 a3 a4 : Nat → Int32}
    (hi : gb_inv V G) (hr : gb_rel G a2 a3) (hf : f < 65536) (hv : ∀ p, p < 16 → V p = true → gb_ev f p = false)
    (H : ∀ r G' a2' a3', gb_inv V G' → (∃ T, G' = G ++ T) → gb_S (gb_b G') f → gb_rel G' a2' a3' → post r (e1, e2, nI G'.length, e4, e5, e6, a1, a2', a3', a4)) :
    wpX_takeIn post (e1, e2, nI G.length, e4, e5, e6, a1, a2, a3, a4) (nI f) := by
  have hl := gb_inv_len hi
  unfold wpX_takeIn
  refine gb_w_reduce hi.1 hl hr hf ?_
  by_cases hz : gb_rd (gb_b G) 16 f = 0
  · exact br_t (by rw [hz]; rfl) (H 0 G a2 a3 hi ⟨[], (List.append_nil G).symm⟩ hz hr)
  · obtain ⟨t1, t2, t3⟩ := gb_inv_take hi hf hv hz
    have h := H 1 _ _ _ t1 ⟨_, rfl⟩ t2 (gb_rel_add hr _)
    rw [List.length_append, List.length_singleton] at h
    refine br_f (nI_ne0 (by omega) (by omega)) (pk_lt G.length 32 (fun _ => ⟨pk_in G.length 32 (by omega), nm_e ?_⟩) (fun z => absurd z (by omega)))
    refine gb_w_headOf t3 hz ⟨pk_in G.length 32 (by omega), nm_e (nm_r (nI_1 _) ?_)⟩ ()
    rw [nI_clamp (show G.length < 2 ^ 31 by omega), gb_byte _ (gb_log_lt (by omega) t3)]
    exact h
/-! ===== takeSquares, takeDifference ===== -/
theorem gb_get_ext {G T : List Nat} {i g : Nat} (h : G[i]? = some g) : (G ++ T)[i]? = some g := by
  rw [List.getElem?_append_left (gb_lt_of h)]
  exact h
theorem gb_2v : ∀ v, v < 4 → 2 ^ v < 16 := by decide
theorem gb_S_ext' {V : Nat → Bool} {G G' : List Nat} (hi : gb_inv V G') (he : ∃ T, G' = G ++ T) {f : Nat} (hf : f < 65536) (h : gb_S (gb_b G) f) : gb_S (gb_b G') f := by
  obtain ⟨T, rfl⟩ := he
  exact gb_S_ext hi.1 hf h
theorem gb_ext_tr {G G' G'' : List Nat} (h : ∃ T, G' = G ++ T) (h' : ∃ T, G'' = G' ++ T) : ∃ T, G'' = G ++ T := by
  obtain ⟨T, rfl⟩ := h
  obtain ⟨T', rfl⟩ := h'
  exact ⟨T ++ T', List.append_assoc G T T'⟩
theorem gb_w_takeSquares {post : St1 → Prop} {V : Nat → Bool} {G : List Nat} {i g : Nat} {e1 e2 e4 e5 e6 : Int32} {a1 a2 a3 a4 : Nat → Int32}
    (hi : gb_inv V G) (hr : gb_rel G a2 a3) (hg : G[i]? = some g)
    (H : ∀ G' a2' a3', gb_inv V G' → (∃ T, G' = G ++ T) → (∀ v, v < 4 → g.log2.testBit v = true → gb_S (gb_b G') (gb_times g (2 ^ v) ^^^ g)) → gb_rel G' a2' a3' → post (e1, e2, nI G'.length, e4, e5, e6, a1, a2', a3', a4)) :
    wpX_takeSquares post (e1, e2, nI G.length, e4, e5, e6, a1, a2, a3, a4) (nI i) := by
  have hlen := gb_inv_len hi
  have hil := gb_lt_of hg
  obtain ⟨g0, g1⟩ := hi.1 g (List.mem_of_getElem? hg)
  have hlog := gb_log_lt g0 g1
  unfold wpX_takeSquares
  refine pk_loop (σ := Int32 × (Nat → Int32) × (Nat → Int32)) (fun n v s => wX_takeSquares_2 post (nI i) n (nI v) e1 e2 s.1 e4 e5 e6 a1 s.2.1 s.2.2 a4)
    (fun v s => ∃ G', gb_inv V G' ∧ (∃ T, G' = G ++ T) ∧ (∀ w, w < v → g.log2.testBit w = true → gb_S (gb_b G') (gb_times g (2 ^ w) ^^^ g)) ∧ gb_rel G' s.2.1 s.2.2 ∧ s.1 = nI G'.length) 4 0 (nI G.length, a2, a3) (by omega)
    ⟨G, hi, ⟨[], (List.append_nil G).symm⟩, fun w hw => absurd hw (by omega), hr, rfl⟩ ?_ ?_
  · intro n s h
    obtain ⟨b3, b7, b8⟩ := s
    obtain ⟨G', k1, k2, k3, k4, k5⟩ := h
    have k5' : b3 = nI G'.length := k5
    rw [k5']
    exact pk_le 4 4 (fun _ => H G' b7 b8 k1 k2 k3 k4) (fun z => absurd z (by omega))
  · intro n v s hv h hw
    obtain ⟨b3, b7, b8⟩ := s
    obtain ⟨G', k1, k2, k3, k4, k5⟩ := h
    have k5' : b3 = nI G'.length := k5
    have k4' : gb_rel G' b7 b8 := k4
    rw [k5']
    have hg' : G'[i]? = some g := by
      obtain ⟨T, rfl⟩ := k2
      exact gb_get_ext hg
    show wX_takeSquares_2 post (nI i) (n + 1) (nI v) e1 e2 (nI G'.length) e4 e5 e6 a1 b7 b8 a4
    refine pk_le 4 v (fun z => absurd z (by omega)) (fun _ => ⟨pk_in i 32 (by omega), ?_⟩)
    rw [nI_clamp (show i < 2 ^ 31 by omega), (k4' i g hg').1, (k4' i g hg').2]
    refine ek_if (gb_bit (show g.log2 < 65536 by omega) (by omega)) (fun z => nm_r (nI_1 v) (hw (nI G'.length, b7, b8) ⟨G', k1, k2, fun w hw' hb => ?_, k4', rfl⟩)) (fun z => ⟨pk_in i 32 (by omega), ?_⟩)
    · by_cases e : w = v
      · rw [e, z] at hb
        exact absurd hb (by decide)
      · exact k3 w (by omega) hb
    · have h2v := gb_2v v hv
      have htl := gb_times_lt h2v g
      rw [gb_shl v (by omega)]
      refine gb_w_times g1 h2v ⟨pk_in i 32 (by omega), ?_⟩ ()
      rw [gb_nxor]
      refine gb_w_takeIn k1 k4' (Nat.xor_lt_two_pow (n := 16) htl g1) (fun p hp hV => ?_) (fun r G'' a2' a3' j1 j2 j3 j4 => nm_r (nI_1 v) (hw (nI G''.length, a2', a3') ⟨G'', j1, gb_ext_tr k2 j2, fun w hw' hb => ?_, j4, rfl⟩))
      · have hgv := k1.2.2 g (List.mem_of_getElem? hg') p hp hV
        exact gb_ev_xor0 (gb_ev_times0 g1 h2v hp hgv) hgv
      · by_cases e : w = v
        · rw [e]; exact j3
        · exact gb_S_ext' j1 j2 (Nat.xor_lt_two_pow (n := 16) (gb_times_lt (gb_2v w (by omega)) g) g1) (k3 w (by omega) hb)
theorem gb_w_takeDifference {post : St1 → Prop} {V : Nat → Bool} {G : List Nat} {i j g h : Nat} {e1 e2 e4 e5 e6 : Int32} {a1 a2 a3 a4 : Nat → Int32}
    (hi : gb_inv V G) (hr : gb_rel G a2 a3) (hg : G[i]? = some g) (hh : G[j]? = some h)
    (H : ∀ G' a2' a3', gb_inv V G' → (∃ T, G' = G ++ T) → gb_S (gb_b G') (gb_sp g h) → gb_rel G' a2' a3' → post (e1, e2, nI G'.length, e4, e5, e6, a1, a2', a3', a4)) :
    wpX_takeDifference post (e1, e2, nI G.length, e4, e5, e6, a1, a2, a3, a4) (nI i) (nI j) := by
  have hlen := gb_inv_len hi
  have hil := gb_lt_of hg
  have hjl := gb_lt_of hh
  have gm := List.mem_of_getElem? hg
  have hm := List.mem_of_getElem? hh
  obtain ⟨g0, g1⟩ := hi.1 g gm
  obtain ⟨h0, h1⟩ := hi.1 h hm
  have gl := gb_log_lt g0 g1
  have hl := gb_log_lt h0 h1
  have ho := gb_or_lt gl hl
  have d1 := gb_dif_lt (b := g.log2) ho
  have d2 := gb_dif_lt (b := h.log2) ho
  unfold wpX_takeDifference
  refine ⟨pk_in i 32 (by omega), pk_in j 32 (by omega), nm_e ⟨pk_in i 32 (by omega), pk_in i 32 (by omega), ?_⟩⟩
  rw [nI_clamp (show i < 2 ^ 31 by omega), nI_clamp (show j < 2 ^ 31 by omega), (hr i g hg).1, (hr i g hg).2, (hr j h hh).1, (hr j h hh).2, gb_nor, gb_dif32 _ ho _ gl, gb_dif32 _ ho _ hl]
  refine gb_w_times g1 d1 ⟨pk_in j 32 (by omega), pk_in j 32 (by omega), gb_w_times h1 d2 ?_ ()⟩ ()
  rw [gb_nxor]
  refine gb_w_takeIn hi hr (Nat.xor_lt_two_pow (n := 16) (gb_times_lt d1 g) (gb_times_lt d2 h)) (fun p hp hV => ?_) (fun r G' a2' a3' j1 j2 j3 j4 => H G' a2' a3' j1 j2 j3 j4)
  exact gb_ev_xor0 (gb_ev_times0 g1 d1 hp (hi.2.2 g gm p hp hV)) (gb_ev_times0 h1 d2 hp (hi.2.2 h hm p hp hV))
end
section
/-! Part 07: the loops of complete -/
theorem gb_sp_lt' {V : Nat → Bool} {G : List Nat} (hi : gb_inv V G) {g h : Nat} (hg : g ∈ G) (hh : h ∈ G) : gb_sp g h < 65536 := by
  obtain ⟨g0, g1⟩ := hi.1 g hg
  obtain ⟨h0, h1⟩ := hi.1 h hh
  have ho := gb_or_lt (gb_log_lt g0 g1) (gb_log_lt h0 h1)
  exact Nat.xor_lt_two_pow (n := 16) (gb_times_lt (gb_dif_lt ho) g) (gb_times_lt (gb_dif_lt ho) h)
theorem gb_w_c55 {post : St1 → Prop} {J40 : Int32 → Int32 → Int32 → Int32 → Int32 → Int32 → Int32 → (Nat → Int32) → (Nat → Int32) → (Nat → Int32) → (Nat → Int32) → Prop}
    {V : Nat → Bool} {G : List Nat} {i g : Nat} {e1 e2 e4 e5 e6 : Int32} {a1 a2 a3 a4 : Nat → Int32}
    (hi : gb_inv V G) (hr : gb_rel G a2 a3) (hg : G[i]? = some g)
    (H : ∀ G' a2' a3', gb_inv V G' → (∃ T, G' = G ++ T) → (∀ j h, j < i → G'[j]? = some h → gb_S (gb_b G') (gb_sp g h)) → gb_rel G' a2' a3' → J40 (nI (i + 1)) e1 e2 (nI G'.length) e4 e5 e6 a1 a2' a3' a4) :
    ∃ n, wX_complete_55 post J40 (nI i) n 0 e1 e2 (nI G.length) e4 e5 e6 a1 a2 a3 a4 := by
  have hlen := gb_inv_len hi
  have hil := gb_lt_of hg
  refine pk_loop (σ := Int32 × (Nat → Int32) × (Nat → Int32)) (fun n j s => wX_complete_55 post J40 (nI i) n (nI j) e1 e2 s.1 e4 e5 e6 a1 s.2.1 s.2.2 a4)
    (fun j s => ∃ G', gb_inv V G' ∧ (∃ T, G' = G ++ T) ∧ (∀ w h, w < j → G'[w]? = some h → gb_S (gb_b G') (gb_sp g h)) ∧ gb_rel G' s.2.1 s.2.2 ∧ s.1 = nI G'.length) i 0 (nI G.length, a2, a3) (by omega)
    ⟨G, hi, ⟨[], (List.append_nil G).symm⟩, fun w h hw => absurd hw (by omega), hr, rfl⟩ ?_ ?_
  · intro n s h
    obtain ⟨b3, b7, b8⟩ := s
    obtain ⟨G', k1, k2, k3, k4, k5⟩ := h
    have k5' : b3 = nI G'.length := k5
    rw [k5']
    exact pk_le i i (fun _ => nm_r (nI_1 i) (H G' b7 b8 k1 k2 k3 k4)) (fun z => absurd z (by omega))
  · intro n j s hj h hw
    obtain ⟨b3, b7, b8⟩ := s
    obtain ⟨G', k1, k2, k3, k4, k5⟩ := h
    have k5' : b3 = nI G'.length := k5
    have k4' : gb_rel G' b7 b8 := k4
    rw [k5']
    have hg' : G'[i]? = some g := by
      obtain ⟨T, rfl⟩ := k2
      exact gb_get_ext hg
    have hil' := gb_lt_of hg'
    have hh : G'[j]? = some G'[j] := List.getElem?_eq_getElem (show j < G'.length by omega)
    show wX_complete_55 post J40 (nI i) (n + 1) (nI j) e1 e2 (nI G'.length) e4 e5 e6 a1 b7 b8 a4
    refine pk_le i j (fun z => absurd z (by omega)) (fun _ => gb_w_takeDifference k1 k4' hg' hh (fun G'' a2' a3' j1 j2 j3 j4 => nm_r (nI_1 j) (hw (nI G''.length, a2', a3') ⟨G'', j1, gb_ext_tr k2 j2, fun w h hw' hwh => ?_, j4, rfl⟩)))
    have hw2 : G'[w]? = some h := by
      obtain ⟨T, rfl⟩ := j2
      rw [List.getElem?_append_left (by omega)] at hwh
      exact hwh
    by_cases e : w = j
    · rw [e, hh] at hw2
      rw [← Option.some.inj hw2]
      exact j3
    · exact gb_S_ext' j1 j2 (gb_sp_lt' k1 (List.mem_of_getElem? hg') (List.mem_of_getElem? hw2)) (k3 w h (by omega) hw2)
def gb_cl (G : List Nat) (i : Nat) : Prop := ∀ a g, a < i → G[a]? = some g →
  (∀ v, v < 4 → g.log2.testBit v = true → gb_S (gb_b G) (gb_times g (2 ^ v) ^^^ g)) ∧ (∀ b h, b < a → G[b]? = some h → gb_S (gb_b G) (gb_sp g h))
theorem gb_cl_ext {V : Nat → Bool} {G G' : List Nat} {i : Nat} (hi : gb_inv V G) (hi' : gb_inv V G') (he : ∃ T, G' = G ++ T) (hl : i ≤ G.length) (h : gb_cl G i) : gb_cl G' i := by
  have back : ∀ a g, a < i → G'[a]? = some g → G[a]? = some g := by
    intro a g ha hg
    obtain ⟨T, rfl⟩ := he
    rw [List.getElem?_append_left (by omega)] at hg
    exact hg
  intro a g ha hg
  have hg' := back a g ha hg
  have g1 := (hi.1 g (List.mem_of_getElem? hg')).2
  obtain ⟨h1, h2⟩ := h a g ha hg'
  refine ⟨fun v hv hb => gb_S_ext' hi' he (Nat.xor_lt_two_pow (n := 16) (gb_times_lt (gb_2v v hv) g) g1) (h1 v hv hb), fun b h hb hh => ?_⟩
  have hh' := back b h (by omega) hh
  exact gb_S_ext' hi' he (gb_sp_lt' hi (List.mem_of_getElem? hg') (List.mem_of_getElem? hh')) (h2 b h hb hh')
theorem gb_cl_closed {G : List Nat} (h : gb_cl G G.length) : gb_closed G := by
  constructor
  · intro g hg v hv hb
    obtain ⟨a, ha⟩ := List.getElem?_of_mem hg
    exact (h a g (gb_lt_of ha) ha).1 v hv hb
  · intro g hg k hk
    obtain ⟨a, ha⟩ := List.getElem?_of_mem hg
    obtain ⟨b, hb⟩ := List.getElem?_of_mem hk
    rcases Nat.lt_trichotomy a b with z | z | z
    · rw [gb_sp_comm]
      exact (h b k (gb_lt_of hb) hb).2 a g z ha
    · rw [z, hb] at ha
      rw [Option.some.inj ha, gb_sp_self]
      exact gb_S_0 _
    · exact (h a g (gb_lt_of ha) ha).2 b k z hb
theorem gb_w_c40 {post : St1 → Prop} {V : Nat → Bool} {Q : Nat → Prop} {e1 e2 e4 e5 e6 : Int32} {a1 a4 : Nat → Int32}
    (H : ∀ G a2 a3, gb_inv V G → gb_closed G → (∀ f, Q f → f < 65536 ∧ gb_S (gb_b G) f) → gb_rel G a2 a3 → post (e1, e2, nI G.length, e4, e5, e6, a1, a2, a3, a4)) :
    ∀ n i G a2 a3, i ≤ G.length → 16 < n + i → gb_inv V G → gb_rel G a2 a3 → gb_cl G i → (∀ f, Q f → f < 65536 ∧ gb_S (gb_b G) f) →
      wX_complete_40 post n (nI i) e1 e2 (nI G.length) e4 e5 e6 a1 a2 a3 a4 := by
  intro n
  induction n with
  | zero =>
    intro i G a2 a3 hl hn hi
    have := gb_inv_len hi
    omega
  | succ n ih =>
    intro i G a2 a3 hl hn hi hr hc hQ
    have hlen := gb_inv_len hi
    refine pk_le G.length i (fun z => ?_) (fun z => ?_)
    · have e : i = G.length := by omega
      rw [e] at hc
      exact H G a2 a3 hi (gb_cl_closed hc) hQ hr
    · have hg : G[i]? = some G[i] := List.getElem?_eq_getElem z
      generalize G[i] = g at hg
      refine gb_w_takeSquares hi hr hg (fun G1 b2 b3 j1 j2 j3 j4 => ?_)
      have hg1 : G1[i]? = some g := by
        obtain ⟨T, rfl⟩ := j2
        exact gb_get_ext hg
      refine gb_w_c55 j1 j4 hg1 (fun G2 c2 c3 k1 k2 k3 k4 => ?_)
      have he := gb_ext_tr j2 k2
      have hl2 : G.length ≤ G2.length := by
        obtain ⟨T, rfl⟩ := he
        rw [List.length_append]
        omega
      have hg2 : G2[i]? = some g := by
        obtain ⟨T, rfl⟩ := he
        exact gb_get_ext hg
      have g1 := (hi.1 g (List.mem_of_getElem? hg)).2
      have hc2 := gb_cl_ext hi k1 he hl hc
      refine ih (i + 1) G2 c2 c3 (by omega) (by omega) k1 k4 (fun a g' ha hg' => ?_) (fun f hf => ⟨(hQ f hf).1, gb_S_ext' k1 he (hQ f hf).1 (hQ f hf).2⟩)
      by_cases e : a = i
      · rw [e] at hg' ⊢
        rw [hg2] at hg'
        rw [← Option.some.inj hg']
        exact ⟨fun v hv hb => gb_S_ext' k1 k2 (Nat.xor_lt_two_pow (n := 16) (gb_times_lt (gb_2v v hv) g) g1) (j3 v hv hb), k3⟩
      · exact hc2 a g' (by omega) hg'
/-! ===== complete ===== -/
/-- the points where the generators of a set vanish -/
def gb_V (set : Nat) (gv : Nat → Nat) (p : Nat) : Bool := (List.range 6).all (fun i => !(set.testBit i && gb_ev (gv i) p))
theorem gb_V_t {set p : Nat} {gv : Nat → Nat} (h : gb_V set gv p = true) {i : Nat} (hi : i < 6) (hb : set.testBit i = true) : gb_ev (gv i) p = false := by
  unfold gb_V at h
  rw [List.all_eq_true] at h
  have t := h i (List.mem_range.mpr hi)
  rw [hb] at t
  cases e : gb_ev (gv i) p
  · rfl
  · rw [e] at t
    exact absurd t (by decide)
theorem gb_V_f {set p : Nat} {gv : Nat → Nat} (h : gb_V set gv p = false) : ∃ i, i < 6 ∧ set.testBit i = true ∧ gb_ev (gv i) p = true := by
  unfold gb_V at h
  rw [List.all_eq_false] at h
  obtain ⟨i, hi, t⟩ := h
  refine ⟨i, List.mem_range.mp hi, ?_⟩
  cases e1 : set.testBit i <;> cases e2 : gb_ev (gv i) p
  · exact absurd (by rw [e1, e2]; rfl) t
  · exact absurd (by rw [e1, e2]; rfl) t
  · exact absurd (by rw [e1, e2]; rfl) t
  · exact ⟨rfl, rfl⟩
theorem gb_inv_nil (V : Nat → Bool) : gb_inv V [] := by
  refine ⟨fun g hg => absurd hg List.not_mem_nil, ?_, fun g hg => absurd hg List.not_mem_nil⟩
  rw [List.length_nil, Nat.zero_add]
  exact gb_cnt_le _ 16
theorem gb_w_complete {post : St1 → Prop} {set : Nat} {gv : Nat → Nat} {e1 e2 e3 e4 e5 e6 : Int32} {a1 a2 a3 a4 : Nat → Int32}
    (hs : set < 64) (hgv : ∀ j, j < 6 → a1 j = nI (gv j) ∧ gv j < 65536)
    (H : ∀ G a2' a3', gb_full (gb_V set gv) G → G.length ≤ 16 → gb_rel G a2' a3' → post (e1, e2, nI G.length, e4, e5, e6, a1, a2', a3', a4)) :
    wpX_complete post (e1, e2, e3, e4, e5, e6, a1, a2, a3, a4) (nI set) := by
  unfold wpX_complete
  refine pk_loop (σ := Int32 × (Nat → Int32) × (Nat → Int32)) (fun n i s => wX_complete_7 post (nI set) n (nI i) e1 e2 s.1 e4 e5 e6 a1 s.2.1 s.2.2 a4)
    (fun i s => ∃ G, gb_inv (gb_V set gv) G ∧ (∀ j, j < i → set.testBit j = true → gb_S (gb_b G) (gv j)) ∧ gb_rel G s.2.1 s.2.2 ∧ s.1 = nI G.length) 6 0 (0, a2, a3) (by omega)
    ⟨[], gb_inv_nil _, fun j hj => absurd hj (by omega), fun i g hg => absurd (gb_lt_of hg) (Nat.not_lt_zero i), rfl⟩ ?_ ?_
  · intro n s h
    obtain ⟨b3, b7, b8⟩ := s
    obtain ⟨G, k1, k2, k3, k4⟩ := h
    have k4' : b3 = nI G.length := k4
    rw [k4']
    refine pk_le 6 6 (fun _ => ⟨17, ?_⟩) (fun z => absurd z (by omega))
    refine gb_w_c40 (V := gb_V set gv) (Q := fun f => ∃ j, j < 6 ∧ set.testBit j = true ∧ f = gv j) (fun G2 c2 c3 j1 j2 j3 j4 => H G2 c2 c3 (gb_full_of j1.1 j2 j1.2.2 (fun p hp hV => ?_)) (gb_inv_len j1) j4) 17 0 G b7 b8 (by omega) (by omega) k1 k3 (fun a g ha => absurd ha (by omega)) (fun f hf => ?_)
    · obtain ⟨i, hi, hb, he⟩ := gb_V_f hV
      obtain ⟨q1, q2⟩ := j3 (gv i) ⟨i, hi, hb, rfl⟩
      exact ⟨gv i, q1, q2, he⟩
    · obtain ⟨j, hj, hb, e⟩ := hf
      rw [e]
      exact ⟨(hgv j hj).2, k2 j hj hb⟩
  · intro n i s hi h hw
    obtain ⟨b3, b7, b8⟩ := s
    obtain ⟨G, k1, k2, k3, k4⟩ := h
    have k4' : b3 = nI G.length := k4
    have k3' : gb_rel G b7 b8 := k3
    rw [k4']
    show wX_complete_7 post (nI set) (n + 1) (nI i) e1 e2 (nI G.length) e4 e5 e6 a1 b7 b8 a4
    refine pk_le 6 i (fun z => absurd z (by omega)) (fun _ => ek_if (gb_bit (show set < 65536 by omega) (by omega)) (fun z => nm_r (nI_1 i) (hw (nI G.length, b7, b8) ⟨G, k1, fun j hj hb => ?_, k3', rfl⟩)) (fun z => ⟨pk_in i 6 hi, ?_⟩))
    · by_cases e : j = i
      · rw [e, z] at hb
        exact absurd hb (by decide)
      · exact k2 j (by omega) hb
    · rw [nI_clamp (show i < 2 ^ 31 by omega), (hgv i hi).1]
      refine gb_w_takeIn k1 k3' (hgv i hi).2 (fun p hp hV => gb_V_t hV hi (gb_nt z)) (fun r G' a2' a3' j1 j2 j3 j4 => nm_r (nI_1 i) (hw (nI G'.length, a2', a3') ⟨G', j1, fun j hj hb => ?_, j4, rfl⟩))
      by_cases e : j = i
      · rw [e]; exact j3
      · exact gb_S_ext' j1 j2 (hgv j (by omega)).2 (k2 j (by omega) hb)
end
section
/-! Part 08: leastBound, vanishes, learn, and the answers -/
theorem gb_lb_t {G : List Nat} {m : Nat} (hb : gb_bd G m = true) (h : ∀ v, v < 4 → (gb_dif m (2 ^ v) == m || !gb_bd G (gb_dif m (2 ^ v))) = true) : gb_lb G m = true := by
  unfold gb_lb
  rw [hb, Bool.true_and, List.all_eq_true]
  exact fun v hv => h v (List.mem_range.mp hv)
theorem gb_lb_f {G : List Nat} {m v : Nat} (hv : v < 4) (h1 : gb_dif m (2 ^ v) ≠ m) (h2 : gb_bd G (gb_dif m (2 ^ v)) = true) : gb_lb G m = false := by
  cases h : gb_lb G m
  · rfl
  · unfold gb_lb at h
    rw [Bool.and_eq_true, List.all_eq_true] at h
    have t := h.2 v (List.mem_range.mpr hv)
    rw [h2, Bool.not_true, Bool.or_false] at t
    exact absurd (beq_iff_eq.mp t) h1
theorem gb_w_leastBound {post : Int32 → Prop} {G : List Nat} {m : Nat} {e1 e2 e4 e5 e6 : Int32} {a1 a2 a3 a4 : Nat → Int32}
    (hG : gb_good G) (hl : G.length ≤ 16) (hr : gb_rel G a2 a3) (hm : m < 16)
    (H1 : gb_lb G m = true → post 1) (H0 : gb_lb G m = false → post 0) :
    wpX_leastBound post (e1, e2, nI G.length, e4, e5, e6, a1, a2, a3, a4) (nI m) := by
  unfold wpX_leastBound
  refine gb_w_divisor hG hl hr hm (fun hn => br_f (by decide) (H0 ?_)) (fun i g hi hg hfd => br_t (nI_pos' (by omega)) ?_)
  · unfold gb_lb
    rw [gb_bd_f hn]; rfl
  · refine pk_loop (σ := Unit) (fun n v _ => wX_leastBound_12 post (nI m) e1 e2 (nI G.length) e4 e5 e6 a1 a2 a3 a4 n (nI v)) (fun v _ => ∀ w, w < v → (gb_dif m (2 ^ w) == m || !gb_bd G (gb_dif m (2 ^ w))) = true) 4 0 () (by omega) (fun w hw => absurd hw (by omega)) ?_ ?_
    · intro n _ h
      exact pk_le 4 4 (fun _ => H1 (gb_lb_t (gb_bd_t hfd) h)) (fun z => absurd z (by omega))
    · intro n v _ hv h hw
      have h2v := gb_2v v hv
      have hd := gb_dif_lt (b := 2 ^ v) hm
      have next : (gb_dif m (2 ^ v) == m || !gb_bd G (gb_dif m (2 ^ v))) = true → ∀ w, w < v + 1 → (gb_dif m (2 ^ w) == m || !gb_bd G (gb_dif m (2 ^ w))) = true := by
        intro t w hw'
        by_cases e : w = v
        · rw [e]; exact t
        · exact h w (by omega)
      refine pk_le 4 v (fun z => absurd z (by omega)) (fun _ => nm_r (e' := nI (gb_dif m (2 ^ v))) (by rw [gb_shl v (by omega), gb_dif32 m hm _ h2v]) ?_)
      refine pk_eq (gb_dif m (2 ^ v)) m (fun z => nm_r (nI_1 v) (hw () (next ?_))) (fun z => ?_)
      · rw [beq_iff_eq.mpr z]; rfl
      · refine gb_w_divisor hG hl hr hd (fun hn => br_t (by decide) (nm_r (nI_1 v) (hw () (next ?_)))) (fun j g' hj hg' hfd' => br_f (nI_pos (by omega)) (H0 (gb_lb_f hv z (gb_bd_t hfd'))))
        rw [gb_bd_f hn]
        exact Bool.or_true _
def gb_rq (Q : List Nat) (a4 : Nat → Int32) : Prop := ∀ i q, Q[i]? = some q → a4 i = nI q
theorem gb_rq_add {Q : List Nat} {a4 : Nat → Int32} (hr : gb_rq Q a4) (r : Nat) : gb_rq (Q ++ [r]) (upd a4 Q.length (nI r)) := by
  intro i g h
  have hl := gb_lt_of h
  rw [List.length_append, List.length_singleton] at hl
  by_cases e : i = Q.length
  · rw [e, List.getElem?_concat_length] at h
    rw [e, pk_us, Option.some.inj h]
  · rw [List.getElem?_append_left (by omega)] at h
    rw [pk_un e]
    exact hr i g h
theorem gb_w_vanishes {post : Int32 → Prop} {Q : List Nat} {p : Nat} {e1 e2 e3 e5 e6 : Int32} {a1 a2 a3 a4 : Nat → Int32}
    (hQ : ∀ q, q ∈ Q → q < 65536) (hl : Q.length ≤ 16) (hr : gb_rq Q a4) (hp : p < 16)
    (H1 : (∀ q, q ∈ Q → gb_ev q p = false) → post 1) (H0 : (¬ ∀ q, q ∈ Q → gb_ev q p = false) → post 0) :
    wpX_vanishes post (e1, e2, e3, nI Q.length, e5, e6, a1, a2, a3, a4) (nI p) := by
  unfold wpX_vanishes
  refine pk_loop (σ := Unit) (fun n i _ => wX_vanishes_2 post (nI p) e1 e2 e3 (nI Q.length) e5 e6 a1 a2 a3 a4 n (nI i)) (fun i _ => ∀ j q, j < i → Q[j]? = some q → gb_ev q p = false) Q.length 0 () (by omega) (fun j q hj => absurd hj (by omega)) ?_ ?_
  · intro n _ h
    refine pk_le Q.length Q.length (fun _ => H1 (fun q hq => ?_)) (fun z => absurd z (by omega))
    obtain ⟨j, hj⟩ := List.getElem?_of_mem hq
    exact h j q (gb_lt_of hj) hj
  · intro n i _ hi h hw
    have hg : Q[i]? = some Q[i] := List.getElem?_eq_getElem hi
    generalize Q[i] = q at hg
    have hqm := List.mem_of_getElem? hg
    refine pk_le Q.length i (fun z => absurd z (by omega)) (fun _ => ⟨pk_in i 16 (by omega), ?_⟩)
    rw [nI_clamp (show i < 2 ^ 31 by omega), hr i q hg]
    refine gb_w_valueAt (hQ q hqm) hp (ek_if (gb_n0 _) (fun z => nm_r (nI_1 i) (hw () (fun j q' hj hjq => ?_))) (fun z => H0 (fun t => z (t q hqm)))) ()
    by_cases e : j = i
    · rw [e, hg] at hjq
      rw [← Option.some.inj hjq]
      exact z
    · exact h j q' (by omega) hjq
theorem gb_mk_t {P : Nat → Bool} {n : Nat} (h : P n = true) : gb_mk P (n + 1) = gb_mk P n ||| 2 ^ n := by
  show gb_mk P n ||| (if P n = true then 2 ^ n else 0) = _
  rw [if_pos h]
theorem gb_mk_f {P : Nat → Bool} {n : Nat} (h : P n = false) : gb_mk P (n + 1) = gb_mk P n := by
  show gb_mk P n ||| (if P n = true then 2 ^ n else 0) = _
  rw [h, if_neg (by decide), Nat.or_zero]
theorem gb_or0 (a : Nat) : nI a ||| 0 = nI a := by
  show nI a ||| nI 0 = nI a
  rw [gb_nor, Nat.or_zero]
theorem gb_Q_lt {G : List Nat} (hG : gb_good G) {n : Nat} (hn : n ≤ 16) : ∀ q, q ∈ gb_Q G n → q < 65536 := by
  intro q hq
  obtain ⟨m, hm, e⟩ := List.mem_map.mp hq
  have hm16 : m < n := List.mem_range.mp (List.mem_filter.mp hm).1
  rw [← e]
  exact gb_q_lt hG (by omega)
/-! ===== the states ===== -/
def gb_giv (pr : Nat) (gv : Nat → Nat) (e1 : Int32) (a1 : Nat → Int32) : Prop := pr < 64 ∧ e1 = nI pr ∧ ∀ j, j < 6 → a1 j = nI (gv j) ∧ gv j < 65536
def gb_G (V : Nat → Bool) (G : List Nat) (e3 e4 e5 e6 : Int32) (a2 a3 a4 : Nat → Int32) : Prop :=
  gb_full V G ∧ G.length ≤ 16 ∧ gb_rel G a2 a3 ∧ e3 = nI G.length ∧ e4 = nI (gb_Q G 16).length ∧ gb_rq (gb_Q G 16) a4 ∧ e5 = nI (gb_mk (gb_bd G) 16) ∧ e6 = nI (gb_mk V 16)
/-- a state that has learned -/
def gb_L (pr : Nat) (gv : Nat → Nat) (u : St1) : Prop := match u with
  | (e1, e2, e3, e4, e5, e6, a1, a2, a3, a4) => gb_giv pr gv e1 a1 ∧ e2 = 1 ∧ ∃ G, gb_G (gb_V pr gv) G e3 e4 e5 e6 a2 a3 a4
def gb_I (pr : Nat) (gv : Nat → Nat) (u : St1) : Prop := match u with
  | (e1, e2, e3, e4, e5, e6, a1, a2, a3, a4) => gb_giv pr gv e1 a1 ∧ (e2 = 0 ∨ (e2 = 1 ∧ ∃ G, gb_G (gb_V pr gv) G e3 e4 e5 e6 a2 a3 a4))
theorem gb_LI {pr : Nat} {gv : Nat → Nat} {u : St1} (h : gb_L pr gv u) : gb_I pr gv u := by
  obtain ⟨e1, e2, e3, e4, e5, e6, a1, a2, a3, a4⟩ := u
  obtain ⟨h1, h2⟩ := h
  exact ⟨h1, Or.inr h2⟩
theorem gb_w_learn {post : St1 → Prop} {pr : Nat} {gv : Nat → Nat} {u : St1} (h : gb_I pr gv u) (H : ∀ u', gb_L pr gv u' → post u') : wpX_learn post u := by
  obtain ⟨e1, e2, e3, e4, e5, e6, a1, a2, a3, a4⟩ := u
  obtain ⟨hgiv, h⟩ := h
  obtain ⟨hpr, he1, hgv⟩ := hgiv
  unfold wpX_learn
  rcases h with h | ⟨h, hG⟩
  rotate_left
  · exact br_f (by rw [h]; decide) (H _ ⟨⟨hpr, he1, hgv⟩, h, hG⟩)
  refine br_t h ?_
  rw [he1]
  refine gb_w_complete hpr hgv (fun G b2 b3 hf hl hr => ?_)
  have hG := hf.1
  refine pk_loop (σ := Int32 × Int32 × (Nat → Int32)) (fun n m s => wX_learn_33 post (nI pr) 1 (nI G.length) e6 n (nI m) s.1 s.2.1 a1 b2 b3 s.2.2)
    (fun m s => s.1 = nI (gb_Q G m).length ∧ s.2.1 = nI (gb_mk (gb_bd G) m) ∧ gb_rq (gb_Q G m) s.2.2) 16 0 (0, 0, a4) (by omega) ⟨rfl, rfl, fun i q hq => absurd (gb_lt_of hq) (Nat.not_lt_zero i)⟩ ?_ ?_
  · intro n s hs
    obtain ⟨b4, b5, c4⟩ := s
    obtain ⟨s1, s2, s3⟩ := hs
    have s1' : b4 = nI (gb_Q G 16).length := s1
    have s2' : b5 = nI (gb_mk (gb_bd G) 16) := s2
    have s3' : gb_rq (gb_Q G 16) c4 := s3
    rw [s1', s2']
    refine pk_le 16 16 (fun _ => ?_) (fun z => absurd z (by omega))
    refine pk_loop (fun n p s => wX_learn_114 post (nI pr) 1 (nI G.length) (nI (gb_Q G 16).length) (nI (gb_mk (gb_bd G) 16)) a1 b2 b3 c4 n (nI p) s) (fun p s => s = nI (gb_mk (gb_V pr gv) p)) 16 0 (0 : Int32) (by omega) rfl ?_ ?_
    · intro n s hs
      rw [hs]
      exact pk_le 16 16 (fun _ => H _ ⟨⟨hpr, rfl, hgv⟩, rfl, G, hf, hl, hr, rfl, rfl, s3', rfl, rfl⟩) (fun z => absurd z (by omega))
    · intro n p s hp hs hw
      rw [hs]
      refine pk_le 16 p (fun z => absurd z (by omega)) (fun _ => gb_w_vanishes (gb_Q_lt hG (Nat.le_refl 16)) (gb_Q_len G 16) s3' hp (fun t => br_f (by decide) (nm_e (nm_r (nI_1 p) (hw _ ?_)))) (fun t => br_t rfl (nm_e (nm_r (nI_1 p) (hw _ ?_)))))
      · rw [gb_shl p (by omega), gb_nor, gb_mk_t ((gb_zV hf hp).mpr t)]
      · rw [gb_or0, gb_mk_f (gb_nf (fun z => t ((gb_zV hf hp).mp z)))]
  · intro n m s hm hs hw
    obtain ⟨b4, b5, c4⟩ := s
    obtain ⟨s1, s2, s3⟩ := hs
    have s1' : b4 = nI (gb_Q G m).length := s1
    have s2' : b5 = nI (gb_mk (gb_bd G) m) := s2
    have s3' : gb_rq (gb_Q G m) c4 := s3
    rw [s1', s2']
    have hql := gb_Q_len G m
    have h2m : 2 ^ m < 65536 := Nat.pow_lt_pow_right (n := 16) (by omega) hm
    have step : ∀ z0, nI (gb_mk (gb_bd G) m) ||| z0 = nI (gb_mk (gb_bd G) (m + 1)) → wX_learn_59 post (wX_learn_33 post (nI pr) 1 (nI G.length) e6 n) (nI m) z0 (nI (gb_mk (gb_bd G) m)) (nI pr) 1 (nI G.length) (nI (gb_Q G m).length) (nI (gb_mk (gb_bd G) m)) e6 a1 b2 b3 c4 := by
      intro z0 hz
      unfold wX_learn_59
      refine nm_r hz (gb_w_leastBound hG hl hr hm (fun hb => br_f (by decide) ?_) (fun hb => br_t rfl (nm_r (nI_1 m) (hw (nI (gb_Q G m).length, nI (gb_mk (gb_bd G) (m + 1)), c4) ⟨by rw [gb_Q_f hb], rfl, by rw [gb_Q_f hb]; exact s3'⟩))))
      rw [gb_shl m (by omega)]
      refine gb_w_reduce hG hl hr h2m ⟨pk_in (gb_Q G m).length 16 (by omega), nm_e (nm_r (nI_1 _) (nm_r (nI_1 m) (hw (nI ((gb_Q G m).length + 1), nI (gb_mk (gb_bd G) (m + 1)), _) ⟨?_, rfl, ?_⟩)))⟩
      · rw [gb_Q_t hb, List.length_append, List.length_singleton]
      · show gb_rq (gb_Q G (m + 1)) (upd c4 (nI (gb_Q G m).length).toNatClampNeg (nI (2 ^ m) ^^^ nI (gb_rd (gb_b G) 16 (2 ^ m))))
        rw [gb_Q_t hb, nI_clamp (by omega), gb_nxor]
        exact gb_rq_add s3' _
    show wX_learn_33 post (nI pr) 1 (nI G.length) e6 (n + 1) (nI m) (nI (gb_Q G m).length) (nI (gb_mk (gb_bd G) m)) a1 b2 b3 c4
    refine pk_le 16 m (fun z => absurd z (by omega)) (fun _ => gb_w_divisor hG hl hr hm (fun hn => br_t (by decide) (step 0 ?_)) (fun i g hi hg hfd => br_f (nI_pos (by omega)) (step _ ?_)))
    · rw [gb_or0, gb_mk_f (gb_bd_f hn)]
    · rw [gb_shl m (by omega), gb_nor, gb_mk_t (gb_bd_t hfd)]
end
section
/-! Part 09: answers of a state that has learned; the law's rests -/
theorem gb_k_learn {post : St1 → Prop} {e1 e3 e4 e5 e6 : Int32} {a1 a2 a3 a4 : Nat → Int32} (H : post (e1, 1, e3, e4, e5, e6, a1, a2, a3, a4)) : wpX_learn post (e1, 1, e3, e4, e5, e6, a1, a2, a3, a4) := by
  unfold wpX_learn
  exact br_f (by decide) H
theorem gb_k_rest {post : Int32 → St1 → Prop} {V : Nat → Bool} {G : List Nat} {f : Nat} {e1 e3 e4 e5 e6 : Int32} {a1 a2 a3 a4 : Nat → Int32}
    (hK : gb_G V G e3 e4 e5 e6 a2 a3 a4) (hf : f < 65536) (H : post (nI (gb_rd (gb_b G) 16 f)) (e1, 1, e3, e4, e5, e6, a1, a2, a3, a4)) :
    wpX_rest post (e1, 1, e3, e4, e5, e6, a1, a2, a3, a4) (nI f) := by
  obtain ⟨k1, k2, k3, rfl, _⟩ := hK
  unfold wpX_rest
  exact gb_w_isp hf (br_f (by decide) (gb_k_learn (gb_w_reduce k1.1 k2 k3 hf H))) ()
theorem gb_rd_l {V : Nat → Bool} {G : List Nat} (h : gb_full V G) {f : Nat} (hf : f < 65536) : gb_rd (gb_b G) 16 f < 65536 :=
  gb_rd_lt (gb_b_tri h.1) (k := 16) 16 f (by omega) (by omega) hf
theorem gb_k_contains {post : Int32 → St1 → Prop} {V : Nat → Bool} {G : List Nat} {f : Nat} {e1 e3 e4 e5 e6 : Int32} {a1 a2 a3 a4 : Nat → Int32}
    (hK : gb_G V G e3 e4 e5 e6 a2 a3 a4) (hf : f < 65536) (H1 : gb_rd (gb_b G) 16 f = 0 → post 1 (e1, 1, e3, e4, e5, e6, a1, a2, a3, a4)) (H0 : gb_rd (gb_b G) 16 f ≠ 0 → post 0 (e1, 1, e3, e4, e5, e6, a1, a2, a3, a4)) :
    wpX_contains post (e1, 1, e3, e4, e5, e6, a1, a2, a3, a4) (nI f) := by
  obtain ⟨k1, k2, k3, rfl, _⟩ := hK
  have hl := gb_rd_l k1 hf
  unfold wpX_contains
  exact gb_w_isp hf (br_f (by decide) (gb_k_learn (gb_w_reduce k1.1 k2 k3 hf (pk_eq (gb_rd (gb_b G) 16 f) 0 H1 H0)))) ()
theorem gb_k_zeros {post : Int32 → St1 → Prop} {V : Nat → Bool} {G : List Nat} {e1 e3 e4 e5 e6 : Int32} {a1 a2 a3 a4 : Nat → Int32}
    (hK : gb_G V G e3 e4 e5 e6 a2 a3 a4) (H : post (nI (gb_mk V 16)) (e1, 1, e3, e4, e5, e6, a1, a2, a3, a4)) :
    wpX_zeros post (e1, 1, e3, e4, e5, e6, a1, a2, a3, a4) := by
  obtain ⟨k1, k2, k3, k4, k5, k6, k7, rfl⟩ := hK
  unfold wpX_zeros
  exact gb_k_learn H
/-! ===== the same of any state ===== -/
def gb_NF (V : Nat → Bool) (f r : Nat) : Prop := ∃ G, gb_full V G ∧ r = gb_rd (gb_b G) 16 f
theorem gb_w_rest {post : Int32 → St1 → Prop} {pr f : Nat} {gv : Nat → Nat} {u : St1} (h : gb_I pr gv u) (hf : f < 65536)
    (H : ∀ r u', gb_L pr gv u' → r < 65536 → gb_NF (gb_V pr gv) f r → post (nI r) u') : wpX_rest post u (nI f) := by
  obtain ⟨e1, e2, e3, e4, e5, e6, a1, a2, a3, a4⟩ := u
  unfold wpX_rest
  refine gb_w_isp hf (br_f (by decide) (gb_w_learn h (fun u' hL => ?_))) ()
  obtain ⟨e1, e2, e3, e4, e5, e6, a1, a2, a3, a4⟩ := u'
  obtain ⟨h1, h2, G, hK⟩ := hL
  have hK' := hK
  obtain ⟨k1, k2, k3, rfl, _⟩ := hK
  exact gb_w_reduce k1.1 k2 k3 hf (H _ _ ⟨h1, h2, G, hK'⟩ (gb_rd_l k1 hf) ⟨G, k1, rfl⟩)
theorem gb_w_contains {post : Int32 → St1 → Prop} {pr f : Nat} {gv : Nat → Nat} {u : St1} (h : gb_I pr gv u) (hf : f < 65536) (hv : ∀ p, p < 16 → gb_V pr gv p = true → gb_ev f p = false)
    (H : ∀ u', gb_L pr gv u' → post 1 u') : wpX_contains post u (nI f) := by
  obtain ⟨e1, e2, e3, e4, e5, e6, a1, a2, a3, a4⟩ := u
  unfold wpX_contains
  refine gb_w_isp hf (br_f (by decide) (gb_w_learn h (fun u' hL => ?_))) ()
  obtain ⟨e1, e2, e3, e4, e5, e6, a1, a2, a3, a4⟩ := u'
  obtain ⟨h1, h2, G, hK⟩ := hL
  have hK' := hK
  obtain ⟨k1, k2, k3, rfl, _⟩ := hK
  have hz : gb_rd (gb_b G) 16 f = 0 := (k1.2 f hf).mpr hv
  exact gb_w_reduce k1.1 k2 k3 hf (br_t (by rw [hz]; rfl) (H _ ⟨h1, h2, G, hK'⟩))
theorem gb_w_zeros {post : Int32 → St1 → Prop} {pr : Nat} {gv : Nat → Nat} {u : St1} (h : gb_I pr gv u)
    (H : ∀ u', gb_L pr gv u' → post (nI (gb_mk (gb_V pr gv) 16)) u') : wpX_zeros post u := by
  obtain ⟨e1, e2, e3, e4, e5, e6, a1, a2, a3, a4⟩ := u
  unfold wpX_zeros
  refine gb_w_learn h (fun u' hL => ?_)
  obtain ⟨e1, e2, e3, e4, e5, e6, a1, a2, a3, a4⟩ := u'
  have hL' := hL
  obtain ⟨h1, h2, G, k1, k2, k3, k4, k5, k6, k7, rfl⟩ := hL
  exact H _ hL'
/-! ===== rests ===== -/
def gb_mem (V : Nat → Bool) (f : Nat) : Nat → Bool
  | 0 => true
  | n + 1 => gb_mem V f n && !(V n && gb_ev f n)
theorem gb_mem_t {V : Nat → Bool} {f : Nat} : ∀ n : Nat, (∀ p, p < n → V p = true → gb_ev f p = false) → gb_mem V f n = true
  | 0, _ => rfl
  | n + 1, h => by
    show (gb_mem V f n && !(V n && gb_ev f n)) = true
    rw [gb_mem_t n (fun p hp => h p (by omega))]
    cases e : V n
    · rfl
    · rw [h n (by omega) e]; rfl
theorem gb_mem_all {V : Nat → Bool} {f : Nat} : ∀ n : Nat, gb_mem V f n = true → ∀ p, p < n → V p = true → gb_ev f p = false
  | 0, _, p, hp, _ => absurd hp (by omega)
  | n + 1, h, p, hp, hV => by
    have h' : (gb_mem V f n && !(V n && gb_ev f n)) = true := h
    rw [Bool.and_eq_true] at h'
    by_cases e : p = n
    · have t := h'.2
      rw [← e, hV, Bool.true_and] at t
      cases z : gb_ev f p
      · rfl
      · rw [z] at t
        exact absurd t (by decide)
    · exact gb_mem_all n h'.1 p (by omega) hV
theorem gb_mem_S {V : Nat → Bool} {G : List Nat} (h : gb_full V G) {f : Nat} (hf : f < 65536) : gb_mem V f 16 = (gb_rd (gb_b G) 16 f == 0) := by
  cases e : gb_mem V f 16
  · refine (beq_false_of_ne (fun z => ?_)).symm
    rw [gb_mem_t 16 ((h.2 f hf).mp z)] at e
    exact absurd e (by decide)
  · exact (beq_iff_eq.mpr ((h.2 f hf).mpr (gb_mem_all 16 e))).symm
theorem gb_mkV_bit {V : Nat → Bool} {p : Nat} (hp : p < 16) : (gb_mk V 16).testBit p = V p := by
  rw [gb_mk_bit, decide_eq_true hp, Bool.true_and]
theorem gb_w_rests {post : Int32 → St1 → Prop} {pr f g : Nat} {gv : Nat → Nat} {u : St1} (h : gb_I pr gv u) (hf : f < 65536) (hg : g < 65536)
    (H : ∀ u', gb_L pr gv u' → post 1 u') : wpL_rests post u (nI f) (nI g) := by
  obtain ⟨e1, e2, e3, e4, e5, e6, a1, a2, a3, a4⟩ := u
  unfold wpL_rests wpX_rest
  refine gb_w_isp hf (br_f (by decide) (gb_w_learn h (fun u' hL => ?_))) ()
  obtain ⟨e1, e2, e3, e4, e5, e6, a1, a2, a3, a4⟩ := u'
  have hH := H _ hL
  obtain ⟨h1, h2, G, hK⟩ := hL
  obtain ⟨k1, k2, k3, k4, _⟩ := id hK
  have hb := gb_b_tri k1.1
  have hrl := gb_rd_l k1 hf
  have hmk : gb_mk (gb_V pr gv) 16 < 65536 := gb_mk_lt _ 16
  have hmS := gb_mem_S k1 hf
  rw [h2] at hH ⊢
  rw [k4]
  refine gb_w_reduce k1.1 k2 k3 hf ?_
  rw [← k4]
  have loop : ∀ r20, r20 = nI (gb_n (gb_rd (gb_b G) 16 f == 0)) → ∃ n, wL_rests_25 post (nI f) (nI g) (nI (gb_rd (gb_b G) 16 f)) r20 (nI (gb_mk (gb_V pr gv) 16)) e1 1 e3 e4 e5 e6 a1 a2 a3 a4 n 1 0 := by
    intro r20 hr20
    refine pk_loop (fun n p s => wL_rests_25 post (nI f) (nI g) (nI (gb_rd (gb_b G) 16 f)) r20 (nI (gb_mk (gb_V pr gv) 16)) e1 1 e3 e4 e5 e6 a1 a2 a3 a4 n s (nI p)) (fun p s => s = nI (gb_n (gb_mem (gb_V pr gv) f p))) 16 0 (1 : Int32) (by omega) rfl ?_ ?_
    · intro n s hs
      rw [hmS] at hs
      have tail : wpX_rest (fun r_62 u => match u with
          | (f1, f2, f3, f4, f5, f6, b1, b2, b3, b4) => (((r_62 = nI (gb_rd (gb_b G) 16 f) → (wpX_contains (fun r_82 u => match u with
            | (f1, f2, f3, f4, f5, f6, b1, b2, b3, b4) => (((r_82 = 0 → (post 0 (f1, f2, f3, f4, f5, f6, b1, b2, b3, b4))) ∧ (¬ r_82 = 0 → (wpX_product (fun r_102 => (wpX_product (fun r_103 => (((r_102 = r_103 → (post 1 (f1, f2, f3, f4, f5, f6, b1, b2, b3, b4))) ∧ (¬ r_102 = r_103 → (post 0 (f1, f2, f3, f4, f5, f6, b1, b2, b3, b4)))))) (f1, f2, f3, f4, f5, f6, b1, b2, b3, b4) (nI g) (nI f))) (f1, f2, f3, f4, f5, f6, b1, b2, b3, b4) (nI f) (nI g)))))) (f1, f2, f3, f4, f5, f6, b1, b2, b3, b4) (nI f ^^^ nI (gb_rd (gb_b G) 16 f)))) ∧ (¬ r_62 = nI (gb_rd (gb_b G) 16 f) → (post 0 (f1, f2, f3, f4, f5, f6, b1, b2, b3, b4)))))) (e1, 1, e3, e4, e5, e6, a1, a2, a3, a4) (nI (gb_rd (gb_b G) 16 f)) := by
        refine gb_k_rest hK hrl ?_
        rw [gb_rd_rd hb, gb_nxor]
        refine br_t rfl (gb_k_contains hK (Nat.xor_lt_two_pow (n := 16) hf hrl) (fun _ => br_f (by decide) ?_) (fun z => absurd (gb_S_rest hb f) z))
        exact gb_w_product hf hg (gb_w_product hg hf (br_t (by rw [gb_pr_comm hf hg]) hH) _) _
      refine pk_le 16 16 (fun _ => pk_eq (gb_rd (gb_b G) 16 f) 0 (fun z => ?_) (fun z => ?_)) (fun z => absurd z (by omega))
      · unfold wL_rests_81
        refine br_t (by rw [hr20, z]; rfl) (br_t (by rw [hr20, hs]) tail)
      · unfold wL_rests_81
        refine br_t (by rw [hr20, beq_false_of_ne z]; rfl) (br_t (by rw [hr20, hs]) tail)
    · intro n p s hp hs hw
      rw [hs]
      have hstep : gb_mem (gb_V pr gv) f (p + 1) = (gb_mem (gb_V pr gv) f p && !(gb_V pr gv p && gb_ev f p)) := rfl
      refine pk_le 16 p (fun z => absurd z (by omega)) (fun _ => ek_if (gb_n0 _) (fun z => nm_r (nI_1 p) (hw _ ?_)) (fun z => ?_))
      · rw [hstep, z]; rfl
      · have z' := gb_nt z
        refine ek_if (gb_bit hmk (by omega)) (fun y => nm_r (nI_1 p) (hw _ ?_)) (fun y => gb_w_value hf hp (ek_if (gb_n0 _) (fun x => nm_r (nI_1 p) (hw _ ?_)) (fun x => nm_r (nI_1 p) (hw _ ?_))) _)
        · rw [gb_mkV_bit hp] at y
          rw [hstep, z', y]; rfl
        · rw [hstep, z', x, Bool.and_false]; rfl
        · have y' := gb_nt y
          rw [gb_mkV_bit hp] at y'
          rw [hstep, z', y', gb_nt x]; rfl
  refine gb_k_contains hK hf (fun z => gb_k_zeros hK (loop _ ?_)) (fun z => gb_k_zeros hK (loop _ ?_))
  · rw [z]; rfl
  · rw [beq_false_of_ne z]; rfl
end
section
/-! Part 10: the law's basis -/
theorem gb_h0 (m : Nat) : 2 ^ m &&& (2 ^ m - 1) = 0 := by
  rw [Nat.and_two_pow_sub_one_eq_mod, Nat.mod_self]
theorem gb_hs {x m j : Nat} (ht : gb_top x m) (hd : 2 ^ j ∣ x) (hne : x ≠ 2 ^ m) : gb_top (x &&& (x - 1)) m ∧ 2 ^ (j + 1) ∣ x &&& (x - 1) := by
  have hge : 2 ^ m ≤ x := Nat.ge_two_pow_of_testBit ht.1
  have hlt := ht.2
  refine ⟨⟨?_, Nat.lt_of_le_of_lt Nat.and_le_left hlt⟩, ?_⟩
  · rw [Nat.testBit_and, ht.1, Nat.testBit_of_two_pow_le_and_two_pow_add_one_gt (show 2 ^ m ≤ x - 1 by omega) (by omega)]; rfl
  · apply Nat.dvd_of_mod_eq_zero
    rw [Nat.and_mod_two_pow]
    obtain ⟨y, hy⟩ := hd
    have hp := Nat.two_pow_pos j
    rcases Nat.mod_two_eq_zero_or_one y with e | e
    · have e1 : x % 2 ^ (j + 1) = 0 := by
        have : x = 2 ^ (j + 1) * (y / 2) := by
          rw [hy, Nat.pow_succ, Nat.mul_assoc]
          congr 1
          omega
        rw [this, Nat.mul_mod_right]
      rw [e1, Nat.zero_and]
    · have e0 : x = 2 ^ (j + 1) * (y / 2) + 2 ^ j := by
        have : y = 2 * (y / 2) + 1 := by omega
        rw [hy, Nat.pow_succ, Nat.mul_assoc]
        conv => lhs; rw [this, Nat.mul_add, Nat.mul_one]
      have hp2 : 2 ^ (j + 1) = 2 ^ j * 2 := Nat.pow_succ 2 j
      have e1 : x % 2 ^ (j + 1) = 2 ^ j := by
        rw [e0, Nat.mul_add_mod, Nat.mod_eq_of_lt (by omega)]
      have e2 : (x - 1) % 2 ^ (j + 1) = 2 ^ j - 1 := by
        rw [e0, Nat.add_sub_assoc hp, Nat.mul_add_mod, Nat.mod_eq_of_lt (by omega)]
      rw [e1, e2, gb_h0]
theorem gb_hI {x : Nat} (h : 0 < x) : nI x &&& (nI x - 1) = nI (x &&& (x - 1)) := by
  obtain ⟨y, rfl⟩ : ∃ y, x = y + 1 := ⟨x - 1, by omega⟩
  rw [nI_pred, gb_nand]; rfl
/-- the greatest bit of a polynomial, by taking the least away sixteen times -/
theorem gb_w_head {post : Int32 → St1 → Prop} {J9 : Int32 → Int32 → Int32 → Int32 → Int32 → Int32 → Int32 → Int32 → (Nat → Int32) → (Nat → Int32) → (Nat → Int32) → (Nat → Int32) → Prop}
    {V : Nat → Bool} {G : List Nat} {q m i : Nat} {x1 x2 : Int32} {e1 e3 e4 e5 e6 : Int32} {a1 a2 a3 a4 : Nat → Int32}
    (hK : gb_G V G e3 e4 e5 e6 a2 a3 a4) (hm : m < 16) (ht : gb_top q m) (hq : q < 65536) (hS : gb_S (gb_b G) q) (hi : i < 16) (hl : 0 < i → x2 < nI (2 ^ m))
    (H : J9 (nI (2 ^ m)) (nI (i + 1)) e1 1 e3 e4 e5 e6 a1 a2 a3 a4) :
    ∃ n, wL_basis_28 post J9 x1 x2 (nI i) (nI q) e1 1 e3 e4 e5 e6 a1 a2 a3 a4 n (nI q) 0 := by
  have hq0 : 0 < q := Nat.pos_of_ne_zero (gb_top_ne ht)
  refine pk_loop (fun n j s => wL_basis_28 post J9 x1 x2 (nI i) (nI q) e1 1 e3 e4 e5 e6 a1 a2 a3 a4 n s (nI j)) (fun j s => ∃ x, s = nI x ∧ gb_top x m ∧ (x = 2 ^ m ∨ 2 ^ j ∣ x)) 16 0 (nI q) (by omega) ⟨q, rfl, ht, Or.inr (by rw [Nat.pow_zero]; exact Nat.one_dvd q)⟩ ?_ ?_
  · intro n s hs
    obtain ⟨x, e, hx, hor⟩ := hs
    have ex : x = 2 ^ m := by
      rcases hor with z | z
      · exact z
      · have hlt : x < 2 ^ 16 := Nat.lt_of_lt_of_le hx.2 (gb_pw (by omega))
        exact absurd (Nat.eq_zero_of_dvd_of_lt z hlt) (gb_top_ne hx)
    rw [e, ex]
    refine pk_le 16 16 (fun _ => br_f (nI_nle hq0 (by omega)) (gb_k_contains hK hq (fun _ => br_f (by decide) ?_) (fun z => absurd hS z))) (fun z => absurd z (by omega))
    exact pk_le i 0 (fun _ => nm_r (nI_1 i) H) (fun z => br_t (hl z) (nm_r (nI_1 i) H))
  · intro n j s hj hs hw
    obtain ⟨x, e, hx, hor⟩ := hs
    have hx0 : 0 < x := Nat.pos_of_ne_zero (gb_top_ne hx)
    have hlt : x < 2 ^ 16 := Nat.lt_of_lt_of_le hx.2 (gb_pw (by omega))
    have hal : x &&& (x - 1) ≤ x := Nat.and_le_left
    rw [e]
    refine pk_le 16 j (fun z => absurd z (by omega)) (fun _ => nm_r (gb_hI hx0) (pk_eq (x &&& (x - 1)) 0 (fun z => nm_r (nI_1 j) (hw _ ⟨x, rfl, hx, Or.inl ?_⟩)) (fun z => nm_r (nI_1 j) (hw _ ⟨x &&& (x - 1), rfl, ?_⟩))))
    · by_cases ex : x = 2 ^ m
      · exact ex
      · rcases hor with y | y
        · exact y
        · exact absurd z (gb_top_ne (gb_hs hx y ex).1)
    · have ex : x ≠ 2 ^ m := fun y => z (by rw [y]; exact gb_h0 m)
      rcases hor with y | y
      · exact absurd y ex
      · obtain ⟨h1, h2⟩ := gb_hs hx y ex
        exact ⟨h1, Or.inr h2⟩
theorem gb_k_basisAt {post : Int32 → St1 → Prop} {V : Nat → Bool} {G : List Nat} {i q : Nat} {e1 e3 e4 e5 e6 : Int32} {a1 a2 a3 a4 : Nat → Int32}
    (hK : gb_G V G e3 e4 e5 e6 a2 a3 a4) (hq : (gb_Q G 16)[i]? = some q) (H : post (nI q) (e1, 1, e3, e4, e5, e6, a1, a2, a3, a4)) :
    wpX_basisAt post (e1, 1, e3, e4, e5, e6, a1, a2, a3, a4) (nI i) := by
  obtain ⟨k1, k2, k3, k4, rfl, k6, k7, k8⟩ := hK
  have hl := gb_lt_of hq
  have hl2 := gb_Q_len G 16
  unfold wpX_basisAt
  refine gb_k_learn (br_f (nI_pos (by omega)) (pk_lt i (gb_Q G 16).length (fun _ => ⟨pk_in i 16 (by omega), ?_⟩) (fun z => absurd z (by omega))))
  rw [nI_clamp (by omega), k6 i q hq]
  exact H
theorem gb_k_basisEnd {post : Int32 → St1 → Prop} {V : Nat → Bool} {G : List Nat} {e1 e3 e4 e5 e6 : Int32} {a1 a2 a3 a4 : Nat → Int32}
    (hK : gb_G V G e3 e4 e5 e6 a2 a3 a4) (H : post (-1) (e1, 1, e3, e4, e5, e6, a1, a2, a3, a4)) :
    wpX_basisAt post (e1, 1, e3, e4, e5, e6, a1, a2, a3, a4) (nI (gb_Q G 16).length) := by
  obtain ⟨k1, k2, k3, k4, rfl, k6, k7, k8⟩ := hK
  have hl2 := gb_Q_len G 16
  unfold wpX_basisAt
  exact gb_k_learn (br_f (nI_pos (by omega)) (pk_lt (gb_Q G 16).length (gb_Q G 16).length (fun z => absurd z (by omega)) (fun _ => H)))
theorem gb_k_zeroCount {post : Int32 → St1 → Prop} {V : Nat → Bool} {G : List Nat} {e1 e3 e4 e5 e6 : Int32} {a1 a2 a3 a4 : Nat → Int32}
    (hK : gb_G V G e3 e4 e5 e6 a2 a3 a4) (H : post (nI (gb_cnt V 16)) (e1, 1, e3, e4, e5, e6, a1, a2, a3, a4)) :
    wpX_zeroCount post (e1, 1, e3, e4, e5, e6, a1, a2, a3, a4) := by
  obtain ⟨k1, k2, k3, k4, k5, k6, k7, rfl⟩ := hK
  have hmk : gb_mk V 16 < 65536 := gb_mk_lt _ 16
  unfold wpX_zeroCount
  refine gb_k_learn (pk_loop (fun n p s => wX_zeroCount_8 post e1 1 e3 e4 e5 (nI (gb_mk V 16)) a1 a2 a3 a4 n s (nI p)) (fun p s => s = nI (gb_cnt V p)) 16 0 (0 : Int32) (by omega) rfl ?_ ?_)
  · intro n s hs
    rw [hs]
    exact pk_le 16 16 (fun _ => H) (fun z => absurd z (by omega))
  · intro n p s hp hs hw
    rw [hs]
    refine pk_le 16 p (fun z => absurd z (by omega)) (fun _ => nm_e (nm_r (nI_1 p) (hw _ ?_)))
    rw [gb_bit1 hmk (by omega), gb_mkV_bit hp, nI_add]; rfl
theorem gb_w_basis {post : Int32 → St1 → Prop} {pr : Nat} {gv : Nat → Nat} {u : St1} (h : gb_I pr gv u) (H : ∀ u', gb_L pr gv u' → post 1 u') : wpL_basis post u := by
  obtain ⟨e1, e2, e3, e4, e5, e6, a1, a2, a3, a4⟩ := u
  unfold wpL_basis wpX_basisSize
  refine gb_w_learn h (fun u' hL => ?_)
  obtain ⟨e1, e2, e3, e4, e5, e6, a1, a2, a3, a4⟩ := u'
  have hH := H _ hL
  obtain ⟨h1, h2, G, hK⟩ := hL
  obtain ⟨k1, k2, k3, k4, k5, k6, k7, k8⟩ := id hK
  rw [h2] at hH ⊢
  have hlen := gb_Q_len G 16
  have hcnt := gb_count k1
  have hmk : gb_mk (gb_bd G) 16 < 65536 := gb_mk_lt _ 16
  show ∃ n, wL_basis_9 post e4 n 0 0 e1 1 e3 e4 e5 e6 a1 a2 a3 a4
  have main : ∃ n, wL_basis_9 post (nI (gb_Q G 16).length) n 0 0 e1 1 e3 e4 e5 e6 a1 a2 a3 a4 := by
    refine pk_loop (fun n i s => wL_basis_9 post (nI (gb_Q G 16).length) n s (nI i) e1 1 e3 e4 e5 e6 a1 a2 a3 a4) (fun i s => ∀ m, 0 < i → (gb_M G 16)[i - 1]? = some m → s = nI (2 ^ m)) (gb_Q G 16).length 0 (0 : Int32) (by omega) (fun m hm => absurd hm (by omega)) ?_ ?_
    · intro n s _
      refine pk_le (gb_Q G 16).length (gb_Q G 16).length (fun _ => ?_) (fun z => absurd z (by omega))
      unfold wpX_bound
      refine gb_k_learn ?_
      rw [k7]
      show ∃ n, wL_basis_110 post (nI (gb_Q G 16).length) (nI (gb_mk (gb_bd G) 16)) e1 1 e3 e4 (nI (gb_mk (gb_bd G) 16)) e6 a1 a2 a3 a4 n 0 0
      rw [← k7]
      have k7' := k7
      refine pk_loop (fun n j s => wL_basis_110 post (nI (gb_Q G 16).length) e5 e1 1 e3 e4 e5 e6 a1 a2 a3 a4 n s (nI j)) (fun j s => s = nI (gb_cnt (fun m => !gb_bd G m) j)) 16 0 (0 : Int32) (by omega) rfl ?_ ?_
      · intro n s hs
        rw [hs, hcnt]
        refine pk_le 16 16 (fun _ => gb_k_basisEnd hK (br_t rfl (gb_k_zeroCount hK (br_t rfl hH)))) (fun z => absurd z (by omega))
      · intro n j s hj hs hw
        rw [hs]
        have hstep : gb_cnt (fun m => !gb_bd G m) (j + 1) = gb_cnt (fun m => !gb_bd G m) j + (if (!gb_bd G j) = true then 1 else 0) := rfl
        refine pk_le 16 j (fun z => absurd z (by omega)) (fun _ => ek_if (by rw [k7', gb_bit hmk (by omega), gb_mkV_bit hj]) (fun z => nm_r (nI_1 _) (nm_r (nI_1 j) (hw _ ?_))) (fun z => nm_r (nI_1 j) (hw _ ?_)))
        · rw [hstep, z]; rfl
        · rw [hstep, gb_nt z]; rfl
    · intro n i s hi hs hw
      have hMl : (gb_M G 16).length = (gb_Q G 16).length := by
        unfold gb_Q
        rw [List.length_map]
      have hM : (gb_M G 16)[i]? = some (gb_M G 16)[i] := List.getElem?_eq_getElem (by omega)
      have hpair := List.pairwise_iff_getElem.mp (gb_M_pair G 16)
      have hlast : ∀ m', 0 < i → (gb_M G 16)[i - 1]? = some m' → m' < (gb_M G 16)[i] := by
        intro m' hi0 hm'
        obtain ⟨hx, ex⟩ := List.getElem?_eq_some_iff.mp hm'
        rw [← ex]
        exact hpair (i - 1) i hx (by omega) (by omega)
      have hQ : (gb_Q G 16)[i]? = some (gb_q G (gb_M G 16)[i]) := by
        unfold gb_Q
        rw [List.getElem?_map, hM]; rfl
      have hmem := List.mem_filter.mp (List.mem_of_getElem? hM)
      generalize (gb_M G 16)[i] = m at *
      have hm16 : m < 16 := List.mem_range.mp hmem.1
      have hlt := Nat.pow_lt_pow_right (a := 2) (by omega) hm16
      refine pk_le (gb_Q G 16).length i (fun z => absurd z (by omega)) (fun _ => gb_k_basisAt hK hQ ?_)
      refine gb_w_head hK hm16 (gb_q_top k1.1 hm16 (gb_lb_bd hmem.2)) (gb_q_lt k1.1 hm16) (gb_q_S k1.1 m) (by omega) (fun hi0 => ?_) (hw _ (fun m2 _ hm2 => ?_))
      · have hex : (gb_M G 16)[i - 1]? = some (gb_M G 16)[i - 1] := List.getElem?_eq_getElem (by omega)
        rw [hs _ hi0 hex]
        exact nI_lt (Nat.pow_lt_pow_right (by omega) (hlast _ hi0 hex)) (by omega)
      · rw [Nat.add_sub_cancel, hM] at hm2
        rw [Option.some.inj hm2]
  rw [← k5] at main
  exact main
end
section
/-! Part 11: generators, and the law -/
theorem gb_w_has {post : Int32 → Prop} {pr i : Nat} {e2 e3 e4 e5 e6 : Int32} {a1 a2 a3 a4 : Nat → Int32} (hpr : pr < 64) (hi : i < 6)
    (H1 : pr.testBit i = true → post 1) (H0 : pr.testBit i = false → post 0) : wpX_has post (nI pr, e2, e3, e4, e5, e6, a1, a2, a3, a4) (nI i) := by
  unfold wpX_has
  exact br_f (nI_pos (by omega)) (pk_le 6 i (fun z => absurd z (by omega)) (fun _ => ek_if (gb_bit (by omega) (by omega)) H0 (fun z => H1 (gb_nt z))))
def gb_del (pr i : Nat) : Nat := pr &&& (63 ^^^ 2 ^ i)
theorem gb_del32 : ∀ pr, pr < 64 → ∀ i, i < 6 → nI pr &&& (((1 : Int32) <<< (nI i &&& 31)) ^^^ (-1)) = nI (gb_del pr i) := by decide +kernel
theorem gb_del_lt {pr i : Nat} (h : pr < 64) : gb_del pr i < 64 := Nat.lt_of_le_of_lt Nat.and_le_left h
theorem gb_del_bit : ∀ pr, pr < 64 → ∀ i, i < 6 → ∀ j, j < 6 → (gb_del pr i).testBit j = (pr.testBit j && !(j == i)) := by decide +kernel
theorem gb_V_of {set p : Nat} {gv : Nat → Nat} (h : ∀ i, i < 6 → set.testBit i = true → gb_ev (gv i) p = false) : gb_V set gv p = true := by
  cases e : gb_V set gv p
  · obtain ⟨i, hi, hb, he⟩ := gb_V_f e
    rw [h i hi hb] at he
    exact absurd he (by decide)
  · rfl
theorem gb_V_del {pr i p : Nat} {gv : Nat → Nat} (hpr : pr < 64) (hi : i < 6) (h : gb_V (gb_del pr i) gv p = true → gb_ev (gv i) p = false) : gb_V (gb_del pr i) gv p = gb_V pr gv p := by
  cases e : gb_V (gb_del pr i) gv p
  · obtain ⟨j, hj, hb, he⟩ := gb_V_f e
    rw [gb_del_bit pr hpr i hi j hj, Bool.and_eq_true] at hb
    cases e2 : gb_V pr gv p
    · rfl
    · rw [gb_V_t e2 hj hb.1] at he
      exact absurd he (by decide)
  · refine (gb_V_of (fun j hj hb => ?_)).symm
    by_cases z : j = i
    · rw [z]; exact h e
    · refine gb_V_t e hj ?_
      rw [gb_del_bit pr hpr i hi j hj, hb, beq_false_of_ne z]; rfl
theorem gb_w_redundant {post : Int32 → St1 → Prop} {pr i : Nat} {gv : Nat → Nat} {u : St1} (h : gb_I pr gv u) (hi : i < 6)
    (H0 : ∀ u', gb_I pr gv u' → post 0 u')
    (H1 : ∀ u', gb_I pr gv u' → pr.testBit i = true → (∀ p, p < 16 → gb_V (gb_del pr i) gv p = gb_V pr gv p) → post 1 u') : wpX_redundant post u (nI i) := by
  obtain ⟨e1, e2, e3, e4, e5, e6, a1, a2, a3, a4⟩ := u
  have hI := h
  obtain ⟨⟨hpr, he1, hgv⟩, _⟩ := h
  unfold wpX_redundant
  rw [he1] at hI ⊢
  refine gb_w_has hpr hi (fun hb => br_f (by decide) ?_) (fun _ => br_t rfl (H0 _ hI))
  rw [gb_del32 pr hpr i hi]
  refine gb_w_complete (gb_del_lt hpr) hgv (fun G b2 b3 hf hl hr => ⟨pk_in i 6 hi, ?_⟩)
  rw [nI_clamp (by omega), (hgv i hi).1]
  have hz : gb_I pr gv (nI pr, 0, nI G.length, e4, e5, e6, a1, b2, b3, a4) := ⟨⟨hpr, rfl, hgv⟩, Or.inl rfl⟩
  have hrl := gb_rd_l hf (hgv i hi).2
  exact gb_w_reduce hf.1 hl hr (hgv i hi).2 (pk_eq (gb_rd (gb_b G) 16 (gv i)) 0 (fun z => H1 _ hz hb (fun p hp => gb_V_del hpr hi (fun hV => (hf.2 _ (hgv i hi).2).mp z p hp hV))) (fun z => H0 _ hz))
theorem gb_w_remove {post : Int32 → St1 → Prop} {pr i : Nat} {gv : Nat → Nat} {u : St1} (h : gb_I pr gv u) (hi : i < 6)
    (H1 : ∀ u', gb_I (gb_del pr i) gv u' → post 1 u') (H0 : pr.testBit i = false → post 0 u) : wpX_remove post u (nI i) := by
  obtain ⟨e1, e2, e3, e4, e5, e6, a1, a2, a3, a4⟩ := u
  obtain ⟨⟨hpr, he1, hgv⟩, _⟩ := h
  unfold wpX_remove
  rw [he1] at H0 ⊢
  refine gb_w_has hpr hi (fun hb => br_f (by decide) (nm_r (gb_del32 pr hpr i hi) (H1 _ ⟨⟨gb_del_lt hpr, rfl, hgv⟩, Or.inl rfl⟩))) (fun hb => br_t rfl (H0 hb))
def gb_set (gv : Nat → Nat) (i f : Nat) : Nat → Nat := fun j => if j = i then f else gv j
theorem gb_w_add {post : Int32 → St1 → Prop} {pr f : Nat} {gv : Nat → Nat} {u : St1} (h : gb_I pr gv u) (hf : f < 65536)
    (H1 : ∀ i u', i < 6 → gb_I (pr ||| 2 ^ i) (gb_set gv i f) u' → post (nI i) u') (H0 : post (-2) u) : wpX_add post u (nI f) := by
  obtain ⟨e1, e2, e3, e4, e5, e6, a1, a2, a3, a4⟩ := u
  obtain ⟨⟨hpr, he1, hgv⟩, _⟩ := h
  unfold wpX_add
  rw [he1] at H0 ⊢
  refine gb_w_isp hf (br_f (by decide) ?_) ()
  refine pk_loop (σ := Unit) (fun n i _ => wX_add_11 post (nI f) (nI pr) e2 e3 e4 e5 e6 a1 a2 a3 a4 n (nI i)) (fun _ _ => True) 6 0 () (by omega) trivial ?_ ?_
  · intro n _ _
    exact pk_le 6 6 (fun _ => H0) (fun z => absurd z (by omega))
  · intro n i _ hi _ hw
    refine pk_le 6 i (fun z => absurd z (by omega)) (fun _ => gb_w_has hpr hi (fun hb => br_f (by decide) (nm_r (nI_1 i) (hw () trivial))) (fun hb => br_t rfl (nm_r (e' := nI (pr ||| 2 ^ i)) (by rw [gb_shl i (by omega), gb_nor]) ⟨pk_in i 6 hi, nm_e (H1 i _ hi ⟨⟨?_, rfl, fun j hj => ?_⟩, Or.inl rfl⟩)⟩)))
    · exact Nat.or_lt_two_pow (n := 6) hpr (Nat.pow_lt_pow_right (by omega) hi)
    · rw [nI_clamp (by omega)]
      unfold gb_set
      by_cases e : j = i
      · rw [e, pk_us, if_pos rfl]
        exact ⟨rfl, hf⟩
      · rw [pk_un e, if_neg e]
        exact hgv j hj
theorem gb_mk_congr {P Q : Nat → Bool} : ∀ n : Nat, (∀ m, m < n → P m = Q m) → gb_mk P n = gb_mk Q n
  | 0, _ => rfl
  | n + 1, h => by
    show gb_mk P n ||| (if P n = true then 2 ^ n else 0) = gb_mk Q n ||| (if Q n = true then 2 ^ n else 0)
    rw [gb_mk_congr n (fun m hm => h m (by omega)), h n (by omega)]
theorem gb_NF_eq {V V' : Nat → Bool} (hV : ∀ p, p < 16 → V' p = V p) {f r r' : Nat} (hf : f < 65536) (h : gb_NF V f r) (h' : gb_NF V' f r') : r' = r := by
  obtain ⟨G, hG, e⟩ := h
  obtain ⟨G', hG', e'⟩ := h'
  have hG2 : gb_full V G' := ⟨hG'.1, fun x hx => ⟨fun hs p hp hv => (hG'.2 x hx).mp hs p hp (by rw [hV p hp]; exact hv), fun hs => (hG'.2 x hx).mpr (fun p hp hv => hs p hp (by rw [← hV p hp]; exact hv))⟩⟩
  rw [e, e']
  exact gb_nf_uniq hG2 hG hf
/-! ===== the law ===== -/
theorem gb_w_169 {post : Int32 → Prop} {L : Nat} {xs : Nat → Int32} {J10 : Int32 → Int32 → Int32 → Int32 → Int32 → Int32 → Int32 → (Nat → Int32) → (Nat → Int32) → (Nat → Int32) → (Nat → Int32) → Prop}
    {k f kc ks pr : Nat} {gv : Nat → Nat} {e1 e2 e3 e4 e5 e6 : Int32} {a1 a2 a3 a4 : Nat → Int32} (hL : L ≤ 260) (hk : k + 1 < L) (hf : f < 65536)
    (h : gb_I pr gv (e1, e2, e3, e4, e5, e6, a1, a2, a3, a4))
    (H : ∀ e1 e2 e3 e4 e5 e6 a1 a2 a3 a4, gb_I pr gv (e1, e2, e3, e4, e5, e6, a1, a2, a3, a4) → J10 (nI (k + 2)) e1 e2 e3 e4 e5 e6 a1 a2 a3 a4) :
    wL_law_169 post L xs J10 (nI k) (nI f) kc ks e1 e2 e3 e4 e5 e6 a1 a2 a3 a4 := by
  unfold wL_law_169
  obtain ⟨g, hg, eg⟩ := gb_mask (xs (nI k + 1).toNatClampNeg)
  rw [eg]
  refine ⟨pk_in (k + 1) L hk (nI_1 k), gb_w_rests h hg hf (fun u1 h1 => ?_)⟩
  obtain ⟨e1, e2, e3, e4, e5, e6, a1, a2, a3, a4⟩ := u1
  refine br_f (by decide) ⟨pk_in (k + 1) L hk (nI_1 k), gb_w_rests (gb_LI h1) hf hg (fun u2 h2 => ?_)⟩
  obtain ⟨e1, e2, e3, e4, e5, e6, a1, a2, a3, a4⟩ := u2
  refine br_f (by decide) (gb_w_basis (gb_LI h2) (fun u3 h3 => ?_))
  obtain ⟨e1, e2, e3, e4, e5, e6, a1, a2, a3, a4⟩ := u3
  exact br_f (by decide) (nm_r (nI_add k 2) (H _ _ _ _ _ _ _ _ _ _ (gb_LI h3)))
theorem gb_w_80 {post : Int32 → Prop} {L : Nat} {xs : Nat → Int32} {J10 : Int32 → Int32 → Int32 → Int32 → Int32 → Int32 → Int32 → (Nat → Int32) → (Nat → Int32) → (Nat → Int32) → (Nat → Int32) → Prop}
    {x2 x4 : Int32} {kc ks : Nat} {e1 e2 e3 e4 e5 e6 : Int32} {a1 a2 a3 a4 : Nat → Int32}
    (H : wL_law_169 post L xs J10 x2 x4 kc ks e1 e2 e3 e4 e5 e6 a1 a2 a3 a4) : wL_law_80 post L xs J10 x2 x4 kc ks e1 e2 e3 e4 e5 e6 a1 a2 a3 a4 := by
  unfold wL_law_80 wL_law_85
  exact br_f (by decide) H
theorem gb_w_loop {xs : Nat → Int32} {L kc ks : Nat} (hL : L ≤ 260) : ∀ n k pr gv e1 e2 e3 e4 e5 e6 a1 a2 a3 a4, k ≤ L → L < n + k → gb_I pr gv (e1, e2, e3, e4, e5, e6, a1, a2, a3, a4) →
    wL_law_10 (fun r => r = 1) L xs kc ks n (nI k) e1 e2 e3 e4 e5 e6 a1 a2 a3 a4 := by
  intro n
  induction n with
  | zero =>
    intro k pr gv e1 e2 e3 e4 e5 e6 a1 a2 a3 a4 hk hn
    omega
  | succ n ih =>
    intro k pr gv e1 e2 e3 e4 e5 e6 a1 a2 a3 a4 hk hn hI
    refine pk_le L (k + 1) (fun _ => rfl) (fun hk1 => ?_) rfl (nI_1 k)
    obtain ⟨w, hw, ew⟩ := pk_andE (xs (nI k).toNatClampNeg) (m := 15) 4 (by decide)
    refine ⟨pk_in k L (by omega), nm_r ew ⟨pk_in k L (by omega), gb_w_polynomial _ (fun f hf => ⟨pk_in (k + 1) L hk1 (nI_1 k), by decide, ?_⟩) ()⟩⟩
    obtain ⟨j, hj, ej⟩ := pk_andE (xs (nI k + 1).toNatClampNeg >>> ((16 : Int32) &&& 31)) (m := 255) 8 (by decide)
    rw [ej]
    refine nm_r (pk_rem (d := 6) (show j < 2 ^ 31 by omega) (by omega) (by omega)) ?_
    have hi : j % 6 < 6 := Nat.mod_lt _ (by omega)
    generalize j % 6 = i at hi
    have go : ∀ pr gv e1 e2 e3 e4 e5 e6 a1 a2 a3 a4, gb_I pr gv (e1, e2, e3, e4, e5, e6, a1, a2, a3, a4) →
        wL_law_169 (fun r => r = 1) L xs (wL_law_10 (fun r => r = 1) L xs kc ks n) (nI k) (nI f) kc ks e1 e2 e3 e4 e5 e6 a1 a2 a3 a4 :=
      fun pr gv e1 e2 e3 e4 e5 e6 a1 a2 a3 a4 h => gb_w_169 hL hk1 hf h (fun e1 e2 e3 e4 e5 e6 a1 a2 a3 a4 h' => ih (k + 2) pr gv e1 e2 e3 e4 e5 e6 a1 a2 a3 a4 (by omega) (by omega) h')
    refine pk_le 9 w (fun _ => ?_) (fun _ => ?_)
    · obtain ⟨g, hg, eg⟩ := gb_mask (xs (nI k + 1).toNatClampNeg)
      refine gb_w_redundant hI hi (fun u1 h1 => ?_) (fun u1 h1 hb hV => ?_)
      · obtain ⟨e1, e2, e3, e4, e5, e6, a1, a2, a3, a4⟩ := u1
        refine gb_w_zeros h1 (fun u2 h2 => ?_)
        obtain ⟨e1, e2, e3, e4, e5, e6, a1, a2, a3, a4⟩ := u2
        refine ⟨pk_in (k + 1) L hk1 (nI_1 k), nm_r eg (gb_w_rest (gb_LI h2) hg (fun r u3 h3 hr hnf => ?_))⟩
        obtain ⟨e1, e2, e3, e4, e5, e6, a1, a2, a3, a4⟩ := u3
        refine gb_w_remove (gb_LI h3) hi (fun u4 h4 => ?_) (fun _ => br_t rfl (go _ _ _ _ _ _ _ _ _ _ _ _ (gb_LI h3)))
        obtain ⟨e1, e2, e3, e4, e5, e6, a1, a2, a3, a4⟩ := u4
        exact br_t rfl (go _ _ _ _ _ _ _ _ _ _ _ _ h4)
      · obtain ⟨e1, e2, e3, e4, e5, e6, a1, a2, a3, a4⟩ := u1
        refine gb_w_zeros h1 (fun u2 h2 => ?_)
        obtain ⟨e1, e2, e3, e4, e5, e6, a1, a2, a3, a4⟩ := u2
        refine ⟨pk_in (k + 1) L hk1 (nI_1 k), nm_r eg (gb_w_rest (gb_LI h2) hg (fun r u3 h3 hr hnf => ?_))⟩
        obtain ⟨e1, e2, e3, e4, e5, e6, a1, a2, a3, a4⟩ := u3
        refine gb_w_remove (gb_LI h3) hi (fun u4 h4 => ?_) (fun z => absurd (hb.symm.trans z) (by decide))
        obtain ⟨e1, e2, e3, e4, e5, e6, a1, a2, a3, a4⟩ := u4
        refine br_f (by decide) (br_f (by decide) (gb_w_zeros h4 (fun u5 h5 => ?_)))
        obtain ⟨e1, e2, e3, e4, e5, e6, a1, a2, a3, a4⟩ := u5
        refine br_t (by rw [gb_mk_congr 16 hV]) (gb_w_rest (gb_LI h5) hg (fun r' u6 h6 hr' hnf' => ?_))
        obtain ⟨e1, e2, e3, e4, e5, e6, a1, a2, a3, a4⟩ := u6
        exact br_t (by rw [gb_NF_eq hV hg hnf hnf']) (go _ _ _ _ _ _ _ _ _ _ _ _ (gb_LI h6))
    · refine gb_w_add hI hf (fun i u1 hi' h1 => ?_) (br_t (by decide) (gb_w_80 (go _ _ _ _ _ _ _ _ _ _ _ _ hI)))
      obtain ⟨e1, e2, e3, e4, e5, e6, a1, a2, a3, a4⟩ := u1
      refine br_f (nI_pos (by omega)) (gb_w_contains h1 hf (fun p hp hV => ?_) (fun u2 h2 => ?_))
      · have t := gb_V_t hV hi' (by rw [Nat.testBit_or, Nat.testBit_two_pow_self, Bool.or_true])
        unfold gb_set at t
        rw [if_pos rfl] at t
        exact t
      · obtain ⟨e1, e2, e3, e4, e5, e6, a1, a2, a3, a4⟩ := u2
        exact br_f (by decide) (gb_w_80 (go _ _ _ _ _ _ _ _ _ _ _ _ (gb_LI h2)))
theorem i_vc (xs : Nat → Int32) (L : Nat) (hL : L ≤ 260) : wpL_law (fun r => r = 1) L xs := by
  unfold wpL_law
  refine ⟨4, 86, by omega, by omega, ?_⟩
  unfold wpX_init
  refine ⟨by omega, by omega, by omega, by omega, by omega, by omega, by omega, by omega, L + 1, ?_⟩
  exact gb_w_loop hL (L + 1) 0 0 (fun _ => 0) 0 0 0 0 0 0 (fun _ => 0) (fun _ => 0) (fun _ => 0) (fun _ => 0) (by omega) (by omega) ⟨⟨by omega, rfl, fun j _ => ⟨rfl, show 0 < 65536 by omega⟩⟩, Or.inl rfl⟩
end
