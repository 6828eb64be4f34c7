section
/-! ===== part 1: whole numbers in machine words; sums, greatest values and counts over the first n ===== -/
def lc_i (z : Int) : Int32 := Int32.ofInt z
def lc_l (z : Int) : Int64 := Int64.ofInt z
theorem lc_i_n (n : Nat) : nI n = lc_i (n : Int) := (Int32.ofInt_eq_ofNat).symm
theorem lc_i_add (x y : Int) : lc_i x + lc_i y = lc_i (x + y) := (Int32.ofInt_add x y).symm
theorem lc_i_sub (x y : Int) : lc_i x - lc_i y = lc_i (x - y) := (Int32.ofInt_sub x y).symm
theorem lc_i_mul (x y : Int) : lc_i x * lc_i y = lc_i (x * y) := (Int32.ofInt_mul x y).symm
theorem lc_l_add (x y : Int) : lc_l x + lc_l y = lc_l (x + y) := (Int64.ofInt_add x y).symm
theorem lc_l_mul (x y : Int) : lc_l x * lc_l y = lc_l (x * y) := (Int64.ofInt_mul x y).symm
/-- small: far from the ends of an int -/
def lc_bd (x : Int) : Prop := -100000 ≤ x ∧ x ≤ 100000
theorem lc_i_t {x : Int} (h : lc_bd x) : (lc_i x).toInt = x := by
  have h1 := h.1
  have h2 := h.2
  exact Int32.toInt_ofInt_of_le (by omega) (by omega)
theorem lc_i_le {x y : Int} (hx : lc_bd x) (hy : lc_bd y) : lc_i x ≤ lc_i y ↔ x ≤ y := by
  rw [Int32.le_iff_toInt_le, lc_i_t hx, lc_i_t hy]
theorem lc_i_lt {x y : Int} (hx : lc_bd x) (hy : lc_bd y) : lc_i x < lc_i y ↔ x < y := by
  rw [Int32.lt_iff_toInt_lt, lc_i_t hx, lc_i_t hy]
theorem lc_i_eq {x y : Int} (hx : lc_bd x) (hy : lc_bd y) : lc_i x = lc_i y ↔ x = y := by
  constructor
  · intro h
    have h' := congrArg Int32.toInt h
    rwa [lc_i_t hx, lc_i_t hy] at h'
  · intro h
    rw [h]
theorem lc_i_l {x : Int} (h : lc_bd x) : (lc_i x).toInt64 = lc_l x := by
  have h1 := h.1
  have h2 := h.2
  have e1 : Int32.minValue.toInt = -2147483648 := by decide
  have e2 : Int32.maxValue.toInt = 2147483647 := by decide
  exact Int32.toInt64_ofInt (by omega) (by omega)
theorem lc_i_of (x : Int32) : x = lc_i x.toInt := (Int32.ofInt_toInt x).symm
theorem lc_i0 : (0 : Int32) = lc_i 0 := by decide
theorem lc_i1 : (1 : Int32) = lc_i 1 := by decide
theorem lc_im1 : (-1 : Int32) = lc_i (-1) := by decide
theorem lc_im2 : (-2 : Int32) = lc_i (-2) := by decide
theorem lc_im : (-1000 : Int32) = lc_i (-1000) := by decide
theorem lc_l0 : (0 : Int64) = lc_l 0 := by decide
theorem lc_l1 : (1 : Int64) = lc_l 1 := by decide
theorem lc_b0 : lc_bd 0 := ⟨by decide, by decide⟩
theorem lc_bm : lc_bd (-1000) := ⟨by decide, by decide⟩
/-- a bool as an int -/
def lc_bI (b : Bool) : Int32 := if b = true then 1 else 0
theorem lc_bI_0 {b : Bool} : lc_bI b = 0 ↔ b = false := by cases b <;> decide
theorem lc_uu (f : Nat → Int32) (k : Nat) (x y : Int32) : upd (upd f k x) k y = upd f k y := by
  funext j
  unfold upd
  by_cases h : j = k
  · rw [if_pos h, if_pos h]
  · rw [if_neg h, if_neg h, if_neg h]
theorem lc_uL (f : Nat → Int64) (k : Nat) (x y : Int64) : vp_updL (vp_updL f k x) k y = vp_updL f k y := by
  funext j
  unfold vp_updL
  by_cases h : j = k
  · rw [if_pos h, if_pos h]
  · rw [if_neg h, if_neg h, if_neg h]
/-- the index 3 * i + a -/
theorem lc_ix (i a : Nat) : 3 * nI i + nI a = nI (3 * i + a) := by
  rw [show (3 : Int32) = nI 3 from by decide, pk_mul, nI_add]
theorem lc_ix8 (i a : Nat) : 8 * nI i + nI a = nI (8 * i + a) := by
  rw [show (8 : Int32) = nI 8 from by decide, pk_mul, nI_add]
theorem lc_mul8 (i : Nat) : 8 * nI i = nI (8 * i) := by
  rw [show (8 : Int32) = nI 8 from by decide, pk_mul]
theorem lc_rem3 {k : Nat} (h : k < 1000) : nI k - nI k / 3 * 3 = nI (k % 3) := by
  have e := pk_rem (a := k) (d := 3) (by omega) (by decide) (by decide)
  rwa [show nI 3 = (3 : Int32) from by decide] at e
theorem lc_div3 {k : Nat} (h : k < 1000) : nI k / 3 = nI (k / 3) := by
  have e := pk_div (a := k) (d := 3) (by omega) (by decide) (by decide)
  rwa [show nI 3 = (3 : Int32) from by decide] at e
theorem lc_div9 {k : Nat} (h : k < 1000) : nI k / 9 = nI (k / 9) := by
  have e := pk_div (a := k) (d := 9) (by omega) (by decide) (by decide)
  rwa [show nI 9 = (9 : Int32) from by decide] at e
/-! sums -/
def lc_sm (f : Nat → Int) : Nat → Int
  | 0 => 0
  | n + 1 => lc_sm f n + f n
theorem lc_sm_c {f g : Nat → Int} : ∀ n, (∀ b, b < n → f b = g b) → lc_sm f n = lc_sm g n
  | 0, _ => rfl
  | n + 1, h => by
    show lc_sm f n + f n = lc_sm g n + g n
    rw [lc_sm_c n (fun b hb => h b (by omega)), h n (by omega)]
theorem lc_sm_0 {f : Nat → Int} : ∀ n, (∀ b, b < n → f b = 0) → lc_sm f n = 0
  | 0, _ => rfl
  | n + 1, h => by
    show lc_sm f n + f n = 0
    rw [lc_sm_0 n (fun b hb => h b (by omega)), h n (by omega)]
    rfl
theorem lc_sm_r {f : Nat → Int} (x : Int) : ∀ n, lc_sm f n * x = lc_sm (fun b => f b * x) n
  | 0 => Int.zero_mul x
  | n + 1 => by
    show (lc_sm f n + f n) * x = lc_sm (fun b => f b * x) n + f n * x
    rw [Int.add_mul, lc_sm_r x n]
theorem lc_sm_l {f : Nat → Int} (x : Int) : ∀ n, x * lc_sm f n = lc_sm (fun b => x * f b) n
  | 0 => Int.mul_zero x
  | n + 1 => by
    show x * (lc_sm f n + f n) = lc_sm (fun b => x * f b) n + x * f n
    rw [Int.mul_add, lc_sm_l x n]
theorem lc_sm_if {f : Nat → Int} {P : Prop} [Decidable P] (n : Nat) : (if P then lc_sm f n else 0) = lc_sm (fun b => if P then f b else 0) n := by
  by_cases h : P
  · rw [if_pos h]
    exact lc_sm_c n (fun b _ => (if_pos h).symm)
  · rw [if_neg h]
    exact (lc_sm_0 n (fun b _ => if_neg h)).symm
/-! the greatest -/
def lc_g (z : Int) (ok : Nat → Bool) (v : Nat → Int) : Nat → Int
  | 0 => z
  | n + 1 => if ok n = true ∧ lc_g z ok v n < v n then v n else lc_g z ok v n
/-- how many have the greatest, each b counted k b times -/
def lc_h (z : Int) (ok : Nat → Bool) (v k : Nat → Int) : Nat → Int
  | 0 => 0
  | n + 1 => if ok n = true then (if lc_g z ok v n < v n then k n else if v n = lc_g z ok v n then lc_h z ok v k n + k n else lc_h z ok v k n) else lc_h z ok v k n
/-- the first that has the greatest -/
def lc_f (z : Int) (ok : Nat → Bool) (v : Nat → Int) : Nat → Int
  | 0 => -1
  | n + 1 => if ok n = true ∧ lc_g z ok v n < v n then (n : Int) else lc_f z ok v n
section
variable {z : Int} {ok : Nat → Bool} {v k : Nat → Int}
theorem lc_g_s (n : Nat) : lc_g z ok v (n + 1) = if ok n = true ∧ lc_g z ok v n < v n then v n else lc_g z ok v n := rfl
theorem lc_h_s (n : Nat) : lc_h z ok v k (n + 1) = if ok n = true then (if lc_g z ok v n < v n then k n else if v n = lc_g z ok v n then lc_h z ok v k n + k n else lc_h z ok v k n) else lc_h z ok v k n := rfl
theorem lc_f_s (n : Nat) : lc_f z ok v (n + 1) = if ok n = true ∧ lc_g z ok v n < v n then (n : Int) else lc_f z ok v n := rfl
theorem lc_g_no {n : Nat} (h : ok n = false) : lc_g z ok v (n + 1) = lc_g z ok v n := by
  rw [lc_g_s, if_neg (by rw [h]; intro t; exact absurd t.1 (by decide))]
theorem lc_g_gt {n : Nat} (h : ok n = true) (h2 : lc_g z ok v n < v n) : lc_g z ok v (n + 1) = v n := by
  rw [lc_g_s, if_pos ⟨h, h2⟩]
theorem lc_g_le {n : Nat} (h2 : v n ≤ lc_g z ok v n) : lc_g z ok v (n + 1) = lc_g z ok v n := by
  rw [lc_g_s, if_neg (fun t => absurd t.2 (by omega))]
theorem lc_g_mono (n : Nat) : lc_g z ok v n ≤ lc_g z ok v (n + 1) := by
  rw [lc_g_s]
  by_cases h : ok n = true ∧ lc_g z ok v n < v n
  · rw [if_pos h]; omega
  · rw [if_neg h]; omega
theorem lc_g_ub : ∀ n b, b < n → ok b = true → v b ≤ lc_g z ok v n
  | 0, b, h, _ => absurd h (by omega)
  | n + 1, b, h, hb => by
    by_cases e : b = n
    · subst e
      rw [lc_g_s]
      by_cases h : ok b = true ∧ lc_g z ok v b < v b
      · rw [if_pos h]; omega
      · rw [if_neg h]
        have h' : ¬ lc_g z ok v b < v b := fun t => h ⟨hb, t⟩
        omega
    · have h1 := lc_g_ub n b (by omega) hb
      have h2 := lc_g_mono (z := z) (ok := ok) (v := v) n
      omega
theorem lc_g_lb : ∀ n, z ≤ lc_g z ok v n
  | 0 => Int.le_refl z
  | n + 1 => by
    have h1 := lc_g_lb n
    have h2 := lc_g_mono (z := z) (ok := ok) (v := v) n
    omega
theorem lc_g_at (hz : z < 0) : ∀ n, (∀ b, b < n → ok b = true → 0 ≤ v b) → (lc_g z ok v n = z ∧ ∀ b, b < n → ok b = false) ∨ (0 ≤ lc_g z ok v n ∧ ∃ b, b < n ∧ ok b = true ∧ v b = lc_g z ok v n)
  | 0, _ => Or.inl ⟨rfl, fun b hb => absurd hb (by omega)⟩
  | n + 1, hv => by
    have ih := lc_g_at hz n (fun b hb => hv b (by omega))
    cases hn : ok n with
    | false =>
      rw [lc_g_no hn]
      rcases ih with ⟨h1, h2⟩ | ⟨h1, b, hb, hb2, hb3⟩
      · refine Or.inl ⟨h1, fun b hb => ?_⟩
        by_cases e : b = n
        · rw [e]; exact hn
        · exact h2 b (by omega)
      · exact Or.inr ⟨h1, b, by omega, hb2, hb3⟩
    | true =>
      have hvn := hv n (by omega) hn
      by_cases hlt : lc_g z ok v n < v n
      · rw [lc_g_gt hn hlt]
        exact Or.inr ⟨hvn, n, by omega, hn, rfl⟩
      · rw [lc_g_le (by omega)]
        rcases ih with ⟨h1, h2⟩ | ⟨h1, b, hb, hb2, hb3⟩
        · omega
        · exact Or.inr ⟨h1, b, by omega, hb2, hb3⟩
theorem lc_g_bd {M : Int} (hz : z ≤ M) : ∀ n, (∀ b, b < n → ok b = true → v b ≤ M) → lc_g z ok v n ≤ M
  | 0, _ => hz
  | n + 1, hv => by
    have ih := lc_g_bd hz n (fun b hb => hv b (by omega))
    rw [lc_g_s]
    by_cases h : ok n = true ∧ lc_g z ok v n < v n
    · rw [if_pos h]; exact hv n (by omega) h.1
    · rw [if_neg h]; exact ih
theorem lc_h_eq : ∀ n, lc_h z ok v k n = lc_sm (fun b => if ok b = true ∧ v b = lc_g z ok v n then k b else 0) n
  | 0 => rfl
  | n + 1 => by
    have ih := lc_h_eq n
    show lc_h z ok v k (n + 1) = lc_sm (fun b => if ok b = true ∧ v b = lc_g z ok v (n + 1) then k b else 0) n + (if ok n = true ∧ v n = lc_g z ok v (n + 1) then k n else 0)
    rw [lc_h_s]
    cases hn : ok n with
    | false =>
      rw [if_neg (by decide), if_neg (by intro t; exact absurd t.1 (by decide)), lc_g_no hn, Int.add_zero]
      exact ih
    | true =>
      rw [if_pos rfl]
      by_cases hlt : lc_g z ok v n < v n
      · rw [if_pos hlt, lc_g_gt hn hlt, if_pos ⟨rfl, rfl⟩, lc_sm_0 n, Int.zero_add]
        intro b hb
        refine if_neg (fun t => ?_)
        have := lc_g_ub (z := z) (v := v) n b hb t.1
        omega
      · rw [if_neg hlt, lc_g_le (by omega)]
        by_cases he : v n = lc_g z ok v n
        · rw [if_pos he, if_pos ⟨rfl, he⟩, ih]
        · rw [if_neg he, if_neg (fun t => he t.2), ih, Int.add_zero]
theorem lc_f_at (hz : z < 0) : ∀ n, (∀ b, b < n → ok b = true → 0 ≤ v b) → (lc_f z ok v n = -1 ∧ lc_g z ok v n = z ∧ ∀ b, b < n → ok b = false) ∨ (∃ t : Nat, lc_f z ok v n = (t : Int) ∧ t < n ∧ ok t = true ∧ v t = lc_g z ok v n ∧ ∀ b, b < t → ok b = true → v b < v t)
  | 0, _ => Or.inl ⟨rfl, rfl, fun b hb => absurd hb (by omega)⟩
  | n + 1, hv => by
    have ih := lc_f_at hz n (fun b hb => hv b (by omega))
    by_cases hc : ok n = true ∧ lc_g z ok v n < v n
    · rw [lc_f_s, if_pos hc, lc_g_gt hc.1 hc.2]
      refine Or.inr ⟨n, rfl, by omega, hc.1, rfl, fun b hb hb2 => ?_⟩
      have := lc_g_ub (z := z) (v := v) n b hb hb2
      have := hc.2
      omega
    · rw [lc_f_s, if_neg hc, lc_g_s, if_neg hc]
      rcases ih with ⟨h1, h2, h3⟩ | ⟨t, h1, h2, h3, h4, h5⟩
      · refine Or.inl ⟨h1, h2, fun b hb => ?_⟩
        by_cases e : b = n
        · subst e
          cases hb : ok b with
          | false => rfl
          | true =>
            have := hv b (by omega) hb
            exact absurd ⟨hb, by omega⟩ hc
        · exact h3 b (by omega)
      · exact Or.inr ⟨t, h1, by omega, h3, h4, h5⟩
end
theorem lc_g_c {z : Int} {ok ok' : Nat → Bool} {v v' : Nat → Int} : ∀ n, (∀ b, b < n → ok b = ok' b) → (∀ b, b < n → ok b = true → v b = v' b) → lc_g z ok v n = lc_g z ok' v' n
  | 0, _, _ => rfl
  | n + 1, h, h2 => by
    have ih := lc_g_c (z := z) n (fun b hb => h b (by omega)) (fun b hb => h2 b (by omega))
    have hn := h n (by omega)
    cases e : ok n with
    | false =>
      rw [lc_g_no e, lc_g_no (hn ▸ e), ih]
    | true =>
      have hv := h2 n (by omega) e
      rw [lc_g_s, lc_g_s, ih, ← hn, e, hv]
end
section
/-! ===== part 2: the pure picture: s c: weights of places and couples, p q: barred places and couples ===== -/
/-- the weights are small -/
def lc_W (s : Nat → Int) : Prop := ∀ j, 0 ≤ s j ∧ s j ≤ 7
/-! the front: a row (m n k r: greatest sum, number, number of best, sum of products by label) gives the next -/
def lc_okF (q : Nat → Bool) (n : Nat → Int) (a b : Nat) : Bool := !(q (3 * b + a)) && decide (n b ≠ 0)
def lc_vF (s c m : Nat → Int) (i a b : Nat) : Int := m b + c (3 * b + a) + s (3 * i + a)
def lc_mS (s c : Nat → Int) (p q : Nat → Bool) (m n : Nat → Int) (i a : Nat) : Int := if p (3 * i + a) = true then -1000 else lc_g (-1000) (lc_okF q n a) (lc_vF s c m i a) 3
def lc_nS (p q : Nat → Bool) (n : Nat → Int) (i a : Nat) : Int := if p (3 * i + a) = true then 0 else lc_sm (fun b => if lc_okF q n a b = true then n b else 0) 3
def lc_kS (s c : Nat → Int) (p q : Nat → Bool) (m n k : Nat → Int) (i a : Nat) : Int := if p (3 * i + a) = true then 0 else lc_h (-1000) (lc_okF q n a) (lc_vF s c m i a) k 3
def lc_rS (s c : Nat → Int) (p q : Nat → Bool) (n r : Nat → Int) (i a : Nat) : Int := if p (3 * i + a) = true then 0 else lc_sm (fun b => if lc_okF q n a b = true then r b * c (3 * b + a) * s (3 * i + a) else 0) 3
def lc_m0 (s : Nat → Int) (p : Nat → Bool) (a : Nat) : Int := if p a = true then -1000 else s a
def lc_n0 (p : Nat → Bool) (a : Nat) : Int := if p a = true then 0 else 1
def lc_r0 (s : Nat → Int) (p : Nat → Bool) (a : Nat) : Int := if p a = true then 0 else s a
def lc_n1 (p q : Nat → Bool) : Nat → Int := lc_nS p q (lc_n0 p) 1
def lc_n2 (p q : Nat → Bool) : Nat → Int := lc_nS p q (lc_n1 p q) 2
def lc_m1 (s c : Nat → Int) (p q : Nat → Bool) : Nat → Int := lc_mS s c p q (lc_m0 s p) (lc_n0 p) 1
def lc_m2 (s c : Nat → Int) (p q : Nat → Bool) : Nat → Int := lc_mS s c p q (lc_m1 s c p q) (lc_n1 p q) 2
def lc_k1 (s c : Nat → Int) (p q : Nat → Bool) : Nat → Int := lc_kS s c p q (lc_m0 s p) (lc_n0 p) (lc_n0 p) 1
def lc_k2 (s c : Nat → Int) (p q : Nat → Bool) : Nat → Int := lc_kS s c p q (lc_m1 s c p q) (lc_n1 p q) (lc_k1 s c p q) 2
def lc_r1 (s c : Nat → Int) (p q : Nat → Bool) : Nat → Int := lc_rS s c p q (lc_n0 p) (lc_r0 s p) 1
def lc_r2 (s c : Nat → Int) (p q : Nat → Bool) : Nat → Int := lc_rS s c p q (lc_n1 p q) (lc_r1 s c p q) 2
/-- three rows as one table -/
def lc_tb (f0 f1 f2 : Nat → Int) (j : Nat) : Int := if j < 3 then f0 j else if j < 6 then f1 (j - 3) else f2 (j - 6)
theorem lc_tb0 {f0 f1 f2 : Nat → Int} {a : Nat} (h : a < 3) : lc_tb f0 f1 f2 a = f0 a := if_pos h
theorem lc_tb1 {f0 f1 f2 : Nat → Int} {a : Nat} (h : a < 3) : lc_tb f0 f1 f2 (3 + a) = f1 a := by
  unfold lc_tb
  rw [if_neg (by omega), if_pos (by omega), show 3 + a - 3 = a by omega]
theorem lc_tb2 {f0 f1 f2 : Nat → Int} {a : Nat} : lc_tb f0 f1 f2 (6 + a) = f2 a := by
  unfold lc_tb
  rw [if_neg (by omega), if_neg (by omega), show 6 + a - 6 = a by omega]
def lc_FS (s c : Nat → Int) (p q : Nat → Bool) : Nat → Int := lc_tb (lc_m0 s p) (lc_m1 s c p q) (lc_m2 s c p q)
def lc_FA (p q : Nat → Bool) : Nat → Int := lc_tb (lc_n0 p) (lc_n1 p q) (lc_n2 p q)
def lc_FB (s c : Nat → Int) (p q : Nat → Bool) : Nat → Int := lc_tb (lc_n0 p) (lc_k1 s c p q) (lc_k2 s c p q)
def lc_FP (s c : Nat → Int) (p q : Nat → Bool) : Nat → Int := lc_tb (lc_r0 s p) (lc_r1 s c p q) (lc_r2 s c p q)
/-! the back: a row (u z: greatest sum with the label's own weight, sum of products without it) gives the one ahead of it -/
def lc_okB (q : Nat → Bool) (u : Nat → Int) (a b : Nat) : Bool := !(q (3 * a + b)) && decide (0 ≤ u b)
def lc_vB (c u : Nat → Int) (a b : Nat) : Int := c (3 * a + b) + u b
def lc_gB (c : Nat → Int) (q : Nat → Bool) (u : Nat → Int) (a : Nat) : Int := lc_g (-1000) (lc_okB q u a) (lc_vB c u a) 3
def lc_uS (s c : Nat → Int) (p q : Nat → Bool) (u : Nat → Int) (i a : Nat) : Int := if p (3 * i + a) = true then -1000 else if 0 ≤ lc_gB c q u a then s (3 * i + a) + lc_gB c q u a else -1000
def lc_zS (s c : Nat → Int) (q : Nat → Bool) (u z : Nat → Int) (i a : Nat) : Int := lc_sm (fun b => if lc_okB q u a b = true then c (3 * a + b) * s (3 * i + 3 + b) * z b else 0) 3
def lc_u2 (s : Nat → Int) (p : Nat → Bool) (a : Nat) : Int := if p (6 + a) = true then -1000 else s (6 + a)
def lc_z2 (_ : Nat) : Int := 1
def lc_u1 (s c : Nat → Int) (p q : Nat → Bool) : Nat → Int := lc_uS s c p q (lc_u2 s p) 1
def lc_u0 (s c : Nat → Int) (p q : Nat → Bool) : Nat → Int := lc_uS s c p q (lc_u1 s c p q) 0
def lc_z1 (s c : Nat → Int) (p q : Nat → Bool) : Nat → Int := lc_zS s c q (lc_u2 s p) lc_z2 1
def lc_z0 (s c : Nat → Int) (p q : Nat → Bool) : Nat → Int := lc_zS s c q (lc_u1 s c p q) (lc_z1 s c p q) 0
def lc_BS (s c : Nat → Int) (p q : Nat → Bool) : Nat → Int := lc_tb (lc_u0 s c p q) (lc_u1 s c p q) (lc_u2 s p)
def lc_BP (s c : Nat → Int) (p q : Nat → Bool) : Nat → Int := lc_tb (lc_z0 s c p q) (lc_z1 s c p q) lc_z2
/-! the greatest sum, and the labels chosen -/
def lc_gr (s c : Nat → Int) (p q : Nat → Bool) : Int := lc_g (-1000) (fun _ => true) (lc_m2 s c p q) 3
def lc_pick (f : Nat → Bool) : Nat := if f 0 = true then 0 else if f 1 = true then 1 else 2
def lc_rc0 (u : Nat → Int) (rest : Int) (a : Nat) : Bool := decide (0 ≤ u a) && decide (u a = rest)
def lc_rc (c : Nat → Int) (q : Nat → Bool) (u : Nat → Int) (t : Nat) (rest : Int) (a : Nat) : Bool := decide (0 ≤ u a) && (!(q (3 * t + a)) && decide (u a + c (3 * t + a) = rest))
def lc_t0 (s c : Nat → Int) (p q : Nat → Bool) : Nat := lc_pick (lc_rc0 (lc_u0 s c p q) (lc_gr s c p q))
def lc_e1 (s c : Nat → Int) (p q : Nat → Bool) : Int := lc_gr s c p q - s (lc_t0 s c p q)
def lc_t1 (s c : Nat → Int) (p q : Nat → Bool) : Nat := lc_pick (lc_rc c q (lc_u1 s c p q) (lc_t0 s c p q) (lc_e1 s c p q))
def lc_e2 (s c : Nat → Int) (p q : Nat → Bool) : Int := lc_e1 s c p q - c (3 * lc_t0 s c p q + lc_t1 s c p q) - s (3 + lc_t1 s c p q)
def lc_t2 (s c : Nat → Int) (p q : Nat → Bool) : Nat := lc_pick (lc_rc c q (lc_u2 s p) (lc_t1 s c p q) (lc_e2 s c p q))
theorem lc_pick_lt (f : Nat → Bool) : lc_pick f < 3 := by
  unfold lc_pick
  by_cases h : f 0 = true
  · rw [if_pos h]; omega
  · rw [if_neg h]
    by_cases h : f 1 = true
    · rw [if_pos h]; omega
    · rw [if_neg h]; omega
/-! bounds -/
/-- a row of the front: nothing there, or a number and a sum that are small -/
def lc_R (m n : Nat → Int) (M N : Int) : Prop := ∀ a, a < 3 → (m a = -1000 ∧ n a = 0) ∨ (0 ≤ m a ∧ m a ≤ M ∧ 1 ≤ n a ∧ n a ≤ N)
theorem lc_R0 {s : Nat → Int} {p : Nat → Bool} (hs : lc_W s) : lc_R (lc_m0 s p) (lc_n0 p) 7 1 := by
  intro a _
  unfold lc_m0 lc_n0
  have := hs a
  by_cases h : p a = true
  · rw [if_pos h, if_pos h]; omega
  · rw [if_neg h, if_neg h]; omega
theorem lc_okF_iff {q : Nat → Bool} {n : Nat → Int} {a b : Nat} : lc_okF q n a b = true ↔ q (3 * b + a) = false ∧ n b ≠ 0 := by
  unfold lc_okF
  simp
theorem lc_okB_iff {q : Nat → Bool} {u : Nat → Int} {a b : Nat} : lc_okB q u a b = true ↔ q (3 * a + b) = false ∧ 0 ≤ u b := by
  unfold lc_okB
  simp
theorem lc_sm3 (f : Nat → Int) : lc_sm f 3 = f 0 + f 1 + f 2 := by
  show 0 + f 0 + f 1 + f 2 = _
  omega
theorem lc_RS {s c : Nat → Int} {p q : Nat → Bool} {m n : Nat → Int} {M N : Int} (hs : lc_W s) (hc : lc_W c) (hM : 0 ≤ M) (hN : 1 ≤ N) (h : lc_R m n M N) (i : Nat) : lc_R (lc_mS s c p q m n i) (lc_nS p q n i) (M + 14) (3 * N) := by
  intro a _
  unfold lc_mS lc_nS
  by_cases hp : p (3 * i + a) = true
  · rw [if_pos hp, if_pos hp]; omega
  · rw [if_neg hp, if_neg hp]
    have hs' := hs (3 * i + a)
    have hv : ∀ b, b < 3 → lc_okF q n a b = true → 0 ≤ lc_vF s c m i a b ∧ lc_vF s c m i a b ≤ M + 14 := by
      intro b hb ho
      have h1 := h b hb
      have h2 := lc_okF_iff.mp ho
      have h3 := hc (3 * b + a)
      have h4 := h2.2
      unfold lc_vF
      omega
    have hn : ∀ b, b < 3 → 0 ≤ (if lc_okF q n a b = true then n b else 0) ∧ (if lc_okF q n a b = true then n b else 0) ≤ N ∧ (lc_okF q n a b = true → 1 ≤ (if lc_okF q n a b = true then n b else 0)) ∧ (lc_okF q n a b = false → (if lc_okF q n a b = true then n b else 0) = 0) := by
      intro b hb
      have h1 := h b hb
      by_cases ho : lc_okF q n a b = true
      · have h2 := (lc_okF_iff.mp ho).2
        rw [if_pos ho]
        refine ⟨by omega, by omega, fun _ => by omega, fun t => ?_⟩
        rw [ho] at t
        exact absurd t (by decide)
      · rw [if_neg ho]
        exact ⟨by omega, by omega, fun t => absurd t ho, fun _ => rfl⟩
    have n0 := hn 0 (by omega)
    have n1 := hn 1 (by omega)
    have n2 := hn 2 (by omega)
    rw [lc_sm3]
    rcases lc_g_at (z := -1000) (ok := lc_okF q n a) (v := lc_vF s c m i a) (by decide) 3 (fun b hb ho => (hv b hb ho).1) with ⟨g1, g2⟩ | ⟨g1, b, hb, hb2, hb3⟩
    · have e0 := n0.2.2.2 (g2 0 (by omega))
      have e1 := n1.2.2.2 (g2 1 (by omega))
      have e2 := n2.2.2.2 (g2 2 (by omega))
      left
      rw [e0, e1, e2]
      exact ⟨g1, by decide⟩
    · have hg := (hv b hb hb2).2
      rw [hb3] at hg
      have hpos := (hn b hb).2.2.1 hb2
      right
      have hb' : b = 0 ∨ b = 1 ∨ b = 2 := by omega
      rcases hb' with rfl | rfl | rfl
      · omega
      · omega
      · omega
theorem lc_R1 {s c : Nat → Int} {p q : Nat → Bool} (hs : lc_W s) (hc : lc_W c) : lc_R (lc_m1 s c p q) (lc_n1 p q) 21 3 :=
  lc_RS hs hc (by decide) (by decide) (lc_R0 hs) 1
theorem lc_R2 {s c : Nat → Int} {p q : Nat → Bool} (hs : lc_W s) (hc : lc_W c) : lc_R (lc_m2 s c p q) (lc_n2 p q) 35 9 :=
  lc_RS hs hc (by decide) (by decide) (lc_R1 hs hc) 2
/-- a row of the back -/
def lc_U (u : Nat → Int) (M : Int) : Prop := ∀ a, a < 3 → u a = -1000 ∨ (0 ≤ u a ∧ u a ≤ M)
theorem lc_U2 {s : Nat → Int} {p : Nat → Bool} (hs : lc_W s) : lc_U (lc_u2 s p) 7 := by
  intro a _
  unfold lc_u2
  have := hs (6 + a)
  by_cases h : p (6 + a) = true
  · rw [if_pos h]; omega
  · rw [if_neg h]; omega
theorem lc_gB_bd {c : Nat → Int} {q : Nat → Bool} {u : Nat → Int} {M : Int} (hc : lc_W c) (hM : 0 ≤ M) (h : lc_U u M) (a : Nat) : -1000 ≤ lc_gB c q u a ∧ lc_gB c q u a ≤ M + 7 := by
  refine ⟨lc_g_lb 3, lc_g_bd (by omega) 3 (fun b hb ho => ?_)⟩
  have h1 := h b hb
  have h2 := (lc_okB_iff.mp ho).2
  have h3 := hc (3 * a + b)
  unfold lc_vB
  omega
theorem lc_US {s c : Nat → Int} {p q : Nat → Bool} {u : Nat → Int} {M : Int} (hs : lc_W s) (hc : lc_W c) (hM : 0 ≤ M) (h : lc_U u M) (i : Nat) : lc_U (lc_uS s c p q u i) (M + 14) := by
  intro a _
  unfold lc_uS
  have h1 := hs (3 * i + a)
  have h2 := lc_gB_bd (q := q) hc hM h a
  by_cases hp : p (3 * i + a) = true
  · rw [if_pos hp]; omega
  · rw [if_neg hp]
    by_cases hg : 0 ≤ lc_gB c q u a
    · rw [if_pos hg]; omega
    · rw [if_neg hg]; omega
theorem lc_U1 {s c : Nat → Int} {p q : Nat → Bool} (hs : lc_W s) (hc : lc_W c) : lc_U (lc_u1 s c p q) 21 :=
  lc_US hs hc (by decide) (lc_U2 hs) 1
theorem lc_U0 {s c : Nat → Int} {p q : Nat → Bool} (hs : lc_W s) (hc : lc_W c) : lc_U (lc_u0 s c p q) 35 :=
  lc_US hs hc (by decide) (lc_U1 hs hc) 0
theorem lc_gr_bd {s c : Nat → Int} {p q : Nat → Bool} (hs : lc_W s) (hc : lc_W c) : -1000 ≤ lc_gr s c p q ∧ lc_gr s c p q ≤ 35 := by
  refine ⟨lc_g_lb 3, lc_g_bd (by omega) 3 (fun b hb ho => ?_)⟩
  have h1 := lc_R2 (p := p) (q := q) hs hc b hb
  omega
end
section
/-! ===== part 3: walks of startFront, fillFront, fillBack, greatestSum ===== -/
/-- the inputs: weights and bars of nine places and nine couples -/
def lc_In (s c : Nat → Int) (p q : Nat → Bool) (a1 a2 a3 a4 : Nat → Int32) : Prop := ∀ j, j < 9 → a1 j = lc_i (s j) ∧ a2 j = lc_bI (p j) ∧ a3 j = lc_i (c j) ∧ a4 j = lc_bI (q j)
theorem lc_bdW {s : Nat → Int} (hs : lc_W s) (j : Nat) : lc_bd (s j) := ⟨by have := hs j; omega, by have := hs j; omega⟩
section
variable {post : St2 → Prop} {len rdy : Int32} {a1 a2 a3 a4 a5 a6 a7 a8 a11 a12 a13 a14 : Nat → Int32} {a9 a10 : Nat → Int64} {s c : Nat → Int} {p q : Nat → Bool}
theorem lc_start {a : Nat} (ha : a < 3) (hs : lc_W s) (hI : lc_In s c p q a1 a2 a3 a4)
    (H : post (len, rdy, a1, a2, a3, a4, upd a5 a (lc_i (lc_m0 s p a)), a6, upd a7 a (lc_i (lc_n0 p a)), upd a8 a (lc_i (lc_n0 p a)), vp_updL a9 a (lc_l (lc_r0 s p a)), a10, a11, a12, a13, a14)) :
    wpX_startFront post (len, rdy, a1, a2, a3, a4, a5, a6, a7, a8, a9, a10, a11, a12, a13, a14) (nI a) := by
  have hcl : (nI a).toNatClampNeg = a := nI_clamp (by omega)
  have hin : vp_in (nI a) 18 := vp_in_nI (by omega) (by decide)
  obtain ⟨h1, h2, h3, h4⟩ := hI a (by omega)
  unfold wpX_startFront
  simp only [wX_startFront_28, wX_startFront_43, wX_startFront_58, hcl, hin, true_and, forall_eq, h1, h2]
  unfold lc_m0 lc_n0 lc_r0 at H
  cases hp : p a with
  | false =>
    have hz : lc_bI false = 0 := rfl
    rw [hp, if_neg (by decide), if_neg (by decide), if_neg (by decide), ← lc_i1] at H
    rw [← lc_i_l (lc_bdW hs a)] at H
    exact br_t hz (br_t hz (br_t hz (br_t hz H)))
  | true =>
    have hz : ¬ lc_bI true = 0 := by decide
    rw [hp, if_pos rfl, if_pos rfl, if_pos rfl, ← lc_i0, ← lc_im, ← lc_l0] at H
    exact br_f hz (br_f hz (br_f hz (br_f hz H)))
theorem lc_ixm {i b : Nat} (hi : 1 ≤ i) : 3 * nI i - 3 + nI b = nI (3 * i - 3 + b) := by
  rw [show (3 : Int32) = nI 3 from by decide, pk_mul, pk_sub (by omega), nI_add]
theorem lc_ffStep {i a b n : Nat} {m k0 k r : Nat → Int} {M N : Int} (hi : 1 ≤ i) (hi2 : i ≤ 2) (ha : a < 3) (hb : b < 3) (hs : lc_W s) (hc : lc_W c) (hI : lc_In s c p q a1 a2 a3 a4) (hM0 : 0 ≤ M) (hM : M ≤ 1000) (hN : N ≤ 1000) (hR : lc_R m k0 M N)
    (hP : ∀ b, b < 3 → a5 (3 * i - 3 + b) = lc_i (m b) ∧ a7 (3 * i - 3 + b) = lc_i (k0 b) ∧ a8 (3 * i - 3 + b) = lc_i (k b) ∧ a9 (3 * i - 3 + b) = lc_l (r b))
    (hW : wX_fillFront_49 post (nI i) (nI a) (nI (3 * i + a)) len rdy n (nI (b + 1)) a1 a2 a3 a4 (upd a5 (3 * i + a) (lc_i (lc_g (-1000) (lc_okF q k0 a) (lc_vF s c m i a) (b + 1)))) a6 (upd a7 (3 * i + a) (lc_i (lc_sm (fun b => if lc_okF q k0 a b = true then k0 b else 0) (b + 1)))) (upd a8 (3 * i + a) (lc_i (lc_h (-1000) (lc_okF q k0 a) (lc_vF s c m i a) k (b + 1)))) (vp_updL a9 (3 * i + a) (lc_l (lc_sm (fun b => if lc_okF q k0 a b = true then r b * c (3 * b + a) * s (3 * i + a) else 0) (b + 1)))) a10 a11 a12 a13 a14) :
    wX_fillFront_49 post (nI i) (nI a) (nI (3 * i + a)) len rdy (n + 1) (nI b) a1 a2 a3 a4 (upd a5 (3 * i + a) (lc_i (lc_g (-1000) (lc_okF q k0 a) (lc_vF s c m i a) b))) a6 (upd a7 (3 * i + a) (lc_i (lc_sm (fun b => if lc_okF q k0 a b = true then k0 b else 0) b))) (upd a8 (3 * i + a) (lc_i (lc_h (-1000) (lc_okF q k0 a) (lc_vF s c m i a) k b))) (vp_updL a9 (3 * i + a) (lc_l (lc_sm (fun b => if lc_okF q k0 a b = true then r b * c (3 * b + a) * s (3 * i + a) else 0) b))) a10 a11 a12 a13 a14 := by
  have e1 : ¬ (3 : Int32) ≤ nI b := nI_ge (b := 3) hb (by decide)
  have e2 : 3 * nI i - 3 + nI b = nI (3 * i - 3 + b) := lc_ixm hi
  have e3 : 3 * nI b + nI a = nI (3 * b + a) := lc_ix b a
  have c1 : (nI (3 * i + a)).toNatClampNeg = 3 * i + a := nI_clamp (by omega)
  have c2 : (nI (3 * i - 3 + b)).toNatClampNeg = 3 * i - 3 + b := nI_clamp (by omega)
  have c3 : (nI (3 * b + a)).toNatClampNeg = 3 * b + a := nI_clamp (by omega)
  have v1 : vp_in (nI (3 * i + a)) 18 := vp_in_nI (by omega) (by decide)
  have v2 : vp_in (nI (3 * i - 3 + b)) 18 := vp_in_nI (by omega) (by decide)
  have v3 : vp_in (nI (3 * b + a)) 9 := vp_in_nI (by omega) (by decide)
  have hne : 3 * i - 3 + b ≠ 3 * i + a := by omega
  have e4 : nI b + 1 = nI (b + 1) := nI_1 b
  obtain ⟨-, -, hc3, hc4⟩ := hI (3 * b + a) (by omega)
  obtain ⟨hc1, -, -, -⟩ := hI (3 * i + a) (by omega)
  obtain ⟨p5, p7, p8, p9⟩ := hP b hb
  have hRb := hR b hb
  have hsb := hs (3 * i + a)
  have hcb := hc (3 * b + a)
  simp only [wX_fillFront_49, wX_fillFront_146, wX_fillFront_173, e2, e3, c1, c2, c3, v1, v2, v3, e4, true_and, forall_eq, pk_us, pk_un hne, pk_uLs, pk_uLn hne, lc_uu, lc_uL, hc4, hc3, hc1, p5, p7, p8, p9]
  refine br_f e1 ?_
  cases hq : q (3 * b + a) with
  | true =>
    have ho : lc_okF q k0 a b = false := by unfold lc_okF; rw [hq]; rfl
    rw [lc_g_no ho] at hW
    have w1 : lc_sm (fun b => if lc_okF q k0 a b = true then k0 b else 0) (b + 1) = lc_sm (fun b => if lc_okF q k0 a b = true then k0 b else 0) b := by
      show _ + (if lc_okF q k0 a b = true then k0 b else 0) = _
      rw [ho, if_neg (by decide), Int.add_zero]
    have w2 : lc_sm (fun b => if lc_okF q k0 a b = true then r b * c (3 * b + a) * s (3 * i + a) else 0) (b + 1) = lc_sm (fun b => if lc_okF q k0 a b = true then r b * c (3 * b + a) * s (3 * i + a) else 0) b := by
      show _ + (if lc_okF q k0 a b = true then r b * c (3 * b + a) * s (3 * i + a) else 0) = _
      rw [ho, if_neg (by decide), Int.add_zero]
    rw [w1, w2, lc_h_s, ho, if_neg (by decide)] at hW
    exact br_f (by decide) hW
  | false =>
    refine br_t (by decide) ?_
    by_cases hn : k0 b = 0
    · have ho : lc_okF q k0 a b = false := by unfold lc_okF; rw [hn]; simp
      rw [lc_g_no ho] at hW
      have w1 : lc_sm (fun b => if lc_okF q k0 a b = true then k0 b else 0) (b + 1) = lc_sm (fun b => if lc_okF q k0 a b = true then k0 b else 0) b := by
        show _ + (if lc_okF q k0 a b = true then k0 b else 0) = _
        rw [ho, if_neg (by decide), Int.add_zero]
      have w2 : lc_sm (fun b => if lc_okF q k0 a b = true then r b * c (3 * b + a) * s (3 * i + a) else 0) (b + 1) = lc_sm (fun b => if lc_okF q k0 a b = true then r b * c (3 * b + a) * s (3 * i + a) else 0) b := by
        show _ + (if lc_okF q k0 a b = true then r b * c (3 * b + a) * s (3 * i + a) else 0) = _
        rw [ho, if_neg (by decide), Int.add_zero]
      rw [w1, w2, lc_h_s, ho, if_neg (by decide)] at hW
      exact br_t (by rw [hn]; decide) hW
    · have ho : lc_okF q k0 a b = true := lc_okF_iff.mpr ⟨hq, hn⟩
      have hb1 : lc_bd (k0 b) := ⟨by omega, by omega⟩
      have hz : ¬ lc_i (k0 b) = 0 := by
        rw [lc_i0, lc_i_eq hb1 lc_b0]
        exact hn
      refine br_f hz ?_
      have hG1 : -1000 ≤ lc_g (-1000) (lc_okF q k0 a) (lc_vF s c m i a) b := lc_g_lb b
      have hG2 : lc_g (-1000) (lc_okF q k0 a) (lc_vF s c m i a) b ≤ M + 14 := by
        refine lc_g_bd (by omega) b (fun b' hb' ho' => ?_)
        have h1 := hR b' (by omega)
        have h2 := (lc_okF_iff.mp ho').2
        have h3 := hc (3 * b' + a)
        unfold lc_vF
        omega
      have hv : m b + c (3 * b + a) + s (3 * i + a) = lc_vF s c m i a b := rfl
      have hvb : 0 ≤ lc_vF s c m i a b ∧ lc_vF s c m i a b ≤ M + 14 := by unfold lc_vF; omega
      have hbG : lc_bd (lc_g (-1000) (lc_okF q k0 a) (lc_vF s c m i a) b) := ⟨by omega, by omega⟩
      have hbv : lc_bd (lc_vF s c m i a b) := ⟨by omega, by omega⟩
      have w1 : lc_sm (fun b => if lc_okF q k0 a b = true then k0 b else 0) (b + 1) = lc_sm (fun b => if lc_okF q k0 a b = true then k0 b else 0) b + k0 b := by
        show _ + (if lc_okF q k0 a b = true then k0 b else 0) = _
        rw [if_pos ho]
      have w2 : lc_sm (fun b => if lc_okF q k0 a b = true then r b * c (3 * b + a) * s (3 * i + a) else 0) (b + 1) = lc_sm (fun b => if lc_okF q k0 a b = true then r b * c (3 * b + a) * s (3 * i + a) else 0) b + r b * c (3 * b + a) * s (3 * i + a) := by
        show _ + (if lc_okF q k0 a b = true then r b * c (3 * b + a) * s (3 * i + a) else 0) = _
        rw [if_pos ho]
      rw [w1, w2, lc_h_s, if_pos ho] at hW
      simp only [lc_i_add, lc_l_add, lc_l_mul, lc_i_l (lc_bdW hs _), lc_i_l (lc_bdW hc _), hv]
      by_cases hlt : lc_g (-1000) (lc_okF q k0 a) (lc_vF s c m i a) b < lc_vF s c m i a b
      · rw [lc_g_gt ho hlt, if_pos hlt] at hW
        refine br_f (fun t => absurd ((lc_i_le hbv hbG).mp t) (by omega)) (br_t (by trivial) ?_)
        rw [lc_i0, lc_i_add, Int.zero_add]
        exact hW
      · rw [lc_g_le (by omega), if_neg hlt] at hW
        refine br_t ((lc_i_le hbv hbG).mpr (by omega)) ?_
        by_cases he : lc_vF s c m i a b = lc_g (-1000) (lc_okF q k0 a) (lc_vF s c m i a) b
        · rw [if_pos he] at hW
          exact br_t (by rw [he]) hW
        · rw [if_neg he] at hW
          exact br_f (fun t => he ((lc_i_eq hbv hbG).mp t)) hW
theorem lc_fillFront {i a : Nat} {m k0 k r : Nat → Int} {M N : Int} (hi : 1 ≤ i) (hi2 : i ≤ 2) (ha : a < 3) (hs : lc_W s) (hc : lc_W c) (hI : lc_In s c p q a1 a2 a3 a4) (hM0 : 0 ≤ M) (hM : M ≤ 1000) (hN : N ≤ 1000) (hR : lc_R m k0 M N)
    (hP : ∀ b, b < 3 → a5 (3 * i - 3 + b) = lc_i (m b) ∧ a7 (3 * i - 3 + b) = lc_i (k0 b) ∧ a8 (3 * i - 3 + b) = lc_i (k b) ∧ a9 (3 * i - 3 + b) = lc_l (r b))
    (H : post (len, rdy, a1, a2, a3, a4, upd a5 (3 * i + a) (lc_i (lc_mS s c p q m k0 i a)), a6, upd a7 (3 * i + a) (lc_i (lc_nS p q k0 i a)), upd a8 (3 * i + a) (lc_i (lc_kS s c p q m k0 k i a)), vp_updL a9 (3 * i + a) (lc_l (lc_rS s c p q k0 r i a)), a10, a11, a12, a13, a14)) :
    wpX_fillFront post (len, rdy, a1, a2, a3, a4, a5, a6, a7, a8, a9, a10, a11, a12, a13, a14) (nI i) (nI a) := by
  have e3 : 3 * nI i + nI a = nI (3 * i + a) := lc_ix i a
  have c1 : (nI (3 * i + a)).toNatClampNeg = 3 * i + a := nI_clamp (by omega)
  have v1 : vp_in (nI (3 * i + a)) 18 := vp_in_nI (by omega) (by decide)
  obtain ⟨-, hp2, -, -⟩ := hI (3 * i + a) (by omega)
  unfold wpX_fillFront
  simp only [e3, c1, v1, true_and, forall_eq, hp2]
  unfold lc_mS lc_nS lc_kS lc_rS at H
  cases hp : p (3 * i + a) with
  | true =>
    rw [if_pos hp, if_pos hp, if_pos hp, if_pos hp] at H
    exact br_f (by decide) H
  | false =>
    have hp' : ¬ p (3 * i + a) = true := by rw [hp]; decide
    rw [if_neg hp', if_neg hp', if_neg hp', if_neg hp'] at H
    refine br_t (by decide) ⟨4, ?_⟩
    have W3 : wX_fillFront_49 post (nI i) (nI a) (nI (3 * i + a)) len rdy 1 (nI 3) a1 a2 a3 a4 (upd a5 (3 * i + a) (lc_i (lc_g (-1000) (lc_okF q k0 a) (lc_vF s c m i a) 3))) a6 (upd a7 (3 * i + a) (lc_i (lc_sm (fun b => if lc_okF q k0 a b = true then k0 b else 0) 3))) (upd a8 (3 * i + a) (lc_i (lc_h (-1000) (lc_okF q k0 a) (lc_vF s c m i a) k 3))) (vp_updL a9 (3 * i + a) (lc_l (lc_sm (fun b => if lc_okF q k0 a b = true then r b * c (3 * b + a) * s (3 * i + a) else 0) 3))) a10 a11 a12 a13 a14 := br_t (by decide) H
    have W2 := lc_ffStep hi hi2 ha (show 2 < 3 by decide) hs hc hI hM0 hM hN hR hP W3
    have W1 := lc_ffStep hi hi2 ha (show 1 < 3 by decide) hs hc hI hM0 hM hN hR hP W2
    have W0 := lc_ffStep hi hi2 ha (show 0 < 3 by decide) hs hc hI hM0 hM hN hR hP W1
    exact W0
end
end
section
/-! ===== part 4: walks of fillBack and greatestSum ===== -/
theorem lc_bdM {s c : Nat → Int} (hs : lc_W s) (hc : lc_W c) (j k : Nat) : lc_bd (c j * s k) := by
  have h1 := hs k
  have h2 := hc j
  have h3 : 0 ≤ c j * s k := Int.mul_nonneg h2.1 h1.1
  have h4 : c j * s k ≤ 7 * 7 := Int.mul_le_mul h2.2 h1.2 h1.1 (by decide)
  exact ⟨by omega, by omega⟩
section
variable {post : St2 → Prop} {len rdy : Int32} {a1 a2 a3 a4 a5 a6 a7 a8 a11 a12 a13 a14 : Nat → Int32} {a9 a10 : Nat → Int64} {s c : Nat → Int} {p q : Nat → Bool}
theorem lc_fbStep {i a b n : Nat} {u z : Nat → Int} {M : Int} (hi : i ≤ 1) (ha : a < 3) (hb : b < 3) (hs : lc_W s) (hc : lc_W c) (hI : lc_In s c p q a1 a2 a3 a4) (hM0 : 0 ≤ M) (hM : M ≤ 1000) (hU : lc_U u M)
    (hP : ∀ b, b < 3 → a6 (3 * i + 3 + b) = lc_i (u b) ∧ a10 (3 * i + 3 + b) = lc_l (z b))
    (hW : wX_fillBack_62 post (nI i) (nI a) (nI (3 * i + a)) len rdy a1 a2 a3 a4 a5 a6 a7 a8 a9 a10 a11 a12 a13 a14 n (lc_i (lc_g (-1000) (lc_okB q u a) (lc_vB c u a) (b + 1))) (lc_l (lc_sm (fun b => if lc_okB q u a b = true then c (3 * a + b) * s (3 * i + 3 + b) * z b else 0) (b + 1))) (nI (b + 1))) :
    wX_fillBack_62 post (nI i) (nI a) (nI (3 * i + a)) len rdy a1 a2 a3 a4 a5 a6 a7 a8 a9 a10 a11 a12 a13 a14 (n + 1) (lc_i (lc_g (-1000) (lc_okB q u a) (lc_vB c u a) b)) (lc_l (lc_sm (fun b => if lc_okB q u a b = true then c (3 * a + b) * s (3 * i + 3 + b) * z b else 0) b)) (nI b) := by
  have e1 : ¬ (3 : Int32) ≤ nI b := nI_ge (b := 3) hb (by decide)
  have e2 : 3 * nI i + 3 + nI b = nI (3 * i + 3 + b) := by
    rw [show (3 : Int32) = nI 3 from by decide, pk_mul, nI_add, nI_add]
  have e3 : 3 * nI a + nI b = nI (3 * a + b) := lc_ix a b
  have c2 : (nI (3 * i + 3 + b)).toNatClampNeg = 3 * i + 3 + b := nI_clamp (by omega)
  have c3 : (nI (3 * a + b)).toNatClampNeg = 3 * a + b := nI_clamp (by omega)
  have v2 : vp_in (nI (3 * i + 3 + b)) 18 := vp_in_nI (by omega) (by decide)
  have v3 : vp_in (nI (3 * a + b)) 9 := vp_in_nI (by omega) (by decide)
  have e4 : nI b + 1 = nI (b + 1) := nI_1 b
  obtain ⟨-, -, hc3, hc4⟩ := hI (3 * a + b) (by omega)
  obtain ⟨hc1, -, -, -⟩ := hI (3 * i + 3 + b) (by omega)
  obtain ⟨p6, p10⟩ := hP b hb
  have hUb := hU b hb
  have hcb := hc (3 * a + b)
  have hbu : lc_bd (u b) := ⟨by omega, by omega⟩
  have hF : (fun b => if lc_okB q u a b = true then c (3 * a + b) * s (3 * i + 3 + b) * z b else 0) b = if lc_okB q u a b = true then c (3 * a + b) * s (3 * i + 3 + b) * z b else 0 := rfl
  have hS : lc_sm (fun b => if lc_okB q u a b = true then c (3 * a + b) * s (3 * i + 3 + b) * z b else 0) (b + 1) = lc_sm (fun b => if lc_okB q u a b = true then c (3 * a + b) * s (3 * i + 3 + b) * z b else 0) b + (if lc_okB q u a b = true then c (3 * a + b) * s (3 * i + 3 + b) * z b else 0) := rfl
  rw [hS] at hW
  simp only [wX_fillBack_62, wX_fillBack_137, e2, e3, c2, c3, v2, v3, e4, true_and, forall_eq, hc4, hc3, hc1, p6, p10]
  refine br_f e1 ?_
  cases hq : q (3 * a + b) with
  | true =>
    have ho : lc_okB q u a b = false := by unfold lc_okB; rw [hq]; rfl
    rw [lc_g_no ho, ho, if_neg (by decide), Int.add_zero] at hW
    exact br_f (by decide) hW
  | false =>
    refine br_t (by decide) ?_
    by_cases hu : 0 ≤ u b
    · have ho : lc_okB q u a b = true := lc_okB_iff.mpr ⟨hq, hu⟩
      refine br_t (by rw [lc_i0]; exact (lc_i_le lc_b0 hbu).mpr hu) ?_
      have hG1 : -1000 ≤ lc_g (-1000) (lc_okB q u a) (lc_vB c u a) b := lc_g_lb b
      have hG2 : lc_g (-1000) (lc_okB q u a) (lc_vB c u a) b ≤ M + 7 := by
        refine lc_g_bd (by omega) b (fun b' hb' ho' => ?_)
        have h1 := hU b' (by omega)
        have h2 := (lc_okB_iff.mp ho').2
        have h3 := hc (3 * a + b')
        unfold lc_vB
        omega
      have hv : c (3 * a + b) + u b = lc_vB c u a b := rfl
      have hvb : 0 ≤ lc_vB c u a b ∧ lc_vB c u a b ≤ M + 7 := by unfold lc_vB; omega
      have hbG : lc_bd (lc_g (-1000) (lc_okB q u a) (lc_vB c u a) b) := ⟨by omega, by omega⟩
      have hbv : lc_bd (lc_vB c u a b) := ⟨by omega, by omega⟩
      rw [if_pos ho] at hW
      simp only [lc_i_add, lc_i_mul, lc_i_l (lc_bdM hs hc _ _), lc_l_mul, lc_l_add, hv]
      by_cases hlt : lc_g (-1000) (lc_okB q u a) (lc_vB c u a) b < lc_vB c u a b
      · rw [lc_g_gt ho hlt] at hW
        exact br_f (fun t => absurd ((lc_i_le hbv hbG).mp t) (by omega)) hW
      · rw [lc_g_le (by omega)] at hW
        exact br_t ((lc_i_le hbv hbG).mpr (by omega)) hW
    · have ho : lc_okB q u a b = false := by
        cases h : lc_okB q u a b with
        | false => rfl
        | true => exact absurd (lc_okB_iff.mp h).2 hu
      rw [lc_g_no ho, ho, if_neg (by decide), Int.add_zero] at hW
      exact br_f (by rw [lc_i0]; exact fun t => hu ((lc_i_le lc_b0 hbu).mp t)) hW
theorem lc_fillBack {i a : Nat} {u z : Nat → Int} {M : Int} (hi : i ≤ 1) (ha : a < 3) (hs : lc_W s) (hc : lc_W c) (hI : lc_In s c p q a1 a2 a3 a4) (hM0 : 0 ≤ M) (hM : M ≤ 1000) (hU : lc_U u M)
    (hP : ∀ b, b < 3 → a6 (3 * i + 3 + b) = lc_i (u b) ∧ a10 (3 * i + 3 + b) = lc_l (z b))
    (H : post (3, rdy, a1, a2, a3, a4, a5, upd a6 (3 * i + a) (lc_i (lc_uS s c p q u i a)), a7, a8, a9, vp_updL a10 (3 * i + a) (lc_l (lc_zS s c q u z i a)), a11, a12, a13, a14)) :
    wpX_fillBack post (3, rdy, a1, a2, a3, a4, a5, a6, a7, a8, a9, a10, a11, a12, a13, a14) (nI i) (nI a) := by
  have e3 : 3 * nI i + nI a = nI (3 * i + a) := lc_ix i a
  have c1 : (nI (3 * i + a)).toNatClampNeg = 3 * i + a := nI_clamp (by omega)
  have v1 : vp_in (nI (3 * i + a)) 18 := vp_in_nI (by omega) (by decide)
  have hlast : ¬ nI i = (3 : Int32) - 1 := by
    rw [show (3 : Int32) - 1 = nI 2 from by decide, nI_eq (by omega) (by decide)]
    omega
  obtain ⟨hp1, hp2, -, -⟩ := hI (3 * i + a) (by omega)
  have hb := lc_gB_bd (q := q) hc hM0 hU a
  have hbb : lc_bd (lc_gB c q u a) := ⟨by omega, by omega⟩
  have loop : ∀ z0 : Int32, ∃ fu : Nat, wX_fillBack_62 post (nI i) (nI a) (nI (3 * i + a)) 3 rdy a1 a2 a3 a4 a5 (upd a6 (3 * i + a) z0) a7 a8 a9 (vp_updL a10 (3 * i + a) 1) a11 a12 a13 a14 fu (-1000) 0 0 := by
    intro z0
    have hP' : ∀ b, b < 3 → (upd a6 (3 * i + a) z0) (3 * i + 3 + b) = lc_i (u b) ∧ (vp_updL a10 (3 * i + a) 1) (3 * i + 3 + b) = lc_l (z b) := by
      intro b hb
      rw [pk_un (by omega), pk_uLn (by omega)]
      exact hP b hb
    have W3 : wX_fillBack_62 post (nI i) (nI a) (nI (3 * i + a)) 3 rdy a1 a2 a3 a4 a5 (upd a6 (3 * i + a) z0) a7 a8 a9 (vp_updL a10 (3 * i + a) 1) a11 a12 a13 a14 1 (lc_i (lc_g (-1000) (lc_okB q u a) (lc_vB c u a) 3)) (lc_l (lc_sm (fun b => if lc_okB q u a b = true then c (3 * a + b) * s (3 * i + 3 + b) * z b else 0) 3)) (nI 3) := by
      simp only [wX_fillBack_62, c1, v1, true_and, forall_eq, hp1, hp2, lc_uu, lc_uL]
      refine br_t (by decide) ?_
      unfold lc_uS lc_zS at H
      cases hp : p (3 * i + a) with
      | true =>
        rw [if_pos hp] at H
        exact br_f (by decide) H
      | false =>
        rw [if_neg (by rw [hp]; decide)] at H
        refine br_t (by decide) ?_
        by_cases hg : 0 ≤ lc_gB c q u a
        · rw [if_pos hg] at H
          rw [lc_i_add]
          exact br_t (by rw [lc_i0]; exact (lc_i_le lc_b0 hbb).mpr hg) H
        · rw [if_neg hg] at H
          exact br_f (by rw [lc_i0]; exact fun t => hg ((lc_i_le lc_b0 hbb).mp t)) H
    have W2 := lc_fbStep hi ha (show 2 < 3 by decide) hs hc hI hM0 hM hU hP' W3
    have W1 := lc_fbStep hi ha (show 1 < 3 by decide) hs hc hI hM0 hM hU hP' W2
    have W0 := lc_fbStep hi ha (show 0 < 3 by decide) hs hc hI hM0 hM hU hP' W1
    exact ⟨4, W0⟩
  unfold wpX_fillBack
  simp only [wX_fillBack_32, e3, c1, v1, true_and, forall_eq]
  exact br_c (fun _ => br_f hlast (loop _)) (fun _ => br_f hlast (loop _))
theorem lc_fillBack2 {a : Nat} (ha : a < 3) (hI : lc_In s c p q a1 a2 a3 a4)
    (H : post (3, rdy, a1, a2, a3, a4, a5, upd a6 (6 + a) (lc_i (lc_u2 s p a)), a7, a8, a9, vp_updL a10 (6 + a) (lc_l (lc_z2 a)), a11, a12, a13, a14)) :
    wpX_fillBack post (3, rdy, a1, a2, a3, a4, a5, a6, a7, a8, a9, a10, a11, a12, a13, a14) (nI 2) (nI a) := by
  have e3 : 3 * nI 2 + nI a = nI (6 + a) := lc_ix 2 a
  have c1 : (nI (6 + a)).toNatClampNeg = 6 + a := nI_clamp (by omega)
  have v1 : vp_in (nI (6 + a)) 18 := vp_in_nI (by omega) (by decide)
  have hlast : nI 2 = (3 : Int32) - 1 := by decide
  obtain ⟨hp1, hp2, -, -⟩ := hI (6 + a) (by omega)
  unfold wpX_fillBack
  simp only [wX_fillBack_32, e3, c1, v1, true_and, forall_eq, hp1, hp2]
  unfold lc_u2 lc_z2 at H
  cases hp : p (6 + a) with
  | true =>
    rw [if_pos hp] at H
    exact br_f (by decide) (br_t hlast H)
  | false =>
    rw [if_neg (by rw [hp]; decide)] at H
    exact br_t (by decide) (br_t hlast H)
end
section
variable {post : Int32 → Prop} {rdy : Int32} {a1 a2 a3 a4 a5 a6 a7 a8 a11 a12 a13 a14 : Nat → Int32} {a9 a10 : Nat → Int64} {s c : Nat → Int} {p q : Nat → Bool}
theorem lc_gsStep {b n : Nat} {m : Nat → Int} (hb : b < 3) (hm : ∀ b, b < 3 → a5 (6 + b) = lc_i (m b) ∧ -1000 ≤ m b ∧ m b ≤ 1000)
    (hW : wX_greatestSum_6 post 3 rdy a1 a2 a3 a4 a5 a6 a7 a8 a9 a10 a11 a12 a13 a14 n (lc_i (lc_g (-1000) (fun _ => true) m (b + 1))) (nI (b + 1))) :
    wX_greatestSum_6 post 3 rdy a1 a2 a3 a4 a5 a6 a7 a8 a9 a10 a11 a12 a13 a14 (n + 1) (lc_i (lc_g (-1000) (fun _ => true) m b)) (nI b) := by
  have e1 : ¬ (3 : Int32) ≤ nI b := nI_ge (b := 3) hb (by decide)
  have e2 : (3 : Int32) * 3 - 3 + nI b = nI (6 + b) := by
    rw [show (3 : Int32) * 3 - 3 = nI 6 from by decide, nI_add]
  have c2 : (nI (6 + b)).toNatClampNeg = 6 + b := nI_clamp (by omega)
  have v2 : vp_in (nI (6 + b)) 18 := vp_in_nI (by omega) (by decide)
  have e4 : nI b + 1 = nI (b + 1) := nI_1 b
  obtain ⟨h5, h6, h7⟩ := hm b hb
  have hbm : lc_bd (m b) := ⟨by omega, by omega⟩
  have hG1 : -1000 ≤ lc_g (-1000) (fun _ => true) m b := lc_g_lb b
  have hG2 : lc_g (-1000) (fun _ => true) m b ≤ 1000 := lc_g_bd (by omega) b (fun b' hb' _ => (hm b' (by omega)).2.2)
  have hbG : lc_bd (lc_g (-1000) (fun _ => true) m b) := ⟨by omega, by omega⟩
  simp only [wX_greatestSum_6, e2, c2, v2, e4, true_and, forall_eq, h5]
  refine br_f e1 ?_
  by_cases hlt : lc_g (-1000) (fun _ => true) m b < m b
  · rw [lc_g_gt rfl hlt] at hW
    exact br_f (fun t => absurd ((lc_i_le hbm hbG).mp t) (by omega)) hW
  · rw [lc_g_le (by omega)] at hW
    exact br_t ((lc_i_le hbm hbG).mpr (by omega)) hW
theorem lc_greatest {m : Nat → Int} (hm : ∀ b, b < 3 → a5 (6 + b) = lc_i (m b) ∧ -1000 ≤ m b ∧ m b ≤ 1000) (H : post (lc_i (lc_g (-1000) (fun _ => true) m 3))) :
    wpX_greatestSum post (3, rdy, a1, a2, a3, a4, a5, a6, a7, a8, a9, a10, a11, a12, a13, a14) := by
  have W3 : wX_greatestSum_6 post 3 rdy a1 a2 a3 a4 a5 a6 a7 a8 a9 a10 a11 a12 a13 a14 1 (lc_i (lc_g (-1000) (fun _ => true) m 3)) (nI 3) := br_t (by decide) H
  have W2 := lc_gsStep (show 2 < 3 by decide) hm W3
  have W1 := lc_gsStep (show 1 < 3 by decide) hm W2
  have W0 := lc_gsStep (show 0 < 3 by decide) hm W1
  exact ⟨4, W0⟩
end
end
section
/-! ===== part 5: walks of offer, rankCouple, rankSums ===== -/
/-- block b of a table of the greatest sums: its head is x, nothing in it is greater -/
def lc_T1 (T : Nat → Int32) (b : Nat) (x : Int) : Prop := T (8 * b) = lc_i x ∧ ∀ j, j < 8 → (T (8 * b + j)).toInt ≤ x
section
variable {post : St2 → Prop} {len rdy : Int32} {a1 a2 a3 a4 a5 a6 a7 a8 a11 a12 a13 a14 : Nat → Int32} {a9 a10 : Nat → Int64} {s c : Nat → Int} {p q : Nat → Bool}
theorem lc_off18 {a : Nat} {x v : Int} {T0 : Nat → Int32} (ha : a < 3) (hx : lc_bd x) (hv : lc_bd v)
    (H : ∀ T', lc_T1 T' a (if x < v then v else x) → (∀ j, (j < 8 * a ∨ 8 * a + 8 ≤ j) → T' j = T0 j) → post (len, rdy, a1, a2, a3, a4, a5, a6, a7, a8, a9, a10, a11, T', a13, a14)) :
    ∀ k, k ≤ 7 → ∀ n, k < n → ∀ T : Nat → Int32, T (8 * a) = lc_i x → (∀ j, j ≤ k → (T (8 * a + j)).toInt ≤ x) → (∀ j, k < j → j < 8 → (T (8 * a + j)).toInt ≤ x ∧ (T (8 * a + j)).toInt < v) → (T (8 * a + k)).toInt < v → (∀ j, (j < 8 * a ∨ 8 * a + 8 ≤ j) → T j = T0 j) →
    wX_offer_18 post (nI (8 * a)) (lc_i v) len rdy n (nI (8 * a + k)) a1 a2 a3 a4 a5 a6 a7 a8 a9 a10 a11 T a13 a14
  | _, _, 0, hn, T, h0, h1, h2, h3, h4 => absurd hn (by omega)
  | 0, _, n + 1, _, T, h0, h1, h2, h3, h4 => by
    have c1 : (nI (8 * a)).toNatClampNeg = 8 * a := nI_clamp (by omega)
    have v1 : vp_in (nI (8 * a)) 24 := vp_in_nI (by omega) (by decide)
    have h3' : x < v := by
      have h3'' : (T (8 * a)).toInt < v := h3
      rw [h0, lc_i_t hx] at h3''
      exact h3''
    rw [if_pos h3'] at H
    refine br_t (nI_le (by omega) (by omega)) ⟨v1, nm_e ?_⟩
    refine H _ ⟨?_, fun j hj => ?_⟩ (fun j hj => ?_)
    · show upd T (nI (8 * a)).toNatClampNeg (lc_i v) (8 * a) = lc_i v
      rw [c1, pk_us]
    · show (upd T (nI (8 * a)).toNatClampNeg (lc_i v) (8 * a + j)).toInt ≤ v
      rw [c1]
      by_cases e : j = 0
      · subst e
        show (upd T (8 * a) (lc_i v) (8 * a)).toInt ≤ v
        rw [pk_us, lc_i_t hv]
        exact Int.le_refl v
      · rw [pk_un (by omega)]
        have := (h2 j (by omega) hj).2
        omega
    · show upd T (nI (8 * a)).toNatClampNeg (lc_i v) j = T0 j
      rw [c1, pk_un (by omega)]
      exact h4 j hj
  | k + 1, hk, n + 1, hn, T, h0, h1, h2, h3, h4 => by
    have c1 : (nI (8 * a + (k + 1))).toNatClampNeg = 8 * a + (k + 1) := nI_clamp (by omega)
    have v1 : vp_in (nI (8 * a + (k + 1))) 24 := vp_in_nI (by omega) (by decide)
    have c2 : (nI (8 * a + k)).toNatClampNeg = 8 * a + k := nI_clamp (by omega)
    have v2 : vp_in (nI (8 * a + k)) 24 := vp_in_nI (by omega) (by decide)
    have e1 : nI (8 * a + (k + 1)) - 1 = nI (8 * a + k) := nI_pred (8 * a + k)
    have e2 : nI (8 * a + (k + 1)) + (-1) = nI (8 * a + k) := pk_m1 (8 * a + k)
    have hk1 := h1 k (by omega)
    simp only [wX_offer_18, e1, e2, c1, c2, v1, v2, true_and, forall_eq]
    refine br_f (nI_ge (by omega) (by omega)) ?_
    refine br_c (fun hle => ?_) (fun hlt => ?_)
    · rw [Int32.le_iff_toInt_le, lc_i_t hv] at hle
      have hxv : ¬ x < v := by omega
      rw [if_neg hxv] at H
      refine H _ ⟨?_, fun j hj => ?_⟩ (fun j hj => ?_)
      · rw [pk_un (by omega)]
        exact h0
      · by_cases e : j = k + 1
        · subst e
          rw [pk_us, lc_i_t hv]
          omega
        · rw [pk_un (by omega)]
          by_cases e2 : j ≤ k
          · exact h1 j (by omega)
          · exact (h2 j (by omega) hj).1
      · rw [pk_un (by omega)]
        exact h4 j hj
    · rw [Int32.le_iff_toInt_le, lc_i_t hv] at hlt
      refine lc_off18 ha hx hv H k (by omega) n (by omega) _ ?_ (fun j hj => ?_) (fun j hj hj2 => ?_) ?_ (fun j hj => ?_)
      · rw [pk_un (by omega)]
        exact h0
      · rw [pk_un (by omega)]
        exact h1 j (by omega)
      · by_cases e : j = k + 1
        · subst e
          rw [pk_us]
          omega
        · rw [pk_un (by omega)]
          exact h2 j (by omega) hj2
      · rw [pk_un (by omega)]
        omega
      · rw [pk_un (by omega)]
        exact h4 j hj
theorem lc_offer {a : Nat} {x v : Int} (ha : a < 3) (hx : lc_bd x) (hv : lc_bd v) (hT : lc_T1 a12 a x)
    (H : ∀ T', lc_T1 T' a (if x < v then v else x) → (∀ j, (j < 8 * a ∨ 8 * a + 8 ≤ j) → T' j = a12 j) → post (len, rdy, a1, a2, a3, a4, a5, a6, a7, a8, a9, a10, a11, T', a13, a14)) :
    wpX_offer post (len, rdy, a1, a2, a3, a4, a5, a6, a7, a8, a9, a10, a11, a12, a13, a14) (nI (8 * a)) (lc_i v) := by
  have e1 : nI (8 * a) + 8 - 1 = nI (8 * a + 7) := by
    rw [show (8 : Int32) = nI 8 from by decide, nI_add]
    exact nI_pred (8 * a + 7)
  have c1 : (nI (8 * a + 7)).toNatClampNeg = 8 * a + 7 := nI_clamp (by omega)
  have v1 : vp_in (nI (8 * a + 7)) 24 := vp_in_nI (by omega) (by decide)
  obtain ⟨h0, h1⟩ := hT
  have h7 := h1 7 (by omega)
  unfold wpX_offer
  simp only [e1, c1, v1, true_and, forall_eq]
  refine br_c (fun hlt => ?_) (fun hge => ?_)
  · rw [Int32.lt_iff_toInt_lt, lc_i_t hv] at hlt
    exact ⟨8, lc_off18 ha hx hv H 7 (by omega) 8 (by omega) a12 h0 (fun j hj => h1 j (by omega)) (fun j hj hj2 => absurd hj2 (by omega)) hlt (fun j _ => rfl)⟩
  · rw [Int32.lt_iff_toInt_lt, lc_i_t hv] at hge
    have hxv : ¬ x < v := by omega
    rw [if_neg hxv] at H
    exact H a12 ⟨h0, h1⟩ (fun j _ => rfl)
theorem lc_rankCouple {i a b : Nat} {x y : Int} (hi : i ≤ 2) (ha : a < 3) (hb : b < 3) (hs : lc_W s) (hc : lc_W c) (hI : lc_In s c p q a1 a2 a3 a4) (hx : -1000 ≤ x ∧ x ≤ 1000) (hy : -1000 ≤ y ∧ y ≤ 2000) (hN : lc_T1 a11 b x) (hT : lc_T1 a12 a y)
    (H : ∀ T', lc_T1 T' a (if (q (3 * b + a) = false ∧ p (3 * i + a) = false ∧ 0 ≤ x) ∧ y < x + (c (3 * b + a) + s (3 * i + a)) then x + (c (3 * b + a) + s (3 * i + a)) else y) → (∀ j, (j < 8 * a ∨ 8 * a + 8 ≤ j) → T' j = a12 j) → post (len, rdy, a1, a2, a3, a4, a5, a6, a7, a8, a9, a10, a11, T', a13, a14)) :
    wpX_rankCouple post (len, rdy, a1, a2, a3, a4, a5, a6, a7, a8, a9, a10, a11, a12, a13, a14) (nI i) (nI b) (nI a) := by
  have e3 : 3 * nI b + nI a = nI (3 * b + a) := lc_ix b a
  have e4 : 3 * nI i + nI a = nI (3 * i + a) := lc_ix i a
  have c3 : (nI (3 * b + a)).toNatClampNeg = 3 * b + a := nI_clamp (by omega)
  have c4 : (nI (3 * i + a)).toNatClampNeg = 3 * i + a := nI_clamp (by omega)
  have v3 : vp_in (nI (3 * b + a)) 9 := vp_in_nI (by omega) (by decide)
  have v4 : vp_in (nI (3 * i + a)) 18 := vp_in_nI (by omega) (by decide)
  obtain ⟨-, -, i3, i4⟩ := hI (3 * b + a) (by omega)
  obtain ⟨i1, i2, -, -⟩ := hI (3 * i + a) (by omega)
  unfold wpX_rankCouple
  simp only [e3, e4, c3, c4, v3, v4, true_and, forall_eq, i1, i2, i3, i4, lc_i_add]
  cases hq : q (3 * b + a) with
  | true =>
    rw [if_neg (by rw [hq]; intro t; exact absurd t.1.1 (by decide))] at H
    exact br_f (by decide) (H a12 hT (fun j _ => rfl))
  | false =>
    refine br_t (by decide) ?_
    cases hp : p (3 * i + a) with
    | true =>
      rw [if_neg (by rw [hp]; intro t; exact absurd t.1.2.1 (by decide))] at H
      exact br_f (by decide) (H a12 hT (fun j _ => rfl))
    | false =>
      refine br_t (by decide) ?_
      have hw : 0 ≤ c (3 * b + a) + s (3 * i + a) ∧ c (3 * b + a) + s (3 * i + a) ≤ 14 := by
        have h1 := hc (3 * b + a)
        have h2 := hs (3 * i + a)
        omega
      generalize c (3 * b + a) + s (3 * i + a) = w at hw H ⊢
      have e0 : (if (q (3 * b + a) = false ∧ p (3 * i + a) = false ∧ 0 ≤ x) ∧ y < x + w then x + w else y) = (if 0 ≤ x ∧ y < x + w then x + w else y) := by
        by_cases h : 0 ≤ x ∧ y < x + w
        · rw [if_pos h, if_pos ⟨⟨hq, hp, h.1⟩, h.2⟩]
        · rw [if_neg h, if_neg (fun t => h ⟨t.1.2.2, t.2⟩)]
      rw [e0] at H
      have hyy : -1000 ≤ (if 0 ≤ x ∧ y < x + w then x + w else y) ∧ (if 0 ≤ x ∧ y < x + w then x + w else y) ≤ 3000 ∧ (0 ≤ x → x + w ≤ (if 0 ≤ x ∧ y < x + w then x + w else y)) := by
        by_cases h : 0 ≤ x ∧ y < x + w
        · rw [if_pos h]; omega
        · rw [if_neg h]; omega
      refine pk_loop (fun n k T => wX_rankCouple_53 post (nI b) (nI a) (lc_i w) n (nI k) len rdy a1 a2 a3 a4 a5 a6 a7 a8 a9 a10 a11 T a13 a14)
        (fun k T => lc_T1 T a (if k = 0 then y else if 0 ≤ x ∧ y < x + w then x + w else y) ∧ ∀ j, (j < 8 * a ∨ 8 * a + 8 ≤ j) → T j = a12 j) 8 0 a12 (by omega) ⟨hT, fun j _ => rfl⟩ ?_ ?_
      · intro n T hh
        exact br_t (by decide) (H T hh.1 hh.2)
      · intro n k T hk hh hw'
        have f1 : 8 * nI b + nI k = nI (8 * b + k) := lc_ix8 b k
        have f2 : (nI (8 * b + k)).toNatClampNeg = 8 * b + k := nI_clamp (by omega)
        have f3 : vp_in (nI (8 * b + k)) 24 := vp_in_nI (by omega) (by decide)
        have f4 : nI k + 1 = nI (k + 1) := nI_1 k
        have f5 : 8 * nI a = nI (8 * a) := lc_mul8 a
        have hx' := hN.2 k hk
        have hNk : a11 (8 * b + k) = lc_i (a11 (8 * b + k)).toInt := lc_i_of _
        simp only [wX_rankCouple_53, f1, f2, f3, f4, f5, true_and, forall_eq]
        refine br_f (nI_ge (b := 8) hk (by decide)) ?_
        have hw0 : ∀ s', (lc_T1 s' a (if 0 ≤ x ∧ y < x + w then x + w else y) ∧ ∀ j, (j < 8 * a ∨ 8 * a + 8 ≤ j) → s' j = a12 j) → wX_rankCouple_53 post (nI b) (nI a) (lc_i w) n (nI (k + 1)) len rdy a1 a2 a3 a4 a5 a6 a7 a8 a9 a10 a11 s' a13 a14 := hw'
        by_cases hk0 : k = 0
        · subst hk0
          have hT' : lc_T1 T a y := hh.1
          have hNx : a11 (8 * b + 0) = lc_i x := hN.1
          have hbx : lc_bd x := ⟨by omega, by omega⟩
          have hby : lc_bd y := ⟨by omega, by omega⟩
          rw [hNx]
          refine br_c (fun hneg => ?_) (fun hpos => ?_)
          · rw [lc_i0, lc_i_lt hbx lc_b0] at hneg
            rw [if_neg (fun t => absurd t.1 (by omega))] at hw0
            exact hw0 T ⟨hT', hh.2⟩
          · rw [lc_i0, lc_i_lt hbx lc_b0] at hpos
            rw [lc_i_add]
            refine lc_offer ha hby ⟨by omega, by omega⟩ hT' (fun T' t1 t2 => ?_)
            refine hw0 T' ⟨?_, fun j hj => (t2 j hj).trans (hh.2 j hj)⟩
            by_cases hlt : y < x + w
            · rw [if_pos hlt] at t1
              rw [if_pos ⟨by omega, hlt⟩]
              exact t1
            · rw [if_neg hlt] at t1
              rw [if_neg (fun t => hlt t.2)]
              exact t1
        · have hT' : lc_T1 T a (if 0 ≤ x ∧ y < x + w then x + w else y) := by
            have := hh.1
            rw [if_neg hk0] at this
            exact this
          refine br_c (fun hneg => hw0 T ⟨hT', hh.2⟩) (fun hpos => ?_)
          rw [Int32.lt_iff_toInt_lt, show (0 : Int32).toInt = 0 from by decide] at hpos
          rw [hNk]
          generalize (a11 (8 * b + k)).toInt = t at hx' hpos ⊢
          rw [lc_i_add]
          refine lc_offer ha ⟨by omega, by omega⟩ ⟨by omega, by omega⟩ hT' (fun T' t1 t2 => ?_)
          refine hw0 T' ⟨?_, fun j hj => (t2 j hj).trans (hh.2 j hj)⟩
          rw [if_neg (by omega)] at t1
          exact t1
end
end
section
/-! ===== part 6: the walk of rankSums ===== -/
def lc_okR (p q : Nat → Bool) (m : Nat → Int) (i a b : Nat) : Bool := !(q (3 * b + a)) && (!(p (3 * i + a)) && decide (0 ≤ m b))
def lc_vR (s c m : Nat → Int) (i a b : Nat) : Int := m b + (c (3 * b + a) + s (3 * i + a))
theorem lc_okR_iff {p q : Nat → Bool} {m : Nat → Int} {i a b : Nat} : lc_okR p q m i a b = true ↔ q (3 * b + a) = false ∧ p (3 * i + a) = false ∧ 0 ≤ m b := by
  unfold lc_okR
  simp
theorem lc_R_ms {s c : Nat → Int} {p q : Nat → Bool} {m n : Nat → Int} {M N : Int} {i a : Nat} (h : lc_R m n M N) : lc_g (-1000) (lc_okR p q m i a) (lc_vR s c m i a) 3 = lc_mS s c p q m n i a := by
  unfold lc_mS
  by_cases hp : p (3 * i + a) = true
  · rw [if_pos hp]
    have hno : ∀ b, lc_okR p q m i a b = false := by
      intro b
      unfold lc_okR
      rw [hp]
      simp
    rw [lc_g_no (hno 2), lc_g_no (hno 1), lc_g_no (hno 0)]
    rfl
  · rw [if_neg hp]
    have hp' : p (3 * i + a) = false := by
      cases e : p (3 * i + a) with
      | false => rfl
      | true => exact absurd e hp
    refine lc_g_c 3 (fun b hb => ?_) (fun b hb _ => ?_)
    · have h1 := h b hb
      rw [Bool.eq_iff_iff, lc_okR_iff, lc_okF_iff]
      constructor
      · intro t
        have := t.2.2
        exact ⟨t.1, by omega⟩
      · intro t
        have := t.2
        exact ⟨t.1, hp', by omega⟩
    · unfold lc_vR lc_vF
      omega
section
variable {post : St2 → Prop} {rdy : Int32} {a1 a2 a3 a4 a5 a6 a7 a8 a11 a12 a13 a14 : Nat → Int32} {a9 a10 : Nat → Int64} {s c : Nat → Int} {p q : Nat → Bool}
theorem lc_fillTo {f : Nat → Int32} {k : Nat} {x y : Int32} (h : ∀ j, j < k → f j = x) (hy : y = x) : ∀ j, j < k + 1 → upd f k y j = x := by
  intro j hj
  by_cases e : j = k
  · rw [e, pk_us, hy]
  · rw [pk_un e]
    exact h j (by omega)
/-- the copy at the end -/
theorem lc_r200 (H : ∀ A, A 0 = a12 0 → post (3, rdy, a1, a2, a3, a4, a5, a6, a7, a8, a9, a10, a11, a12, A, a14)) :
    ∃ fu, wX_rankSums_200 post 3 rdy fu 0 a1 a2 a3 a4 a5 a6 a7 a8 a9 a10 a11 a12 a13 a14 := by
  refine pk_loop (fun n k A => wX_rankSums_200 post 3 rdy n (nI k) a1 a2 a3 a4 a5 a6 a7 a8 a9 a10 a11 a12 A a14)
    (fun k A => 0 < k → A 0 = a12 0) 8 0 a13 (by omega) (fun h => absurd h (by omega)) ?_ ?_
  · intro n A hh
    exact br_t (by decide) (H A (hh (by omega)))
  · intro n k A hk hh hw
    have f2 : (nI k).toNatClampNeg = k := nI_clamp (by omega)
    have f3 : vp_in (nI k) 24 := vp_in_nI (by omega) (by decide)
    have f3' : vp_in (nI k) 8 := vp_in_nI (by omega) (by decide)
    have f4 : nI k + 1 = nI (k + 1) := nI_1 k
    simp only [wX_rankSums_200, f2, f3, f3', f4, true_and, forall_eq]
    refine br_f (nI_ge (b := 8) hk (by decide)) (hw _ (fun _ => ?_))
    by_cases e : k = 0
    · rw [e, pk_us]
    · rw [pk_un (by omega)]
      exact hh (by omega)
/-- all into one block -/
theorem lc_r166 {m : Nat → Int} (hm : ∀ b, b < 3 → lc_T1 a11 b (m b) ∧ (m b = -1000 ∨ 0 ≤ m b) ∧ m b ≤ 1000) (hT : lc_T1 a12 0 (-1000))
    (H : ∀ T A, A 0 = lc_i (lc_g (-1000) (fun _ => true) m 3) → post (3, rdy, a1, a2, a3, a4, a5, a6, a7, a8, a9, a10, a11, T, A, a14)) :
    ∃ fu, wX_rankSums_166 post fu 0 3 rdy a1 a2 a3 a4 a5 a6 a7 a8 a9 a10 a11 a12 a13 a14 := by
  have hT0 : lc_T1 a12 0 (lc_g (-1000) (fun _ => true) m ((0 + 7) / 8)) := by
    rw [show (0 + 7) / 8 = 0 by decide]
    exact hT
  refine pk_loop (fun n k T => wX_rankSums_166 post n (nI k) 3 rdy a1 a2 a3 a4 a5 a6 a7 a8 a9 a10 a11 T a13 a14)
    (fun k T => lc_T1 T 0 (lc_g (-1000) (fun _ => true) m ((k + 7) / 8))) 24 0 a12 (by omega) hT0 ?_ ?_
  · intro n T hh
    exact br_t (by decide) (lc_r200 (fun A hA => H T A (hA.trans hh.1)))
  · intro n k T hk hh hw
    have f2 : (nI k).toNatClampNeg = k := nI_clamp (by omega)
    have f3 : vp_in (nI k) 24 := vp_in_nI (by omega) (by decide)
    have f4 : nI k + 1 = nI (k + 1) := nI_1 k
    have hb : k / 8 < 3 := by omega
    obtain ⟨hN, hm1, hm2⟩ := hm (k / 8) hb
    have hG1 : ∀ t, -1000 ≤ lc_g (-1000) (fun _ => true) m t := fun t => lc_g_lb t
    have hG2 : ∀ t, t ≤ 3 → lc_g (-1000) (fun _ => true) m t ≤ 1000 := fun t ht => lc_g_bd (by omega) t (fun b' hb' _ => (hm b' (by omega)).2.2)
    have hle : (a11 k).toInt ≤ m (k / 8) := by
      have := hN.2 (k % 8) (by omega)
      rwa [show 8 * (k / 8) + k % 8 = k by omega] at this
    have hNk : a11 k = lc_i (a11 k).toInt := lc_i_of _
    simp only [wX_rankSums_166, f2, f3, f4, true_and, forall_eq]
    refine br_f (nI_ge (b := 24) hk (by decide)) ?_
    by_cases h8 : k % 8 = 0
    · have e1 : (k + 7) / 8 = k / 8 := by omega
      have e2 : (k + 1 + 7) / 8 = k / 8 + 1 := by omega
      have e3 : 8 * (k / 8) = k := by omega
      have hNx : a11 k = lc_i (m (k / 8)) := by
        have := hN.1
        rwa [e3] at this
      rw [e1] at hh
      have hw0 : ∀ T', lc_T1 T' 0 (lc_g (-1000) (fun _ => true) m (k / 8 + 1)) → wX_rankSums_166 post n (nI (k + 1)) 3 rdy a1 a2 a3 a4 a5 a6 a7 a8 a9 a10 a11 T' a13 a14 := by
        rw [← e2]
        exact hw
      have hbm : lc_bd (m (k / 8)) := ⟨by omega, by omega⟩
      have hbG : lc_bd (lc_g (-1000) (fun _ => true) m (k / 8)) := ⟨by have := hG1 (k / 8); omega, by have := hG2 (k / 8) (by omega); omega⟩
      rw [hNx]
      refine br_c (fun hneg => ?_) (fun hpos => ?_)
      · rw [lc_i0, lc_i_lt hbm lc_b0] at hneg
        refine hw0 T ?_
        have hmm : m (k / 8) ≤ lc_g (-1000) (fun _ => true) m (k / 8) := by have := hG1 (k / 8); omega
        rw [lc_g_le hmm]
        exact hh
      · refine lc_offer (a := 0) (by omega) hbG hbm hh (fun T' t1 t2 => hw0 T' ?_)
        by_cases hlt : lc_g (-1000) (fun _ => true) m (k / 8) < m (k / 8)
        · rw [if_pos hlt] at t1
          rw [lc_g_gt rfl hlt]
          exact t1
        · rw [if_neg hlt] at t1
          rw [lc_g_le (by omega)]
          exact t1
    · have e1 : (k + 7) / 8 = k / 8 + 1 := by omega
      have e2 : (k + 1 + 7) / 8 = k / 8 + 1 := by omega
      rw [e1] at hh
      have hw0 : ∀ T', lc_T1 T' 0 (lc_g (-1000) (fun _ => true) m (k / 8 + 1)) → wX_rankSums_166 post n (nI (k + 1)) 3 rdy a1 a2 a3 a4 a5 a6 a7 a8 a9 a10 a11 T' a13 a14 := by
        rw [← e2]
        exact hw
      have hub : m (k / 8) ≤ lc_g (-1000) (fun _ => true) m (k / 8 + 1) := lc_g_ub (ok := fun _ => true) (k / 8 + 1) (k / 8) (by omega) rfl
      have hg1 := hG1 (k / 8 + 1)
      have hg2 := hG2 (k / 8 + 1) (by omega)
      refine br_c (fun hneg => hw0 T hh) (fun hpos => ?_)
      rw [Int32.lt_iff_toInt_lt, show (0 : Int32).toInt = 0 from by decide] at hpos
      rw [hNk]
      generalize (a11 k).toInt = t at hle hpos ⊢
      refine lc_offer (a := 0) (by omega) ⟨by omega, by omega⟩ ⟨by omega, by omega⟩ hh (fun T' t1 t2 => hw0 T' ?_)
      rw [if_neg (by omega)] at t1
      exact t1
theorem lc_r143 {m : Nat → Int} (hm : ∀ b, b < 3 → lc_T1 a11 b (m b) ∧ (m b = -1000 ∨ 0 ≤ m b) ∧ m b ≤ 1000)
    (H : ∀ T A, A 0 = lc_i (lc_g (-1000) (fun _ => true) m 3) → post (3, rdy, a1, a2, a3, a4, a5, a6, a7, a8, a9, a10, a11, T, A, a14)) :
    ∃ fu, wX_rankSums_143 post 3 rdy fu 0 a1 a2 a3 a4 a5 a6 a7 a8 a9 a10 a11 a12 a13 a14 := by
  refine pk_loop (fun n k T => wX_rankSums_143 post 3 rdy n (nI k) a1 a2 a3 a4 a5 a6 a7 a8 a9 a10 a11 T a13 a14)
    (fun k T => ∀ j, j < k → T j = -1000) 8 0 a12 (by omega) (fun j h => absurd h (by omega)) ?_ ?_
  · intro n T hh
    refine br_t (by decide) (lc_r166 hm ⟨?_, fun j hj => ?_⟩ H)
    · rw [← lc_im]
      exact hh 0 (by omega)
    · rw [Nat.mul_zero, Nat.zero_add, hh j hj]
      decide
  · intro n k T hk hh hw
    have f2 : (nI k).toNatClampNeg = k := nI_clamp (by omega)
    have f3 : vp_in (nI k) 24 := vp_in_nI (by omega) (by decide)
    have f4 : nI k + 1 = nI (k + 1) := nI_1 k
    simp only [wX_rankSums_143, f2, f3, f4, true_and, forall_eq]
    exact br_f (nI_ge (b := 8) hk (by decide)) (hw _ (lc_fillTo hh rfl))
end
section
variable {post : St2 → Prop} {J : Int32 → Int32 → Int32 → (Nat → Int32) → (Nat → Int32) → (Nat → Int32) → (Nat → Int32) → (Nat → Int32) → (Nat → Int32) → (Nat → Int32) → (Nat → Int32) → (Nat → Int64) → (Nat → Int64) → (Nat → Int32) → (Nat → Int32) → (Nat → Int32) → (Nat → Int32) → Prop} {rdy : Int32} {a1 a2 a3 a4 a5 a6 a7 a8 a11 a12 a13 a14 : Nat → Int32} {a9 a10 : Nat → Int64} {s c : Nat → Int} {p q : Nat → Bool}
theorem lc_r111 {i : Nat} (H : ∀ N, (∀ j, j < 24 → N j = a12 j) → J (nI (i + 1)) 3 rdy a1 a2 a3 a4 a5 a6 a7 a8 a9 a10 N a12 a13 a14) :
    ∃ fu, wX_rankSums_111 post J (nI i) 3 rdy fu 0 a1 a2 a3 a4 a5 a6 a7 a8 a9 a10 a11 a12 a13 a14 := by
  refine pk_loop (fun n k N => wX_rankSums_111 post J (nI i) 3 rdy n (nI k) a1 a2 a3 a4 a5 a6 a7 a8 a9 a10 N a12 a13 a14)
    (fun k N => ∀ j, j < k → N j = a12 j) 24 0 a11 (by omega) (fun j h => absurd h (by omega)) ?_ ?_
  · intro n N hh
    exact br_t (by decide) (nm_r (nI_1 i) (H N hh))
  · intro n k N hk hh hw
    have f2 : (nI k).toNatClampNeg = k := nI_clamp (by omega)
    have f3 : vp_in (nI k) 24 := vp_in_nI (by omega) (by decide)
    have f4 : nI k + 1 = nI (k + 1) := nI_1 k
    simp only [wX_rankSums_111, f2, f3, f4, true_and, forall_eq]
    refine br_f (nI_ge (b := 24) hk (by decide)) (hw _ (fun j hj => ?_))
    by_cases e : j = k
    · rw [e, pk_us]
    · rw [pk_un e]
      exact hh j (by omega)
theorem lc_T1_ext {T T' : Nat → Int32} {b : Nat} {x : Int} (h : lc_T1 T b x) (he : ∀ j, 8 * b ≤ j → j < 8 * b + 8 → T' j = T j) : lc_T1 T' b x := by
  refine ⟨?_, fun j hj => ?_⟩
  · rw [he _ (by omega) (by omega)]
    exact h.1
  · rw [he _ (by omega) (by omega)]
    exact h.2 j hj
theorem lc_r86 {i : Nat} {m n : Nat → Int} {M N : Int} (hi : i ≤ 2) (hs : lc_W s) (hc : lc_W c) (hI : lc_In s c p q a1 a2 a3 a4) (hM0 : 0 ≤ M) (hM : M ≤ 900) (hR : lc_R m n M N) (hN : ∀ b, b < 3 → lc_T1 a11 b (m b)) (hT : ∀ a, a < 3 → lc_T1 a12 a (-1000))
    (H : ∀ N' T', (∀ a, a < 3 → lc_T1 N' a (lc_mS s c p q m n i a)) → J (nI (i + 1)) 3 rdy a1 a2 a3 a4 a5 a6 a7 a8 a9 a10 N' T' a13 a14) :
    ∃ fu, wX_rankSums_86 post J (nI i) fu 0 3 rdy a1 a2 a3 a4 a5 a6 a7 a8 a9 a10 a11 a12 a13 a14 := by
  refine pk_loop (fun n' k T => wX_rankSums_86 post J (nI i) n' (nI k) 3 rdy a1 a2 a3 a4 a5 a6 a7 a8 a9 a10 a11 T a13 a14)
    (fun k T => ∀ a, a < 3 → lc_T1 T a (lc_g (-1000) (lc_okR p q m i a) (lc_vR s c m i a) ((k + 2 - a) / 3))) 9 0 a12 (by omega) (fun a ha => ?_) ?_ ?_
  · rw [show (0 + 2 - a) / 3 = 0 by omega]
    exact hT a ha
  · intro n' T hh
    refine br_t (by decide) (lc_r111 (fun N' hN' => H N' T (fun a ha => ?_)))
    have h1 := hh a ha
    rw [show (9 + 2 - a) / 3 = 3 by omega, lc_R_ms hR] at h1
    exact lc_T1_ext h1 (fun j _ hj => hN' j (by omega))
  · intro n' k T hk hh hw
    have f4 : nI k + 1 = nI (k + 1) := nI_1 k
    have f5 : nI k / 3 = nI (k / 3) := lc_div3 (by omega)
    have f6 : nI k - nI (k / 3) * 3 = nI (k % 3) := by
      rw [← f5]
      exact lc_rem3 (by omega)
    have hb : k / 3 < 3 := by omega
    have ha : k % 3 < 3 := by omega
    have hRb := hR (k / 3) hb
    have g1 : -1000 ≤ lc_g (-1000) (lc_okR p q m i (k % 3)) (lc_vR s c m i (k % 3)) (k / 3) := lc_g_lb _
    have g2 : lc_g (-1000) (lc_okR p q m i (k % 3)) (lc_vR s c m i (k % 3)) (k / 3) ≤ 1000 := by
      refine lc_g_bd (by omega) _ (fun b' hb' ho' => ?_)
      have h1 := hR b' (by omega)
      have h3 := hc (3 * b' + k % 3)
      have h4 := hs (3 * i + k % 3)
      unfold lc_vR
      omega
    have hTa := hh (k % 3) ha
    rw [show (k + 2 - k % 3) / 3 = k / 3 by omega] at hTa
    have h3 : ¬ (3 : Int32) = 0 := by decide
    simp only [wX_rankSums_86, f4, f5, f6, forall_eq]
    refine br_f (nI_ge (b := 9) hk (by decide)) ⟨h3, h3, ?_⟩
    refine lc_rankCouple (s := s) (c := c) (p := p) (q := q) hi ha hb hs hc hI (by omega) (by omega) (hN (k / 3) hb) hTa (fun T' t1 t2 => ?_)
    refine hw T' (fun a ha' => ?_)
    by_cases e : a = k % 3
    · subst e
      rw [show (k + 1 + 2 - k % 3) / 3 = k / 3 + 1 by omega, lc_g_s]
      by_cases hcond : (q (3 * (k / 3) + k % 3) = false ∧ p (3 * i + k % 3) = false ∧ 0 ≤ m (k / 3)) ∧ lc_g (-1000) (lc_okR p q m i (k % 3)) (lc_vR s c m i (k % 3)) (k / 3) < m (k / 3) + (c (3 * (k / 3) + k % 3) + s (3 * i + k % 3))
      · rw [if_pos hcond] at t1
        rw [if_pos ⟨lc_okR_iff.mpr hcond.1, hcond.2⟩]
        exact t1
      · rw [if_neg hcond] at t1
        rw [if_neg (fun t => hcond ⟨lc_okR_iff.mp t.1, t.2⟩)]
        exact t1
    · rw [show (k + 1 + 2 - a) / 3 = (k + 2 - a) / 3 by omega]
      exact lc_T1_ext (hh a ha') (fun j hj1 hj2 => t2 j (by omega))
theorem lc_r63 {i : Nat} {m n : Nat → Int} {M N : Int} (hi : i ≤ 2) (hs : lc_W s) (hc : lc_W c) (hI : lc_In s c p q a1 a2 a3 a4) (hM0 : 0 ≤ M) (hM : M ≤ 900) (hR : lc_R m n M N) (hN : ∀ b, b < 3 → lc_T1 a11 b (m b))
    (H : ∀ N' T', (∀ a, a < 3 → lc_T1 N' a (lc_mS s c p q m n i a)) → J (nI (i + 1)) 3 rdy a1 a2 a3 a4 a5 a6 a7 a8 a9 a10 N' T' a13 a14) :
    ∃ fu, wX_rankSums_63 post J (nI i) 3 rdy fu 0 a1 a2 a3 a4 a5 a6 a7 a8 a9 a10 a11 a12 a13 a14 := by
  refine pk_loop (fun n k T => wX_rankSums_63 post J (nI i) 3 rdy n (nI k) a1 a2 a3 a4 a5 a6 a7 a8 a9 a10 a11 T a13 a14)
    (fun k T => ∀ j, j < k → T j = -1000) 24 0 a12 (by omega) (fun j h => absurd h (by omega)) ?_ ?_
  · intro n T hh
    refine br_t (by decide) (lc_r86 hi hs hc hI hM0 hM hR hN (fun a ha => ⟨?_, fun j hj => ?_⟩) H)
    · rw [← lc_im]
      exact hh (8 * a) (by omega)
    · rw [hh (8 * a + j) (by omega)]
      decide
  · intro n k T hk hh hw
    have f2 : (nI k).toNatClampNeg = k := nI_clamp (by omega)
    have f3 : vp_in (nI k) 24 := vp_in_nI (by omega) (by decide)
    have f4 : nI k + 1 = nI (k + 1) := nI_1 k
    simp only [wX_rankSums_63, f2, f3, f4, true_and, forall_eq]
    exact br_f (nI_ge (b := 24) hk (by decide)) (hw _ (lc_fillTo hh rfl))
end
section
variable {post : St2 → Prop} {rdy : Int32} {a1 a2 a3 a4 a5 a6 a7 a8 a11 a12 a13 a14 : Nat → Int32} {a9 a10 : Nat → Int64} {s c : Nat → Int} {p q : Nat → Bool}
theorem lc_r53 (hs : lc_W s) (hc : lc_W c) (hI : lc_In s c p q a1 a2 a3 a4) (hN : ∀ b, b < 3 → lc_T1 a11 b (lc_m0 s p b))
    (H : ∀ N T A, A 0 = lc_i (lc_gr s c p q) → post (3, rdy, a1, a2, a3, a4, a5, a6, a7, a8, a9, a10, N, T, A, a14)) :
    ∃ fu, wX_rankSums_53 post fu 1 3 rdy a1 a2 a3 a4 a5 a6 a7 a8 a9 a10 a11 a12 a13 a14 := by
  refine ⟨3, br_f (by decide) (lc_r63 (i := 1) (by omega) hs hc hI (by decide) (by decide) (lc_R0 hs) hN (fun N1 T1 h1 => ?_))⟩
  refine br_f (by decide) (lc_r63 (i := 2) (by omega) hs hc hI (by decide) (by decide) (lc_R1 hs hc) h1 (fun N2 T2 h2 => ?_))
  refine br_t (by decide) (lc_r143 (m := lc_m2 s c p q) (fun b hb => ⟨h2 b hb, ?_⟩) (fun T A hA => H N2 T A hA))
  have := lc_R2 (p := p) (q := q) hs hc b hb
  omega
theorem lc_rankSums (hs : lc_W s) (hc : lc_W c) (hI : lc_In s c p q a1 a2 a3 a4) (h5 : ∀ b, b < 3 → a5 b = lc_i (lc_m0 s p b))
    (H : ∀ N T A, A 0 = lc_i (lc_gr s c p q) → post (3, rdy, a1, a2, a3, a4, a5, a6, a7, a8, a9, a10, N, T, A, a14)) :
    wpX_rankSums post (3, rdy, a1, a2, a3, a4, a5, a6, a7, a8, a9, a10, a11, a12, a13, a14) := by
  have r25 : ∀ N0 : Nat → Int32, (∀ j, j < 24 → N0 j = -1000) → ∃ fu, wX_rankSums_25 post 3 rdy fu 0 a1 a2 a3 a4 a5 a6 a7 a8 a9 a10 N0 a12 a13 a14 := by
    intro N0 hN0
    refine pk_loop (fun n k N => wX_rankSums_25 post 3 rdy n (nI k) a1 a2 a3 a4 a5 a6 a7 a8 a9 a10 N a12 a13 a14)
      (fun k N => ∀ b, b < 3 → (b < k → N (8 * b) = lc_i (lc_m0 s p b)) ∧ (k ≤ b → N (8 * b) = -1000) ∧ ∀ j, 0 < j → j < 8 → N (8 * b + j) = -1000) 3 0 N0 (by omega) (fun b hb => ⟨fun h => absurd h (by omega), fun _ => hN0 _ (by omega), fun j _ hj => hN0 _ (by omega)⟩) ?_ ?_
    · intro n N hh
      refine br_t (by decide) (lc_r53 hs hc hI (fun b hb => ⟨(hh b hb).1 hb, fun j hj => ?_⟩) H)
      have hR := lc_R0 (p := p) hs b hb
      by_cases e : j = 0
      · subst e
        rw [Nat.add_zero, (hh b hb).1 hb, lc_i_t ⟨by omega, by omega⟩]
        exact Int.le_refl _
      · rw [(hh b hb).2.2 j (by omega) hj, show (-1000 : Int32).toInt = -1000 from by decide]
        omega
    · intro n k N hk hh hw
      have f2 : (nI k).toNatClampNeg = k := nI_clamp (by omega)
      have f3 : vp_in (nI k) 18 := vp_in_nI (by omega) (by decide)
      have f4 : nI k + 1 = nI (k + 1) := nI_1 k
      have f5 : 8 * nI k = nI (8 * k) := lc_mul8 k
      have f6 : (nI (8 * k)).toNatClampNeg = 8 * k := nI_clamp (by omega)
      have f7 : vp_in (nI (8 * k)) 24 := vp_in_nI (by omega) (by decide)
      simp only [wX_rankSums_25, f2, f3, f4, f5, f6, f7, true_and, forall_eq, h5 k hk]
      refine br_f (nI_ge (b := 3) hk (by decide)) (hw _ (fun b hb => ?_))
      obtain ⟨g1, g2, g3⟩ := hh b hb
      refine ⟨fun h => ?_, fun h => ?_, fun j hj hj2 => ?_⟩
      · by_cases e : b = k
        · rw [e, pk_us]
        · rw [pk_un (by omega)]
          exact g1 (by omega)
      · rw [pk_un (by omega)]
        exact g2 (by omega)
      · rw [pk_un (by omega)]
        exact g3 j hj hj2
  refine pk_loop (fun n k N => wX_rankSums_2 post 3 rdy n (nI k) a1 a2 a3 a4 a5 a6 a7 a8 a9 a10 N a12 a13 a14)
    (fun k N => ∀ j, j < k → N j = -1000) 24 0 a11 (by omega) (fun j h => absurd h (by omega)) ?_ ?_
  · intro n N hh
    exact br_t (by decide) (r25 N hh)
  · intro n k T hk hh hw
    have f2 : (nI k).toNatClampNeg = k := nI_clamp (by omega)
    have f3 : vp_in (nI k) 24 := vp_in_nI (by omega) (by decide)
    have f4 : nI k + 1 = nI (k + 1) := nI_1 k
    simp only [wX_rankSums_2, f2, f3, f4, true_and, forall_eq]
    exact br_f (nI_ge (b := 24) hk (by decide)) (hw _ (lc_fillTo hh rfl))
end
end
section
/-! ===== part 7: walks of reaches and choose ===== -/
section
variable {ψ : Int32 → Prop} {rdy : Int32} {a1 a2 a3 a4 a5 a6 a7 a8 a11 a12 a13 a14 : Nat → Int32} {a9 a10 : Nat → Int64} {s c : Nat → Int} {p q : Nat → Bool}
theorem lc_reach0 {a : Nat} {u : Nat → Int} {rest : Int} (ha : a < 3) (hu : ∀ a, a < 3 → a6 a = lc_i (u a) ∧ lc_bd (u a)) (hr : lc_bd rest)
    (H : ψ (lc_bI (lc_rc0 u rest a))) :
    wpX_reaches ψ (3, rdy, a1, a2, a3, a4, a5, a6, a7, a8, a9, a10, a11, a12, a13, a14) 0 (nI a) (lc_i rest) := by
  have e3 : 3 * (0 : Int32) + nI a = nI a := by
    rw [show 3 * (0 : Int32) = nI 0 from by decide, nI_add, Nat.zero_add]
  have c1 : (nI a).toNatClampNeg = a := nI_clamp (by omega)
  have v1 : vp_in (nI a) 18 := vp_in_nI (by omega) (by decide)
  obtain ⟨h6, hb⟩ := hu a ha
  unfold wpX_reaches
  simp only [e3, c1, v1, true_and, forall_eq, h6]
  unfold lc_rc0 at H
  by_cases h0 : 0 ≤ u a
  · refine br_t (by rw [lc_i0]; exact (lc_i_le lc_b0 hb).mpr h0) (br_t (by trivial) ?_)
    by_cases h1 : u a = rest
    · rw [decide_eq_true h0, decide_eq_true h1] at H
      exact br_t (by rw [h1]) H
    · rw [decide_eq_true h0, decide_eq_false h1] at H
      exact br_f (fun t => h1 ((lc_i_eq hb hr).mp t)) H
  · rw [decide_eq_false h0] at H
    exact br_f (by rw [lc_i0]; exact fun t => h0 ((lc_i_le lc_b0 hb).mp t)) H
theorem lc_reach {i a t : Nat} {u : Nat → Int} {rest : Int} (hi : 1 ≤ i) (hi2 : i ≤ 2) (ha : a < 3) (ht : t < 3) (hc : lc_W c) (hI : lc_In s c p q a1 a2 a3 a4) (hu : ∀ a, a < 3 → a6 (3 * i + a) = lc_i (u a) ∧ -1000 ≤ u a ∧ u a ≤ 1000) (h14 : a14 (i - 1) = nI t) (hr : lc_bd rest)
    (H : ψ (lc_bI (lc_rc c q u t rest a))) :
    wpX_reaches ψ (3, rdy, a1, a2, a3, a4, a5, a6, a7, a8, a9, a10, a11, a12, a13, a14) (nI i) (nI a) (lc_i rest) := by
  have e3 : 3 * nI i + nI a = nI (3 * i + a) := lc_ix i a
  have c1 : (nI (3 * i + a)).toNatClampNeg = 3 * i + a := nI_clamp (by omega)
  have v1 : vp_in (nI (3 * i + a)) 18 := vp_in_nI (by omega) (by decide)
  have e4 : nI i - 1 = nI (i - 1) := by
    rw [show (1 : Int32) = nI 1 from by decide, pk_sub hi]
  have c4 : (nI (i - 1)).toNatClampNeg = i - 1 := nI_clamp (by omega)
  have v4 : vp_in (nI (i - 1)) 6 := vp_in_nI (by omega) (by decide)
  have e5 : 3 * nI t + nI a = nI (3 * t + a) := lc_ix t a
  have c5 : (nI (3 * t + a)).toNatClampNeg = 3 * t + a := nI_clamp (by omega)
  have v5 : vp_in (nI (3 * t + a)) 9 := vp_in_nI (by omega) (by decide)
  obtain ⟨h6, hb1, hb2⟩ := hu a ha
  have hb : lc_bd (u a) := ⟨by omega, by omega⟩
  obtain ⟨-, -, i3, i4⟩ := hI (3 * t + a) (by omega)
  have hcc := hc (3 * t + a)
  have hb' : lc_bd (u a + c (3 * t + a)) := ⟨by omega, by omega⟩
  have hi0 : ¬ nI i = 0 := nI_ne0 (by omega) (by omega)
  unfold wpX_reaches
  simp only [e3, c1, v1, e4, c4, v4, h14, e5, c5, v5, true_and, forall_eq, h6, i3, i4, lc_i_add]
  unfold lc_rc at H
  by_cases h0 : 0 ≤ u a
  · refine br_t (by rw [lc_i0]; exact (lc_i_le lc_b0 hb).mpr h0) (br_f hi0 ?_)
    rw [decide_eq_true h0] at H
    cases hq : q (3 * t + a) with
    | true =>
      rw [hq] at H
      exact br_f (by decide) H
    | false =>
      rw [hq] at H
      refine br_t (by decide) ?_
      by_cases h1 : u a + c (3 * t + a) = rest
      · rw [decide_eq_true h1] at H
        exact br_t (by rw [h1]) H
      · rw [decide_eq_false h1] at H
        exact br_f (fun t => h1 ((lc_i_eq hb' hr).mp t)) H
  · rw [decide_eq_false h0] at H
    exact br_f (by rw [lc_i0]; exact fun t => h0 ((lc_i_le lc_b0 hb).mp t)) H
end
section
variable {post : St2 → Prop} {J : Int32 → Int32 → (Nat → Int32) → (Nat → Int32) → (Nat → Int32) → (Nat → Int32) → (Nat → Int32) → (Nat → Int32) → (Nat → Int32) → (Nat → Int32) → (Nat → Int64) → (Nat → Int64) → (Nat → Int32) → (Nat → Int32) → (Nat → Int32) → (Nat → Int32) → Prop} {rdy x1 x2 : Int32} {a1 a2 a3 a4 a5 a6 a7 a8 a11 a12 a13 a14 : Nat → Int32} {a9 a10 : Nat → Int64} {s c : Nat → Int} {p q : Nat → Bool}
theorem lc_c17 {f : Nat → Bool} (hr : ∀ a, a < 3 → ∀ ψ : Int32 → Prop, ψ (lc_bI (f a)) → wpX_reaches ψ (3, rdy, a1, a2, a3, a4, a5, a6, a7, a8, a9, a10, a11, a12, a13, a14) x2 (nI a) x1)
    (H : wX_choose_38 post J x1 x2 (nI (lc_pick f)) 3 rdy a1 a2 a3 a4 a5 a6 a7 a8 a9 a10 a11 a12 a13 a14) :
    ∃ fu, wX_choose_17 post J x1 x2 3 rdy a1 a2 a3 a4 a5 a6 a7 a8 a9 a10 a11 a12 a13 a14 fu 0 := by
  unfold lc_pick at H
  refine ⟨3, br_f (by decide) (hr 0 (by decide) _ ?_)⟩
  cases h0 : f 0 with
  | true =>
    rw [h0, if_pos rfl] at H
    exact br_f (by decide) H
  | false =>
    rw [h0, if_neg (by decide)] at H
    refine br_t (by decide) (nm_e (br_f (by decide) (hr 1 (by decide) _ ?_)))
    cases h1 : f 1 with
    | true =>
      rw [h1, if_pos rfl] at H
      exact br_f (by decide) H
    | false =>
      rw [h1, if_neg (by decide)] at H
      exact br_t (by decide) (nm_e (br_t (by decide) H))
theorem lc_byte3 : ∀ t, t < 3 → (nI t).toInt8.toInt32 = nI t := by decide
theorem lc_c38_0 {t : Nat} {rest : Int} (ht : t < 3) (hI : lc_In s c p q a1 a2 a3 a4)
    (H : J (lc_i (rest - s t)) 1 a1 a2 a3 a4 a5 a6 a7 a8 a9 a10 a11 a12 a13 (upd a14 0 (nI t))) :
    wX_choose_38 post J (lc_i rest) 0 (nI t) 3 rdy a1 a2 a3 a4 a5 a6 a7 a8 a9 a10 a11 a12 a13 a14 := by
  have e3 : 3 * (0 : Int32) + nI t = nI t := by
    rw [show 3 * (0 : Int32) = nI 0 from by decide, nI_add, Nat.zero_add]
  have c1 : (nI t).toNatClampNeg = t := nI_clamp (by omega)
  have v1 : vp_in (nI t) 18 := vp_in_nI (by omega) (by decide)
  have c0 : (0 : Int32).toNatClampNeg = 0 := by decide
  have v0 : vp_in (0 : Int32) 6 := vp_in_iff.mpr (by decide)
  obtain ⟨i1, -, -, -⟩ := hI t (by omega)
  unfold wX_choose_38 wX_choose_70
  simp only [e3, c1, v1, c0, v0, true_and, forall_eq, i1, lc_i_sub, lc_byte3 t ht]
  exact br_t (by decide) H
theorem lc_c38 {i t t' : Nat} {rest : Int} (hi : 1 ≤ i) (hi2 : i ≤ 2) (ht : t < 3) (ht' : t' < 3) (hI : lc_In s c p q a1 a2 a3 a4) (h14 : a14 (i - 1) = nI t')
    (H : J (lc_i (rest - c (3 * t' + t) - s (3 * i + t))) (nI (i + 1)) a1 a2 a3 a4 a5 a6 a7 a8 a9 a10 a11 a12 a13 (upd a14 i (nI t))) :
    wX_choose_38 post J (lc_i rest) (nI i) (nI t) 3 rdy a1 a2 a3 a4 a5 a6 a7 a8 a9 a10 a11 a12 a13 a14 := by
  have e3 : 3 * nI i + nI t = nI (3 * i + t) := lc_ix i t
  have c1 : (nI (3 * i + t)).toNatClampNeg = 3 * i + t := nI_clamp (by omega)
  have v1 : vp_in (nI (3 * i + t)) 18 := vp_in_nI (by omega) (by decide)
  have c0 : (nI i).toNatClampNeg = i := nI_clamp (by omega)
  have v0 : vp_in (nI i) 6 := vp_in_nI (by omega) (by decide)
  have e4 : nI i - 1 = nI (i - 1) := by
    rw [show (1 : Int32) = nI 1 from by decide, pk_sub hi]
  have c4 : (nI (i - 1)).toNatClampNeg = i - 1 := nI_clamp (by omega)
  have v4 : vp_in (nI (i - 1)) 6 := vp_in_nI (by omega) (by decide)
  have e5 : 3 * nI t' + nI t = nI (3 * t' + t) := lc_ix t' t
  have c5 : (nI (3 * t' + t)).toNatClampNeg = 3 * t' + t := nI_clamp (by omega)
  have v5 : vp_in (nI (3 * t' + t)) 9 := vp_in_nI (by omega) (by decide)
  have f4 : nI i + 1 = nI (i + 1) := nI_1 i
  have hne : i - 1 ≠ i := by omega
  obtain ⟨i1, -, -, -⟩ := hI (3 * i + t) (by omega)
  obtain ⟨-, -, i3, -⟩ := hI (3 * t' + t) (by omega)
  unfold wX_choose_38 wX_choose_70
  simp only [e3, c1, v1, c0, v0, e4, c4, v4, lc_byte3 t ht, pk_un hne, h14, e5, c5, v5, f4, true_and, forall_eq, i1, i3, lc_i_sub]
  exact br_f (nI_nle (by omega) (by omega)) H
theorem lc_choose (hs : lc_W s) (hc : lc_W c) (hI : lc_In s c p q a1 a2 a3 a4) (h5 : ∀ b, b < 3 → a5 (6 + b) = lc_i (lc_m2 s c p q b))
    (h60 : ∀ a, a < 3 → a6 a = lc_i (lc_u0 s c p q a)) (h61 : ∀ a, a < 3 → a6 (3 + a) = lc_i (lc_u1 s c p q a)) (h62 : ∀ a, a < 3 → a6 (6 + a) = lc_i (lc_u2 s p a))
    (H : ∀ A, A 0 = nI (lc_t0 s c p q) → A 1 = nI (lc_t1 s c p q) → A 2 = nI (lc_t2 s c p q) → post (3, rdy, a1, a2, a3, a4, a5, a6, a7, a8, a9, a10, a11, a12, a13, A)) :
    wpX_choose post (3, rdy, a1, a2, a3, a4, a5, a6, a7, a8, a9, a10, a11, a12, a13, a14) := by
  have hg := lc_gr_bd (p := p) (q := q) hs hc
  have l0 : lc_t0 s c p q < 3 := lc_pick_lt _
  have l1 : lc_t1 s c p q < 3 := lc_pick_lt _
  have l2 : lc_t2 s c p q < 3 := lc_pick_lt _
  have s0 := hs (lc_t0 s c p q)
  have s1 := hs (3 + lc_t1 s c p q)
  have k1 := hc (3 * lc_t0 s c p q + lc_t1 s c p q)
  have hb0 : lc_bd (lc_gr s c p q) := ⟨by omega, by omega⟩
  have he1 : lc_e1 s c p q = lc_gr s c p q - s (lc_t0 s c p q) := rfl
  have hb1 : lc_bd (lc_e1 s c p q) := ⟨by omega, by omega⟩
  have he2 : lc_e2 s c p q = lc_e1 s c p q - c (3 * lc_t0 s c p q + lc_t1 s c p q) - s (3 + lc_t1 s c p q) := rfl
  have hb2 : lc_bd (lc_e2 s c p q) := ⟨by omega, by omega⟩
  refine lc_greatest (m := lc_m2 s c p q) (fun b hb => ⟨h5 b hb, by have := lc_R2 (p := p) (q := q) hs hc b hb; omega⟩) ⟨4, br_f (by decide) ?_⟩
  refine lc_c17 (f := lc_rc0 (lc_u0 s c p q) (lc_gr s c p q)) (fun a ha ψ hψ => lc_reach0 ha (fun a ha => ⟨h60 a ha, ?_⟩) hb0 hψ) ?_
  · have := lc_U0 (p := p) (q := q) hs hc a ha
    exact ⟨by omega, by omega⟩
  refine lc_c38_0 (s := s) (c := c) (p := p) (q := q) l0 hI ?_
  refine br_f (by decide) ?_
  refine lc_c17 (f := lc_rc c q (lc_u1 s c p q) (lc_t0 s c p q) (lc_e1 s c p q)) (fun a ha ψ hψ => lc_reach (i := 1) (s := s) (p := p) (by omega) (by omega) ha l0 hc hI (fun a ha => ⟨h61 a ha, ?_⟩) (pk_us) hb1 hψ) ?_
  · have := lc_U1 (p := p) (q := q) hs hc a ha
    omega
  refine lc_c38 (i := 1) (s := s) (c := c) (p := p) (q := q) (by omega) (by omega) l1 l0 hI (pk_us) ?_
  refine br_f (by decide) ?_
  refine lc_c17 (f := lc_rc c q (lc_u2 s p) (lc_t1 s c p q) (lc_e2 s c p q)) (fun a ha ψ hψ => lc_reach (i := 2) (s := s) (p := p) (by omega) (by omega) ha l1 hc hI (fun a ha => ⟨h62 a ha, ?_⟩) (pk_us) hb2 hψ) ?_
  · have := lc_U2 (p := p) hs a ha
    omega
  refine lc_c38 (i := 2) (s := s) (c := c) (p := p) (q := q) (by omega) (by omega) l2 l1 hI (pk_us) ?_
  refine br_t (by decide) (H _ ?_ ?_ ?_)
  · rw [pk_un (by decide), pk_un (by decide), pk_us]; rfl
  · rw [pk_un (by decide), pk_us]; rfl
  · rw [pk_us]; rfl
end
end
section
/-! ===== part 8: the walk of fill ===== -/
def lc_FR (s c : Nat → Int) (p q : Nat → Bool) (n : Nat) (a5 a7 a8 : Nat → Int32) (a9 : Nat → Int64) : Prop := ∀ j, j < n → a5 j = lc_i (lc_FS s c p q j) ∧ a7 j = lc_i (lc_FA p q j) ∧ a8 j = lc_i (lc_FB s c p q j) ∧ a9 j = lc_l (lc_FP s c p q j)
def lc_BK (s c : Nat → Int) (p q : Nat → Bool) (i k : Nat) (a6 : Nat → Int32) (a10 : Nat → Int64) : Prop := ∀ j, (3 * i + 3 ≤ j ∧ j < 9) ∨ (3 * i ≤ j ∧ j < 3 * i + k) → a6 j = lc_i (lc_BS s c p q j) ∧ a10 j = lc_l (lc_BP s c p q j)
/-- the tables stand -/
def lc_Full (s c : Nat → Int) (p q : Nat → Bool) (a1 a2 a3 a4 a5 a6 a7 a8 : Nat → Int32) (a9 a10 : Nat → Int64) (a13 a14 : Nat → Int32) : Prop :=
  lc_In s c p q a1 a2 a3 a4 ∧ lc_FR s c p q 9 a5 a7 a8 a9 ∧ (∀ j, j < 9 → a6 j = lc_i (lc_BS s c p q j) ∧ a10 j = lc_l (lc_BP s c p q j)) ∧ a13 0 = lc_i (lc_gr s c p q) ∧ (0 ≤ lc_gr s c p q → a14 0 = nI (lc_t0 s c p q) ∧ a14 1 = nI (lc_t1 s c p q) ∧ a14 2 = nI (lc_t2 s c p q))
theorem lc_FR_put {s c : Nat → Int} {p q : Nat → Bool} {n : Nat} {a5 a7 a8 : Nat → Int32} {a9 : Nat → Int64} {x y z : Int32} {w : Int64} (h : lc_FR s c p q n a5 a7 a8 a9) (h1 : x = lc_i (lc_FS s c p q n)) (h2 : y = lc_i (lc_FA p q n)) (h3 : z = lc_i (lc_FB s c p q n)) (h4 : w = lc_l (lc_FP s c p q n)) : lc_FR s c p q (n + 1) (upd a5 n x) (upd a7 n y) (upd a8 n z) (vp_updL a9 n w) := by
  intro j hj
  by_cases e : j = n
  · subst e
    rw [pk_us, pk_us, pk_us, pk_uLs]
    exact ⟨h1, h2, h3, h4⟩
  · rw [pk_un e, pk_un e, pk_un e, pk_uLn e]
    exact h j (by omega)
theorem lc_BK_put {s c : Nat → Int} {p q : Nat → Bool} {i k : Nat} {a6 : Nat → Int32} {a10 : Nat → Int64} {x : Int32} {w : Int64} (hk : k < 3) (h : lc_BK s c p q i k a6 a10) (h1 : x = lc_i (lc_BS s c p q (3 * i + k))) (h2 : w = lc_l (lc_BP s c p q (3 * i + k))) : lc_BK s c p q i (k + 1) (upd a6 (3 * i + k) x) (vp_updL a10 (3 * i + k) w) := by
  intro j hj
  by_cases e : j = 3 * i + k
  · subst e
    rw [pk_us, pk_uLs]
    exact ⟨h1, h2⟩
  · rw [pk_un e, pk_uLn e]
    exact h j (by omega)
section
variable {post : St2 → Prop} {J : Int32 → Int32 → Int32 → (Nat → Int32) → (Nat → Int32) → (Nat → Int32) → (Nat → Int32) → (Nat → Int32) → (Nat → Int32) → (Nat → Int32) → (Nat → Int32) → (Nat → Int64) → (Nat → Int64) → (Nat → Int32) → (Nat → Int32) → (Nat → Int32) → (Nat → Int32) → Prop} {rdy : Int32} {a1 a2 a3 a4 a5 a6 a7 a8 a11 a12 a13 a14 : Nat → Int32} {a9 a10 : Nat → Int64} {s c : Nat → Int} {p q : Nat → Bool}
theorem lc_f43 {i : Nat} {m k0 k r : Nat → Int} {M N : Int} (hi : 1 ≤ i) (hi2 : i ≤ 2) (hs : lc_W s) (hc : lc_W c) (hI : lc_In s c p q a1 a2 a3 a4) (hM0 : 0 ≤ M) (hM : M ≤ 1000) (hN : N ≤ 1000) (hR : lc_R m k0 M N)
    (hP : ∀ b, b < 3 → lc_FS s c p q (3 * i - 3 + b) = m b ∧ lc_FA p q (3 * i - 3 + b) = k0 b ∧ lc_FB s c p q (3 * i - 3 + b) = k b ∧ lc_FP s c p q (3 * i - 3 + b) = r b)
    (hQ : ∀ b, b < 3 → lc_FS s c p q (3 * i + b) = lc_mS s c p q m k0 i b ∧ lc_FA p q (3 * i + b) = lc_nS p q k0 i b ∧ lc_FB s c p q (3 * i + b) = lc_kS s c p q m k0 k i b ∧ lc_FP s c p q (3 * i + b) = lc_rS s c p q k0 r i b)
    (h0 : lc_FR s c p q (3 * i) a5 a7 a8 a9)
    (H : ∀ b5 b7 b8 b9, lc_FR s c p q (3 * i + 3) b5 b7 b8 b9 → J (nI (i + 1)) 3 rdy a1 a2 a3 a4 b5 a6 b7 b8 b9 a10 a11 a12 a13 a14) :
    ∃ fu, wX_fill_43 post J (nI i) fu 0 3 rdy a1 a2 a3 a4 a5 a6 a7 a8 a9 a10 a11 a12 a13 a14 := by
  refine pk_loop (σ := (Nat → Int32) × (Nat → Int32) × (Nat → Int32) × (Nat → Int64)) (fun n t S => wX_fill_43 post J (nI i) n (nI t) 3 rdy a1 a2 a3 a4 S.1 a6 S.2.1 S.2.2.1 S.2.2.2 a10 a11 a12 a13 a14)
    (fun t S => lc_FR s c p q (3 * i + t) S.1 S.2.1 S.2.2.1 S.2.2.2) 3 0 (a5, a7, a8, a9) (by omega) h0 ?_ ?_
  · intro n S hh
    exact br_t (by decide) (nm_r (nI_1 i) (H _ _ _ _ hh))
  · intro n t S hk hh hw
    refine br_f (nI_ge (b := 3) hk (by decide)) ?_
    refine lc_fillFront (s := s) (c := c) (p := p) (q := q) (m := m) (k0 := k0) (k := k) (r := r) hi hi2 hk hs hc hI hM0 hM hN hR (fun b hb => ?_) (nm_r (nI_1 t) (hw (_, _, _, _) (lc_FR_put hh ?_ ?_ ?_ ?_)))
    · obtain ⟨p1, p2, p3, p4⟩ := hP b hb
      rw [← p1, ← p2, ← p3, ← p4]
      exact hh _ (by omega)
    · exact congrArg lc_i (hQ t hk).1.symm
    · exact congrArg lc_i (hQ t hk).2.1.symm
    · exact congrArg lc_i (hQ t hk).2.2.1.symm
    · exact congrArg lc_l (hQ t hk).2.2.2.symm
theorem lc_f79_2 (hI : lc_In s c p q a1 a2 a3 a4)
    (H : ∀ b6 b10, lc_BK s c p q 2 3 b6 b10 → J (nI 1) 3 rdy a1 a2 a3 a4 a5 b6 a7 a8 a9 b10 a11 a12 a13 a14) :
    ∃ fu, wX_fill_79 post J (nI 2) fu 0 3 rdy a1 a2 a3 a4 a5 a6 a7 a8 a9 a10 a11 a12 a13 a14 := by
  refine pk_loop (σ := (Nat → Int32) × (Nat → Int64)) (fun n t S => wX_fill_79 post J (nI 2) n (nI t) 3 rdy a1 a2 a3 a4 a5 S.1 a7 a8 a9 S.2 a11 a12 a13 a14)
    (fun t S => lc_BK s c p q 2 t S.1 S.2) 3 0 (a6, a10) (by omega) (fun j hj => absurd hj (by omega)) ?_ ?_
  · intro n S hh
    exact br_t (by decide) (nm_r (pk_m1 1) (H _ _ hh))
  · intro n t S hk hh hw
    refine br_f (nI_ge (b := 3) hk (by decide)) ?_
    refine lc_fillBack2 (s := s) (c := c) (p := p) (q := q) hk hI (nm_r (nI_1 t) (hw (_, _) (lc_BK_put hk hh ?_ ?_)))
    · unfold lc_BS
      rw [lc_tb2]
    · unfold lc_BP
      rw [lc_tb2]
theorem lc_f79 {i : Nat} {u z : Nat → Int} {M : Int} (hi : i ≤ 1) (hs : lc_W s) (hc : lc_W c) (hI : lc_In s c p q a1 a2 a3 a4) (hM0 : 0 ≤ M) (hM : M ≤ 1000) (hU : lc_U u M)
    (hP : ∀ b, b < 3 → lc_BS s c p q (3 * i + 3 + b) = u b ∧ lc_BP s c p q (3 * i + 3 + b) = z b)
    (hQ : ∀ b, b < 3 → lc_BS s c p q (3 * i + b) = lc_uS s c p q u i b ∧ lc_BP s c p q (3 * i + b) = lc_zS s c q u z i b)
    (h0 : lc_BK s c p q (i + 1) 3 a6 a10)
    (H : ∀ b6 b10, lc_BK s c p q i 3 b6 b10 → J (nI i + (-1)) 3 rdy a1 a2 a3 a4 a5 b6 a7 a8 a9 b10 a11 a12 a13 a14) :
    ∃ fu, wX_fill_79 post J (nI i) fu 0 3 rdy a1 a2 a3 a4 a5 a6 a7 a8 a9 a10 a11 a12 a13 a14 := by
  refine pk_loop (σ := (Nat → Int32) × (Nat → Int64)) (fun n t S => wX_fill_79 post J (nI i) n (nI t) 3 rdy a1 a2 a3 a4 a5 S.1 a7 a8 a9 S.2 a11 a12 a13 a14)
    (fun t S => lc_BK s c p q i t S.1 S.2) 3 0 (a6, a10) (by omega) (fun j hj => h0 j (by omega)) ?_ ?_
  · intro n S hh
    exact br_t (by decide) (nm_e (H _ _ hh))
  · intro n t S hk hh hw
    refine br_f (nI_ge (b := 3) hk (by decide)) ?_
    refine lc_fillBack (s := s) (c := c) (p := p) (q := q) (u := u) (z := z) hi hk hs hc hI hM0 hM hU (fun b hb => ?_) (nm_r (nI_1 t) (hw (_, _) (lc_BK_put hk hh ?_ ?_)))
    · obtain ⟨p1, p2⟩ := hP b hb
      rw [← p1, ← p2]
      exact hh _ (by omega)
    · rw [(hQ t hk).1]
    · rw [(hQ t hk).2]
end
section
variable {post : St2 → Prop} {rdy : Int32} {a1 a2 a3 a4 a5 a6 a7 a8 a11 a12 a13 a14 : Nat → Int32} {a9 a10 : Nat → Int64} {s c : Nat → Int} {p q : Nat → Bool}
theorem lc_f73 (hs : lc_W s) (hc : lc_W c) (hI : lc_In s c p q a1 a2 a3 a4) (hF : lc_FR s c p q 9 a5 a7 a8 a9)
    (H : ∀ b6 b10 b11 b12 b13 b14, lc_Full s c p q a1 a2 a3 a4 a5 b6 a7 a8 a9 b10 b13 b14 → post (3, rdy, a1, a2, a3, a4, a5, b6, a7, a8, a9, b10, b11, b12, b13, b14)) :
    ∃ fu, wX_fill_73 post fu (nI 2) 3 rdy a1 a2 a3 a4 a5 a6 a7 a8 a9 a10 a11 a12 a13 a14 := by
  have h5 : ∀ b, b < 3 → a5 b = lc_i (lc_m0 s p b) := by
    intro b hb
    have := (hF b (by omega)).1
    unfold lc_FS at this
    rwa [lc_tb0 hb] at this
  have h52 : ∀ b, b < 3 → a5 (6 + b) = lc_i (lc_m2 s c p q b) := by
    intro b hb
    have := (hF (6 + b) (by omega)).1
    unfold lc_FS at this
    rwa [lc_tb2] at this
  have hgm : ∀ b, b < 3 → a5 (6 + b) = lc_i (lc_m2 s c p q b) ∧ -1000 ≤ lc_m2 s c p q b ∧ lc_m2 s c p q b ≤ 1000 := by
    intro b hb
    have := lc_R2 (p := p) (q := q) hs hc b hb
    exact ⟨h52 b hb, by omega, by omega⟩
  have hg := lc_gr_bd (p := p) (q := q) hs hc
  have hb0 : lc_bd (lc_gr s c p q) := ⟨by omega, by omega⟩
  refine ⟨4, br_f (by decide) (lc_f79_2 (s := s) (c := c) (p := p) (q := q) hI (fun c6 c10 h2 => ?_))⟩
  refine br_f (by decide) (lc_f79 (i := 1) (u := lc_u2 s p) (z := lc_z2) (by omega) hs hc hI (by decide) (by decide) (lc_U2 hs) (fun b hb => ⟨lc_tb2, lc_tb2⟩) (fun b hb => ⟨lc_tb1 hb, lc_tb1 hb⟩) h2 (fun d6 d10 h1 => ?_))
  rw [pk_m1 0]
  refine br_f (by decide) (lc_f79 (i := 0) (u := lc_u1 s c p q) (z := lc_z1 s c p q) (by omega) hs hc hI (by decide) (by decide) (lc_U1 hs hc) (fun b hb => ⟨lc_tb1 hb, lc_tb1 hb⟩) (fun b hb => ?_) h1 (fun e6 e10 h0 => ?_))
  · rw [Nat.mul_zero, Nat.zero_add]
    exact ⟨lc_tb0 hb, lc_tb0 hb⟩
  have hB : ∀ j, j < 9 → e6 j = lc_i (lc_BS s c p q j) ∧ e10 j = lc_l (lc_BP s c p q j) := fun j hj => h0 j (by omega)
  refine br_t (by decide) (lc_rankSums hs hc hI h5 (fun N T A hA => ?_))
  refine lc_greatest hgm ?_
  refine br_c (fun hneg => ?_) (fun hpos => ?_)
  · have hneg' : ¬ 0 ≤ lc_gr s c p q := by
      have h := hneg
      rw [lc_i0] at h
      have := (lc_i_lt hb0 lc_b0).mp h
      omega
    exact H _ _ _ _ _ _ ⟨hI, hF, hB, hA, fun t => absurd t hneg'⟩
  · refine lc_choose hs hc hI h52 (fun a ha => ?_) (fun a ha => ?_) (fun a ha => ?_) (fun A' t0 t1 t2 => H _ _ _ _ _ _ ⟨hI, hF, hB, hA, fun _ => ⟨t0, t1, t2⟩⟩)
    · have := (hB a (by omega)).1
      unfold lc_BS at this
      rwa [lc_tb0 ha] at this
    · have := (hB (3 + a) (by omega)).1
      unfold lc_BS at this
      rwa [lc_tb1 ha] at this
    · have := (hB (6 + a) (by omega)).1
      unfold lc_BS at this
      rwa [lc_tb2] at this
theorem lc_fill (hs : lc_W s) (hc : lc_W c) (hI : lc_In s c p q a1 a2 a3 a4)
    (H : ∀ b5 b6 b7 b8 b9 b10 b11 b12 b13 b14, lc_Full s c p q a1 a2 a3 a4 b5 b6 b7 b8 b9 b10 b13 b14 → post (3, 1, a1, a2, a3, a4, b5, b6, b7, b8, b9, b10, b11, b12, b13, b14)) :
    wpX_fill post (3, 0, a1, a2, a3, a4, a5, a6, a7, a8, a9, a10, a11, a12, a13, a14) := by
  refine br_t rfl ?_
  refine pk_loop (σ := (Nat → Int32) × (Nat → Int32) × (Nat → Int32) × (Nat → Int64)) (fun n t S => wX_fill_15 post n (nI t) 3 1 a1 a2 a3 a4 S.1 a6 S.2.1 S.2.2.1 S.2.2.2 a10 a11 a12 a13 a14)
    (fun t S => lc_FR s c p q t S.1 S.2.1 S.2.2.1 S.2.2.2) 3 0 (a5, a7, a8, a9) (by omega) (fun j hj => absurd hj (by omega)) ?_ ?_
  · intro n S hh
    refine br_t (by decide) ⟨3, br_f (by decide) ?_⟩
    refine lc_f43 (i := 1) (m := lc_m0 s p) (k0 := lc_n0 p) (k := lc_n0 p) (r := lc_r0 s p) (by omega) (by omega) hs hc hI (by decide) (by decide) (by decide) (lc_R0 hs) (fun b hb => ?_) (fun b hb => ⟨lc_tb1 hb, lc_tb1 hb, lc_tb1 hb, lc_tb1 hb⟩) hh (fun c5 c7 c8 c9 h1 => ?_)
    · rw [show 3 * 1 - 3 + b = b by omega]
      exact ⟨lc_tb0 hb, lc_tb0 hb, lc_tb0 hb, lc_tb0 hb⟩
    refine br_f (by decide) ?_
    refine lc_f43 (i := 2) (m := lc_m1 s c p q) (k0 := lc_n1 p q) (k := lc_k1 s c p q) (r := lc_r1 s c p q) (by omega) (by omega) hs hc hI (by decide) (by decide) (by decide) (lc_R1 hs hc) (fun b hb => ⟨lc_tb1 hb, lc_tb1 hb, lc_tb1 hb, lc_tb1 hb⟩) (fun b hb => ⟨lc_tb2, lc_tb2, lc_tb2, lc_tb2⟩) h1 (fun d5 d7 d8 d9 h2 => ?_)
    refine br_t (by decide) (nm_r (show (3 : Int32) - 1 = nI 2 from by decide) ?_)
    exact lc_f73 hs hc hI h2 (fun b6 b10 b11 b12 b13 b14 hf => H _ _ _ _ _ _ _ _ _ _ hf)
  · intro n t S hk hh hw
    refine br_f (nI_ge (b := 3) hk (by decide)) ?_
    refine lc_start (s := s) (c := c) (p := p) (q := q) hk hs hI (nm_r (nI_1 t) (hw (_, _, _, _) (lc_FR_put hh ?_ ?_ ?_ ?_)))
    · unfold lc_FS
      rw [lc_tb0 hk]
    · unfold lc_FA
      rw [lc_tb0 hk]
    · unfold lc_FB
      rw [lc_tb0 hk]
    · unfold lc_FP
      rw [lc_tb0 hk]
end
end
section
/-! ===== part 9: the answers over full tables ===== -/
section
variable {s c : Nat → Int} {p q : Nat → Bool} {a1 a2 a3 a4 a5 a6 a7 a8 a11 a12 a13 a14 : Nat → Int32} {a9 a10 : Nat → Int64}
theorem lc_F_m2 (hF : lc_Full s c p q a1 a2 a3 a4 a5 a6 a7 a8 a9 a10 a13 a14) (hs : lc_W s) (hc : lc_W c) : ∀ b, b < 3 → a5 (6 + b) = lc_i (lc_m2 s c p q b) ∧ -1000 ≤ lc_m2 s c p q b ∧ lc_m2 s c p q b ≤ 1000 := by
  intro b hb
  have h := (hF.2.1 (6 + b) (by omega)).1
  unfold lc_FS at h
  rw [lc_tb2] at h
  have := lc_R2 (p := p) (q := q) hs hc b hb
  exact ⟨h, by omega, by omega⟩
theorem lc_F_n2 (hF : lc_Full s c p q a1 a2 a3 a4 a5 a6 a7 a8 a9 a10 a13 a14) : ∀ b, b < 3 → a7 (6 + b) = lc_i (lc_n2 p q b) ∧ a8 (6 + b) = lc_i (lc_k2 s c p q b) ∧ a9 (6 + b) = lc_l (lc_r2 s c p q b) := by
  intro b hb
  obtain ⟨-, h1, h2, h3⟩ := hF.2.1 (6 + b) (by omega)
  unfold lc_FA at h1
  unfold lc_FB at h2
  unfold lc_FP at h3
  rw [lc_tb2] at h1 h2 h3
  exact ⟨h1, h2, h3⟩
theorem lc_fill1 {post : St2 → Prop} (H : post (3, 1, a1, a2, a3, a4, a5, a6, a7, a8, a9, a10, a11, a12, a13, a14)) :
    wpX_fill post (3, 1, a1, a2, a3, a4, a5, a6, a7, a8, a9, a10, a11, a12, a13, a14) := br_f (by decide) H
theorem lc_allowed {post : Int32 → St2 → Prop} (hs : lc_W s) (hc : lc_W c) (hI : lc_In s c p q a1 a2 a3 a4)
    (H : ∀ b5 b6 b7 b8 b9 b10 b11 b12 b13 b14, lc_Full s c p q a1 a2 a3 a4 b5 b6 b7 b8 b9 b10 b13 b14 → post (lc_i (lc_sm (lc_n2 p q) 3)) (3, 1, a1, a2, a3, a4, b5, b6, b7, b8, b9, b10, b11, b12, b13, b14)) :
    wpX_allowed post (3, 0, a1, a2, a3, a4, a5, a6, a7, a8, a9, a10, a11, a12, a13, a14) := by
  unfold wpX_allowed
  refine lc_fill hs hc hI (fun b5 b6 b7 b8 b9 b10 b11 b12 b13 b14 hF => ?_)
  have h := H b5 b6 b7 b8 b9 b10 b11 b12 b13 b14 hF
  have n2 := lc_F_n2 hF
  refine nm_r (show (3 : Int32) * 3 - 3 = nI 6 from by decide) ⟨vp_in_nI (by decide) (by decide), vp_in_iff.mpr (by decide), vp_in_iff.mpr (by decide), ?_⟩
  rw [show (nI 6).toNatClampNeg = 6 + 0 from by decide, show (nI 6 + 1).toNatClampNeg = 6 + 1 from by decide, show (nI 6 + 2).toNatClampNeg = 6 + 2 from by decide, (n2 0 (by decide)).1, (n2 1 (by decide)).1, (n2 2 (by decide)).1, lc_i_add, lc_i_add]
  rw [lc_sm3] at h
  exact h
section
variable {post : Int32 → St2 → Prop} {postL : Int64 → St2 → Prop}
theorem lc_best (hs : lc_W s) (hc : lc_W c) (hF : lc_Full s c p q a1 a2 a3 a4 a5 a6 a7 a8 a9 a10 a13 a14)
    (H : post (lc_i (if 0 ≤ lc_gr s c p q then lc_gr s c p q else -2)) (3, 1, a1, a2, a3, a4, a5, a6, a7, a8, a9, a10, a11, a12, a13, a14)) :
    wpX_best post (3, 1, a1, a2, a3, a4, a5, a6, a7, a8, a9, a10, a11, a12, a13, a14) := by
  have hg := lc_gr_bd (p := p) (q := q) hs hc
  have hb0 : lc_bd (lc_gr s c p q) := ⟨by omega, by omega⟩
  unfold wpX_best
  refine lc_fill1 (lc_greatest (lc_F_m2 hF hs hc) ?_)
  by_cases h : 0 ≤ lc_gr s c p q
  · rw [if_pos h] at H
    exact br_t (by rw [lc_i0]; exact (lc_i_le lc_b0 hb0).mpr h) H
  · rw [if_neg h] at H
    exact br_f (by rw [lc_i0]; exact fun t => h ((lc_i_le lc_b0 hb0).mp t)) H
theorem lc_bcStep {b n : Nat} {g : Int} (hb : b < 3) (hs : lc_W s) (hc : lc_W c) (hg : lc_bd g) (hF : lc_Full s c p q a1 a2 a3 a4 a5 a6 a7 a8 a9 a10 a13 a14)
    (hW : wX_bestCount_19 post (lc_i g) 3 1 a1 a2 a3 a4 a5 a6 a7 a8 a9 a10 a11 a12 a13 a14 n (lc_i (lc_sm (fun a => if lc_m2 s c p q a = g then lc_k2 s c p q a else 0) (b + 1))) (nI (b + 1))) :
    wX_bestCount_19 post (lc_i g) 3 1 a1 a2 a3 a4 a5 a6 a7 a8 a9 a10 a11 a12 a13 a14 (n + 1) (lc_i (lc_sm (fun a => if lc_m2 s c p q a = g then lc_k2 s c p q a else 0) b)) (nI b) := by
  have e1 : ¬ (3 : Int32) ≤ nI b := nI_ge (b := 3) hb (by decide)
  have e2 : (3 : Int32) * 3 - 3 + nI b = nI (6 + b) := by
    rw [show (3 : Int32) * 3 - 3 = nI 6 from by decide, nI_add]
  have c2 : (nI (6 + b)).toNatClampNeg = 6 + b := nI_clamp (by omega)
  have v2 : vp_in (nI (6 + b)) 18 := vp_in_nI (by omega) (by decide)
  have e4 : nI b + 1 = nI (b + 1) := nI_1 b
  obtain ⟨h5, h6, h7⟩ := lc_F_m2 hF hs hc b hb
  obtain ⟨-, h8, -⟩ := lc_F_n2 hF b hb
  have hbm : lc_bd (lc_m2 s c p q b) := ⟨by omega, by omega⟩
  have hS : lc_sm (fun a => if lc_m2 s c p q a = g then lc_k2 s c p q a else 0) (b + 1) = lc_sm (fun a => if lc_m2 s c p q a = g then lc_k2 s c p q a else 0) b + (if lc_m2 s c p q b = g then lc_k2 s c p q b else 0) := rfl
  rw [hS] at hW
  simp only [wX_bestCount_19, e2, c2, v2, e4, true_and, forall_eq, h5, h8, lc_i_add]
  refine br_f e1 ?_
  by_cases he : lc_m2 s c p q b = g
  · rw [if_pos he] at hW
    exact br_t (by rw [he]) hW
  · rw [if_neg he, Int.add_zero] at hW
    exact br_f (fun t => he ((lc_i_eq hbm hg).mp t)) hW
theorem lc_bestCount (hs : lc_W s) (hc : lc_W c) (hF : lc_Full s c p q a1 a2 a3 a4 a5 a6 a7 a8 a9 a10 a13 a14)
    (H : post (lc_i (if 0 ≤ lc_gr s c p q then lc_sm (fun a => if lc_m2 s c p q a = lc_gr s c p q then lc_k2 s c p q a else 0) 3 else 0)) (3, 1, a1, a2, a3, a4, a5, a6, a7, a8, a9, a10, a11, a12, a13, a14)) :
    wpX_bestCount post (3, 1, a1, a2, a3, a4, a5, a6, a7, a8, a9, a10, a11, a12, a13, a14) := by
  have hg := lc_gr_bd (p := p) (q := q) hs hc
  have hb0 : lc_bd (lc_gr s c p q) := ⟨by omega, by omega⟩
  unfold wpX_bestCount
  refine lc_fill1 (lc_greatest (lc_F_m2 hF hs hc) ?_)
  by_cases h : 0 ≤ lc_gr s c p q
  · rw [if_pos h] at H
    refine br_t (by rw [lc_i0]; exact (lc_i_le lc_b0 hb0).mpr h) ?_
    have W3 : wX_bestCount_19 post (lc_i (lc_gr s c p q)) 3 1 a1 a2 a3 a4 a5 a6 a7 a8 a9 a10 a11 a12 a13 a14 1 (lc_i (lc_sm (fun a => if lc_m2 s c p q a = lc_gr s c p q then lc_k2 s c p q a else 0) 3)) (nI 3) := br_t (by decide) H
    have W2 := lc_bcStep (show 2 < 3 by decide) hs hc hb0 hF W3
    have W1 := lc_bcStep (show 1 < 3 by decide) hs hc hb0 hF W2
    have W0 := lc_bcStep (show 0 < 3 by decide) hs hc hb0 hF W1
    exact ⟨4, W0⟩
  · rw [if_neg h] at H
    exact br_f (by rw [lc_i0]; exact fun t => h ((lc_i_le lc_b0 hb0).mp t)) H
theorem lc_total (hF : lc_Full s c p q a1 a2 a3 a4 a5 a6 a7 a8 a9 a10 a13 a14)
    (H : postL (lc_l (lc_sm (lc_r2 s c p q) 3)) (3, 1, a1, a2, a3, a4, a5, a6, a7, a8, a9, a10, a11, a12, a13, a14)) :
    wpX_total postL (3, 1, a1, a2, a3, a4, a5, a6, a7, a8, a9, a10, a11, a12, a13, a14) := by
  unfold wpX_total
  refine lc_fill1 ?_
  have n2 := lc_F_n2 hF
  refine nm_r (show (3 : Int32) * 3 - 3 = nI 6 from by decide) ⟨vp_in_nI (by decide) (by decide), vp_in_iff.mpr (by decide), vp_in_iff.mpr (by decide), ?_⟩
  rw [show (nI 6).toNatClampNeg = 6 + 0 from by decide, show (nI 6 + 1).toNatClampNeg = 6 + 1 from by decide, show (nI 6 + 2).toNatClampNeg = 6 + 2 from by decide, (n2 0 (by decide)).2.2, (n2 1 (by decide)).2.2, (n2 2 (by decide)).2.2, lc_l_add, lc_l_add]
  rw [lc_sm3] at H
  exact H
theorem lc_isLabel {ψ : Int32 → Prop} {u : St2} {a : Nat} (ha : a < 3) (H : ψ 1) : wpX_isLabel ψ u (nI a) := by
  obtain ⟨f0, f1, b1, b2, b3, b4, b5, b6, b7, b8, b9, b10, b11, b12, b13, b14⟩ := u
  exact br_f (nI_pos (by omega)) (br_f (nI_nlt (a := 2) (by omega) (by decide)) H)
theorem lc_isPlace {ψ : Int32 → Prop} {rdy : Int32} {i a : Nat} (hi : i < 3) (ha : a < 3) (H : ψ 1) : wpX_isPlace ψ (3, rdy, a1, a2, a3, a4, a5, a6, a7, a8, a9, a10, a11, a12, a13, a14) (nI i) (nI a) := by
  refine br_f (nI_pos (by omega)) (br_f (nI_ge (b := 3) hi (by decide)) (lc_isLabel ha ?_))
  exact br_f (by decide) H
theorem lc_through {i l : Nat} (hi : i < 3) (hl : l < 3) (hF : lc_Full s c p q a1 a2 a3 a4 a5 a6 a7 a8 a9 a10 a13 a14)
    (H : postL (lc_l (lc_FP s c p q (3 * i + l) * lc_BP s c p q (3 * i + l))) (3, 1, a1, a2, a3, a4, a5, a6, a7, a8, a9, a10, a11, a12, a13, a14)) :
    wpX_through postL (3, 1, a1, a2, a3, a4, a5, a6, a7, a8, a9, a10, a11, a12, a13, a14) (nI i) (nI l) := by
  have e3 : 3 * nI i + nI l = nI (3 * i + l) := lc_ix i l
  have c1 : (nI (3 * i + l)).toNatClampNeg = 3 * i + l := nI_clamp (by omega)
  have v1 : vp_in (nI (3 * i + l)) 18 := vp_in_nI (by omega) (by decide)
  unfold wpX_through
  refine lc_isPlace hi hl (br_f (by decide) (lc_fill1 ?_))
  simp only [e3, c1, v1, true_and]
  rw [(hF.2.1 (3 * i + l) (by omega)).2.2.2, (hF.2.2.1 (3 * i + l) (by omega)).2, lc_l_mul]
  exact H
theorem lc_FS_bd (hs : lc_W s) (hc : lc_W c) {j : Nat} (hj : j < 9) : -1000 ≤ lc_FS s c p q j ∧ lc_FS s c p q j ≤ 1000 := by
  unfold lc_FS lc_tb
  by_cases h1 : j < 3
  · rw [if_pos h1]
    have := lc_R0 (p := p) hs j h1
    omega
  · rw [if_neg h1]
    by_cases h2 : j < 6
    · rw [if_pos h2]
      have := lc_R1 (p := p) (q := q) hs hc (j - 3) (by omega)
      omega
    · rw [if_neg h2]
      have := lc_R2 (p := p) (q := q) hs hc (j - 6) (by omega)
      omega
theorem lc_BS_bd (hs : lc_W s) (hc : lc_W c) {j : Nat} (hj : j < 9) : -1000 ≤ lc_BS s c p q j ∧ lc_BS s c p q j ≤ 1000 := by
  unfold lc_BS lc_tb
  by_cases h1 : j < 3
  · rw [if_pos h1]
    have := lc_U0 (p := p) (q := q) hs hc j h1
    omega
  · rw [if_neg h1]
    by_cases h2 : j < 6
    · rw [if_pos h2]
      have := lc_U1 (p := p) (q := q) hs hc (j - 3) (by omega)
      omega
    · rw [if_neg h2]
      have := lc_U2 (p := p) hs (j - 6) (by omega)
      omega
theorem lc_bestThrough {i l : Nat} (hi : i < 3) (hl : l < 3) (hs : lc_W s) (hc : lc_W c) (hF : lc_Full s c p q a1 a2 a3 a4 a5 a6 a7 a8 a9 a10 a13 a14)
    (H : post (lc_i (if 0 ≤ lc_FS s c p q (3 * i + l) ∧ 0 ≤ lc_BS s c p q (3 * i + l) then lc_FS s c p q (3 * i + l) + lc_BS s c p q (3 * i + l) - s (3 * i + l) else -2)) (3, 1, a1, a2, a3, a4, a5, a6, a7, a8, a9, a10, a11, a12, a13, a14)) :
    wpX_bestThrough post (3, 1, a1, a2, a3, a4, a5, a6, a7, a8, a9, a10, a11, a12, a13, a14) (nI i) (nI l) := by
  have e3 : 3 * nI i + nI l = nI (3 * i + l) := lc_ix i l
  have c1 : (nI (3 * i + l)).toNatClampNeg = 3 * i + l := nI_clamp (by omega)
  have v1 : vp_in (nI (3 * i + l)) 18 := vp_in_nI (by omega) (by decide)
  have hF1 := lc_FS_bd (p := p) (q := q) hs hc (j := 3 * i + l) (by omega)
  have hB1 := lc_BS_bd (p := p) (q := q) hs hc (j := 3 * i + l) (by omega)
  have hbF : lc_bd (lc_FS s c p q (3 * i + l)) := ⟨by omega, by omega⟩
  have hbB : lc_bd (lc_BS s c p q (3 * i + l)) := ⟨by omega, by omega⟩
  have w5 := (hF.2.1 (3 * i + l) (by omega)).1
  have w6 := (hF.2.2.1 (3 * i + l) (by omega)).1
  have w1 := (hF.1 (3 * i + l) (by omega)).1
  unfold wpX_bestThrough
  refine lc_isPlace hi hl (br_f (by decide) (lc_fill1 ?_))
  simp only [e3, c1, v1, true_and, forall_eq, w5, w6, w1, lc_i_add, lc_i_sub]
  by_cases h1 : 0 ≤ lc_FS s c p q (3 * i + l)
  · refine br_f (by rw [lc_i0]; exact fun t => absurd ((lc_i_lt hbF lc_b0).mp t) (by omega)) ?_
    by_cases h2 : 0 ≤ lc_BS s c p q (3 * i + l)
    · rw [if_pos ⟨h1, h2⟩] at H
      exact br_t (by rw [lc_i0]; exact (lc_i_le lc_b0 hbB).mpr h2) H
    · rw [if_neg (fun t => h2 t.2)] at H
      exact br_f (by rw [lc_i0]; exact fun t => h2 ((lc_i_le lc_b0 hbB).mp t)) H
  · rw [if_neg (fun t => h1 t.1)] at H
    exact br_t (by rw [lc_i0]; exact (lc_i_lt hbF lc_b0).mpr (by omega)) H
theorem lc_throughCouple {i l : Nat} (hi : i < 3) (hl : l < 3) (hs : lc_W s) (hc : lc_W c) (hF : lc_Full s c p q a1 a2 a3 a4 a5 a6 a7 a8 a9 a10 a13 a14)
    (H : postL (lc_l (if q (3 * l + i) = false ∧ p (6 + i) = false then lc_r1 s c p q l * c (3 * l + i) * s (6 + i) else 0)) (3, 1, a1, a2, a3, a4, a5, a6, a7, a8, a9, a10, a11, a12, a13, a14)) :
    wpX_throughCouple postL (3, 1, a1, a2, a3, a4, a5, a6, a7, a8, a9, a10, a11, a12, a13, a14) 1 (3 * nI l + nI i) := by
  have e3 : 3 * nI l + nI i = nI (3 * l + i) := lc_ix l i
  have c1 : (nI (3 * l + i)).toNatClampNeg = 3 * l + i := nI_clamp (by omega)
  have v1 : vp_in (nI (3 * l + i)) 9 := vp_in_nI (by omega) (by decide)
  have e5 : nI (3 * l + i) / 3 = nI l := by
    rw [lc_div3 (by omega), show (3 * l + i) / 3 = l by omega]
  have e6 : nI (3 * l + i) - nI l * 3 = nI i := by
    rw [← e5, lc_rem3 (by omega), show (3 * l + i) % 3 = i by omega]
  have e7 : (3 : Int32) * 1 + 3 + nI i = nI (6 + i) := by
    rw [show (3 : Int32) * 1 + 3 = nI 6 from by decide, nI_add]
  have c7 : (nI (6 + i)).toNatClampNeg = 6 + i := nI_clamp (by omega)
  have v7 : vp_in (nI (6 + i)) 18 := vp_in_nI (by omega) (by decide)
  have e8 : (3 : Int32) * 1 + nI l = nI (3 + l) := by
    rw [show (3 : Int32) * 1 = nI 3 from by decide, nI_add]
  have c8 : (nI (3 + l)).toNatClampNeg = 3 + l := nI_clamp (by omega)
  have v8 : vp_in (nI (3 + l)) 18 := vp_in_nI (by omega) (by decide)
  have h3 : (¬ (3 : Int32) = 0) = True := by simp
  obtain ⟨-, -, i3, i4⟩ := hF.1 (3 * l + i) (by omega)
  obtain ⟨i1, i2, -, -⟩ := hF.1 (6 + i) (by omega)
  have w9 := (hF.2.1 (3 + l) (by omega)).2.2.2
  have w10 := (hF.2.2.1 (6 + i) (by omega)).2
  unfold lc_FP at w9
  unfold lc_BP at w10
  rw [lc_tb1 hl] at w9
  rw [lc_tb2] at w10
  rw [e3]
  unfold wpX_throughCouple
  refine br_f (by decide) (br_f (by decide) (br_f (nI_pos (by omega)) (br_t (nI_le (b := 8) (by omega) (by decide)) (lc_fill1 ?_))))
  simp only [e5, e6, e7, e8, c1, v1, c7, v7, c8, v8, h3, true_and, forall_eq, i1, i2, i3, i4, w9, w10, lc_i_l (lc_bdW hs _), lc_i_l (lc_bdW hc _), lc_l_mul]
  cases hq : q (3 * l + i) with
  | true =>
    rw [hq, if_neg (fun t => absurd t.1 (by decide)), ← lc_l0] at H
    exact br_f (by decide) H
  | false =>
    refine br_t (by decide) ?_
    cases hp : p (6 + i) with
    | true =>
      rw [hp, if_neg (fun t => absurd t.2 (by decide)), ← lc_l0] at H
      exact br_f (by decide) H
    | false =>
      rw [hq, hp, if_pos ⟨rfl, rfl⟩] at H
      refine br_t (by decide) ?_
      unfold lc_z2
      rw [Int.mul_one]
      exact H
theorem lc_label {i : Nat} {t : Nat} (hi : i < 3) (hs : lc_W s) (hc : lc_W c) (hF : lc_Full s c p q a1 a2 a3 a4 a5 a6 a7 a8 a9 a10 a13 a14) (ht : 0 ≤ lc_gr s c p q → a14 i = nI t)
    (H : post (if 0 ≤ lc_gr s c p q then nI t else -2) (3, 1, a1, a2, a3, a4, a5, a6, a7, a8, a9, a10, a11, a12, a13, a14)) :
    wpX_label post (3, 1, a1, a2, a3, a4, a5, a6, a7, a8, a9, a10, a11, a12, a13, a14) (nI i) := by
  have c1 : (nI i).toNatClampNeg = i := nI_clamp (by omega)
  have hg := lc_gr_bd (p := p) (q := q) hs hc
  have hb0 : lc_bd (lc_gr s c p q) := ⟨by omega, by omega⟩
  unfold wpX_label
  refine br_f (nI_pos (by omega)) (br_t (nI_lt (b := 3) hi (by decide)) (lc_fill1 (lc_greatest (lc_F_m2 hF hs hc) ?_)))
  by_cases h : 0 ≤ lc_gr s c p q
  · rw [if_pos h] at H
    refine br_t (by rw [lc_i0]; exact (lc_i_le lc_b0 hb0).mpr h) ⟨vp_in_nI (by omega) (by decide), ?_⟩
    rw [c1, ht h]
    exact H
  · rw [if_neg h] at H
    exact br_f (by rw [lc_i0]; exact fun t => h ((lc_i_le lc_b0 hb0).mp t)) H
theorem lc_ranked (hs : lc_W s) (hc : lc_W c) (hF : lc_Full s c p q a1 a2 a3 a4 a5 a6 a7 a8 a9 a10 a13 a14)
    (H : post (lc_i (if 0 ≤ lc_gr s c p q then lc_gr s c p q else -2)) (3, 1, a1, a2, a3, a4, a5, a6, a7, a8, a9, a10, a11, a12, a13, a14)) :
    wpX_ranked post (3, 1, a1, a2, a3, a4, a5, a6, a7, a8, a9, a10, a11, a12, a13, a14) 0 := by
  have hg := lc_gr_bd (p := p) (q := q) hs hc
  have hb0 : lc_bd (lc_gr s c p q) := ⟨by omega, by omega⟩
  have c0 : (0 : Int32).toNatClampNeg = 0 := by decide
  have w13 := hF.2.2.2.1
  unfold wpX_ranked
  refine br_f (by decide) (br_t (by decide) (lc_fill1 ⟨vp_in_iff.mpr (by decide), ?_⟩))
  rw [c0, w13]
  by_cases h : 0 ≤ lc_gr s c p q
  · rw [if_pos h] at H
    exact br_t (by rw [lc_i0]; exact (lc_i_le lc_b0 hb0).mpr h) ⟨vp_in_iff.mpr (by decide), H⟩
  · rw [if_neg h] at H
    exact br_f (by rw [lc_i0]; exact fun t => h ((lc_i_le lc_b0 hb0).mp t)) H
end
end
end
section
/-! ===== part 10: the plain law, sums: what the law adds up over 27 labellings is what the tables hold ===== -/
def lc_G (p q : Nat → Bool) (a b d : Nat) : Bool := !(p a) && (!(p (3 + b)) && (!(p (6 + d)) && (!(q (3 * a + b)) && !(q (3 * b + d)))))
def lc_S (s c : Nat → Int) (a b d : Nat) : Int := s a + s (3 + b) + s (6 + d) + c (3 * a + b) + c (3 * b + d)
def lc_P (s c : Nat → Int) (a b d : Nat) : Int := s a * s (3 + b) * s (6 + d) * c (3 * a + b) * c (3 * b + d)
def lc_gk (p q : Nat → Bool) (k : Nat) : Bool := lc_G p q (k / 9) (k / 3 % 3) (k % 3)
def lc_Sk (s c : Nat → Int) (k : Nat) : Int := lc_S s c (k / 9) (k / 3 % 3) (k % 3)
def lc_Pk (s c : Nat → Int) (k : Nat) : Int := lc_P s c (k / 9) (k / 3 % 3) (k % 3)
def lc_mine (i a b d : Nat) : Nat := if i = 0 then a else if i = 1 then b else d
theorem lc_G_iff {p q : Nat → Bool} {a b d : Nat} : lc_G p q a b d = true ↔ p a = false ∧ p (3 + b) = false ∧ p (6 + d) = false ∧ q (3 * a + b) = false ∧ q (3 * b + d) = false := by
  unfold lc_G
  simp
def lc_s3 (F : Nat → Nat → Nat → Int) : Int := lc_sm (fun a => lc_sm (fun b => lc_sm (fun d => F a b d) 3) 3) 3
theorem lc_s3_c {F F' : Nat → Nat → Nat → Int} (h : ∀ a b d, a < 3 → b < 3 → d < 3 → F a b d = F' a b d) : lc_s3 F = lc_s3 F' :=
  lc_sm_c 3 (fun a ha => lc_sm_c 3 (fun b hb => lc_sm_c 3 (fun d hd => h a b d ha hb hd)))
theorem lc_s3_r (F : Nat → Nat → Nat → Int) : lc_s3 F = lc_sm (fun d => lc_sm (fun b => lc_sm (fun a => F a b d) 3) 3) 3 := by
  unfold lc_s3
  simp only [lc_sm3]
  omega
theorem lc_sm27 (f : Nat → Int) : lc_sm f 27 = lc_s3 (fun a b d => f (9 * a + 3 * b + d)) := by
  unfold lc_s3
  simp only [lc_sm, Nat.reduceMul, Nat.reduceAdd]
  omega
theorem lc_smk {f : Nat → Int} (F : Nat → Nat → Nat → Int) (h : ∀ k, f k = F (k / 9) (k / 3 % 3) (k % 3)) : lc_sm f 27 = lc_s3 F := by
  rw [lc_sm27]
  refine lc_s3_c (fun a b d ha hb hd => ?_)
  rw [h, show (9 * a + 3 * b + d) / 9 = a by omega, show (9 * a + 3 * b + d) / 3 % 3 = b by omega, show (9 * a + 3 * b + d) % 3 = d by omega]
/-- one term alone -/
theorem lc_sm_pick {f : Nat → Int} {l : Nat} (hl : l < 3) : lc_sm (fun a => if a = l then f a else 0) 3 = f l := by
  rw [lc_sm3]
  have hl' : l = 0 ∨ l = 1 ∨ l = 2 := by omega
  rcases hl' with rfl | rfl | rfl
  · rw [if_pos rfl, if_neg (by decide), if_neg (by decide)]; omega
  · rw [if_neg (by decide), if_pos rfl, if_neg (by decide)]; omega
  · rw [if_neg (by decide), if_neg (by decide), if_pos rfl]; omega
section
variable {s c : Nat → Int} {p q : Nat → Bool}
/-- a beginning of two labels -/
def lc_o1 (p q : Nat → Bool) (a b : Nat) : Bool := !(p a) && (!(q (3 * a + b)) && !(p (3 + b)))
theorem lc_o1_iff {a b : Nat} : lc_o1 p q a b = true ↔ p a = false ∧ q (3 * a + b) = false ∧ p (3 + b) = false := by
  unfold lc_o1
  simp
theorem lc_n0_iff {a : Nat} : lc_n0 p a ≠ 0 ↔ p a = false := by
  unfold lc_n0
  cases p a <;> simp
theorem lc_n1_no {b : Nat} (h : lc_n1 p q b = 0) {a : Nat} (ha : a < 3) : lc_o1 p q a b = false := by
  cases e : lc_o1 p q a b with
  | false => rfl
  | true =>
    obtain ⟨e1, e2, e3⟩ := lc_o1_iff.mp e
    exfalso
    have h' : (if p (3 + b) = true then 0 else lc_sm (fun a => if lc_okF q (lc_n0 p) b a = true then lc_n0 p a else 0) 3) = 0 := h
    rw [if_neg (by rw [e3]; decide), lc_sm3] at h'
    have hnn : ∀ a, 0 ≤ (if lc_okF q (lc_n0 p) b a = true then lc_n0 p a else 0) := by
      intro a
      unfold lc_n0
      by_cases h1 : lc_okF q (fun a => if p a = true then 0 else 1) b a = true
      · rw [if_pos h1]
        by_cases h2 : p a = true
        · rw [if_pos h2]; decide
        · rw [if_neg h2]; decide
      · rw [if_neg h1]; decide
    have h1 : (if lc_okF q (lc_n0 p) b a = true then lc_n0 p a else 0) = 1 := by
      rw [if_pos (lc_okF_iff.mpr ⟨e2, lc_n0_iff.mpr e1⟩)]
      unfold lc_n0
      rw [if_neg (by rw [e1]; decide)]
    have n0 := hnn 0
    have n1 := hnn 1
    have n2 := hnn 2
    have ha' : a = 0 ∨ a = 1 ∨ a = 2 := by omega
    rcases ha' with rfl | rfl | rfl
    · omega
    · omega
    · omega
/-- products of beginnings of two labels -/
def lc_T1r (s c : Nat → Int) (p q : Nat → Bool) (a b : Nat) : Int := if lc_o1 p q a b = true then s a * c (3 * a + b) * s (3 + b) else 0
def lc_T (s c : Nat → Int) (p q : Nat → Bool) (a b d : Nat) : Int := if lc_G p q a b d = true then lc_P s c a b d else 0
theorem lc_r1_c (b : Nat) : lc_r1 s c p q b = lc_sm (fun a => lc_T1r s c p q a b) 3 := by
  show (if p (3 + b) = true then 0 else lc_sm (fun a => if lc_okF q (lc_n0 p) b a = true then lc_r0 s p a * c (3 * a + b) * s (3 + b) else 0) 3) = _
  by_cases hp : p (3 + b) = true
  · rw [if_pos hp]
    refine (lc_sm_0 3 (fun a _ => ?_)).symm
    unfold lc_T1r
    refine if_neg (fun t => ?_)
    rw [(lc_o1_iff.mp t).2.2] at hp
    exact absurd hp (by decide)
  · rw [if_neg hp]
    refine lc_sm_c 3 (fun a _ => ?_)
    unfold lc_T1r
    have hp' : p (3 + b) = false := by
      cases e : p (3 + b) with
      | false => rfl
      | true => exact absurd e hp
    by_cases h : lc_o1 p q a b = true
    · obtain ⟨e1, e2, e3⟩ := lc_o1_iff.mp h
      rw [if_pos h, if_pos (lc_okF_iff.mpr ⟨e2, lc_n0_iff.mpr e1⟩)]
      unfold lc_r0
      rw [if_neg (by rw [e1]; decide)]
    · rw [if_neg h, if_neg]
      intro t
      obtain ⟨t1, t2⟩ := lc_okF_iff.mp t
      exact h (lc_o1_iff.mpr ⟨lc_n0_iff.mp t2, t1, hp'⟩)
theorem lc_T_of {a b d : Nat} (h1 : q (3 * b + d) = false) (h2 : p (6 + d) = false) : lc_T1r s c p q a b * c (3 * b + d) * s (6 + d) = lc_T s c p q a b d := by
  unfold lc_T1r lc_T
  by_cases h : lc_o1 p q a b = true
  · obtain ⟨e1, e2, e3⟩ := lc_o1_iff.mp h
    rw [if_pos h, if_pos (lc_G_iff.mpr ⟨e1, e3, h2, e2, h1⟩)]
    unfold lc_P
    grind
  · rw [if_neg h, if_neg]
    · rw [Int.zero_mul, Int.zero_mul]
    · intro t
      obtain ⟨t1, t2, t3, t4, t5⟩ := lc_G_iff.mp t
      exact h (lc_o1_iff.mpr ⟨t1, t4, t2⟩)
theorem lc_T_no {a b d : Nat} (h : lc_G p q a b d = false) : lc_T s c p q a b d = 0 := by
  unfold lc_T
  rw [h, if_neg (by decide)]
theorem lc_nf {x : Bool} (h : ¬ x = true) : x = false := by
  cases x with
  | false => rfl
  | true => exact absurd rfl h
theorem lc_r2_c (d : Nat) : lc_r2 s c p q d = lc_sm (fun b => lc_sm (fun a => lc_T s c p q a b d) 3) 3 := by
  show (if p (6 + d) = true then 0 else lc_sm (fun b => if lc_okF q (lc_n1 p q) d b = true then lc_r1 s c p q b * c (3 * b + d) * s (6 + d) else 0) 3) = _
  by_cases hp : p (6 + d) = true
  · rw [if_pos hp]
    refine (lc_sm_0 3 (fun b _ => lc_sm_0 3 (fun a _ => lc_T_no (lc_nf (fun t => ?_))))).symm
    rw [(lc_G_iff.mp t).2.2.1] at hp
    exact absurd hp (by decide)
  · rw [if_neg hp]
    refine lc_sm_c 3 (fun b _ => ?_)
    by_cases h : lc_okF q (lc_n1 p q) d b = true
    · rw [if_pos h, lc_r1_c, lc_sm_r, lc_sm_r]
      exact lc_sm_c 3 (fun a _ => lc_T_of (lc_okF_iff.mp h).1 (lc_nf hp))
    · rw [if_neg h]
      refine (lc_sm_0 3 (fun a ha => lc_T_no (lc_nf (fun t => ?_)))).symm
      obtain ⟨t1, t2, t3, t4, t5⟩ := lc_G_iff.mp t
      refine h (lc_okF_iff.mpr ⟨t5, fun z => ?_⟩)
      have := lc_n1_no z ha
      rw [lc_o1_iff.mpr ⟨t1, t4, t2⟩] at this
      exact absurd this (by decide)
theorem lc_law4 : lc_sm (fun k => if lc_gk p q k = true then lc_Pk s c k else 0) 27 = lc_sm (lc_r2 s c p q) 3 := by
  have e : lc_sm (fun k => if lc_gk p q k = true then lc_Pk s c k else 0) 27 = lc_s3 (lc_T s c p q) := lc_smk (lc_T s c p q) (fun k => rfl)
  rw [e, lc_s3_r]
  exact lc_sm_c 3 (fun d _ => (lc_r2_c d).symm)
theorem lc_n1_r : lc_n1 p q = lc_r1 (fun _ => 1) (fun _ => 1) p q := by
  funext b
  show lc_nS p q (lc_n0 p) 1 b = lc_rS (fun _ => 1) (fun _ => 1) p q (lc_n0 p) (lc_n0 p) 1 b
  unfold lc_nS lc_rS
  simp only [Int.mul_one]
theorem lc_n2_r : lc_n2 p q = lc_r2 (fun _ => 1) (fun _ => 1) p q := by
  funext b
  show lc_nS p q (lc_n1 p q) 2 b = lc_rS (fun _ => 1) (fun _ => 1) p q (lc_n1 p q) (lc_r1 (fun _ => 1) (fun _ => 1) p q) 2 b
  rw [← lc_n1_r]
  unfold lc_nS lc_rS
  simp only [Int.mul_one]
theorem lc_law1 : lc_sm (fun k => if lc_gk p q k = true then 1 else 0) 27 = lc_sm (lc_n2 p q) 3 := by
  rw [lc_n2_r, ← lc_law4]
  refine lc_sm_c 27 (fun k _ => ?_)
  rw [show lc_Pk (fun _ => 1) (fun _ => 1) k = 1 from rfl]
/-! the back -/
theorem lc_u2_iff (hs : lc_W s) {d : Nat} : 0 ≤ lc_u2 s p d ↔ p (6 + d) = false := by
  unfold lc_u2
  have := hs (6 + d)
  cases h : p (6 + d) with
  | false => rw [if_neg (by decide)]; simp; omega
  | true => rw [if_pos rfl]; simp
def lc_Z (s c : Nat → Int) (p q : Nat → Bool) (b d : Nat) : Int := if q (3 * b + d) = false ∧ p (6 + d) = false then c (3 * b + d) * s (6 + d) else 0
theorem lc_z1_c (hs : lc_W s) (b : Nat) : lc_z1 s c p q b = lc_sm (fun d => lc_Z s c p q b d) 3 := by
  show lc_sm (fun d => if lc_okB q (lc_u2 s p) b d = true then c (3 * b + d) * s (6 + d) * 1 else 0) 3 = _
  refine lc_sm_c 3 (fun d _ => ?_)
  unfold lc_Z
  by_cases h : lc_okB q (lc_u2 s p) b d = true
  · obtain ⟨h1, h2⟩ := lc_okB_iff.mp h
    rw [if_pos h, if_pos ⟨h1, (lc_u2_iff hs).mp h2⟩, Int.mul_one]
  · rw [if_neg h, if_neg (fun t => h (lc_okB_iff.mpr ⟨t.1, (lc_u2_iff hs).mpr t.2⟩))]
/-- an end of two labels -/
theorem lc_u1_ub (hs : lc_W s) {b d : Nat} (hd : d < 3) (h1 : p (3 + b) = false) (h2 : q (3 * b + d) = false) (h3 : p (6 + d) = false) (hc : lc_W c) : s (3 + b) + c (3 * b + d) + s (6 + d) ≤ lc_u1 s c p q b := by
  have e : lc_u1 s c p q b = if p (3 + b) = true then -1000 else if 0 ≤ lc_gB c q (lc_u2 s p) b then s (3 + b) + lc_gB c q (lc_u2 s p) b else -1000 := rfl
  have hu := lc_g_ub (z := -1000) (ok := lc_okB q (lc_u2 s p) b) (v := lc_vB c (lc_u2 s p) b) 3 d hd (lc_okB_iff.mpr ⟨h2, (lc_u2_iff hs).mpr h3⟩)
  have hu' : c (3 * b + d) + lc_u2 s p d ≤ lc_gB c q (lc_u2 s p) b := hu
  have e2 : lc_u2 s p d = s (6 + d) := if_neg (by rw [h3]; decide)
  have hs1 := hs (6 + d)
  have hc1 := hc (3 * b + d)
  rw [e, if_neg (by rw [h1]; decide), if_pos (by omega)]
  omega
theorem lc_u1_at (hs : lc_W s) (hc : lc_W c) (b : Nat) : lc_u1 s c p q b = -1000 ∨ (0 ≤ lc_u1 s c p q b ∧ ∃ d, d < 3 ∧ p (3 + b) = false ∧ q (3 * b + d) = false ∧ p (6 + d) = false ∧ s (3 + b) + c (3 * b + d) + s (6 + d) = lc_u1 s c p q b) := by
  have e : lc_u1 s c p q b = if p (3 + b) = true then -1000 else if 0 ≤ lc_gB c q (lc_u2 s p) b then s (3 + b) + lc_gB c q (lc_u2 s p) b else -1000 := rfl
  by_cases h1 : p (3 + b) = true
  · rw [e, if_pos h1]; exact Or.inl rfl
  · rw [if_neg h1] at e
    have hv : ∀ d, d < 3 → lc_okB q (lc_u2 s p) b d = true → 0 ≤ lc_vB c (lc_u2 s p) b d := by
      intro d _ hd
      have t1 := (lc_okB_iff.mp hd).2
      have t2 := hc (3 * b + d)
      unfold lc_vB
      omega
    rcases lc_g_at (z := -1000) (by decide) 3 hv with ⟨g1, g2⟩ | ⟨g1, d, hd, g2, g3⟩
    · have g1' : lc_gB c q (lc_u2 s p) b = -1000 := g1
      rw [if_neg (by rw [g1']; decide)] at e
      exact Or.inl e
    · have g1' : 0 ≤ lc_gB c q (lc_u2 s p) b := g1
      have g3' : c (3 * b + d) + lc_u2 s p d = lc_gB c q (lc_u2 s p) b := g3
      rw [if_pos g1'] at e
      obtain ⟨t1, t2⟩ := lc_okB_iff.mp g2
      have t3 := (lc_u2_iff hs).mp t2
      have e2 : lc_u2 s p d = s (6 + d) := if_neg (by rw [t3]; decide)
      have hs1 := hs (3 + b)
      exact Or.inr ⟨by omega, d, hd, lc_nf h1, t1, t3, by omega⟩
theorem lc_z0_c (hs : lc_W s) (hc : lc_W c) {a : Nat} (h0 : p a = false) : s a * lc_z0 s c p q a = lc_sm (fun b => lc_sm (fun d => lc_T s c p q a b d) 3) 3 := by
  show s a * lc_sm (fun b => if lc_okB q (lc_u1 s c p q) a b = true then c (3 * a + b) * s (3 + b) * lc_z1 s c p q b else 0) 3 = _
  rw [lc_sm_l]
  refine lc_sm_c 3 (fun b _ => ?_)
  by_cases h : lc_okB q (lc_u1 s c p q) a b = true
  · obtain ⟨h1, h2⟩ := lc_okB_iff.mp h
    have h3 : p (3 + b) = false := by
      rcases lc_u1_at (p := p) (q := q) hs hc b with t | ⟨_, d, _, t, _⟩
      · omega
      · exact t
    rw [if_pos h, lc_z1_c hs, lc_sm_l, lc_sm_l]
    refine lc_sm_c 3 (fun d _ => ?_)
    unfold lc_Z lc_T
    by_cases hz : q (3 * b + d) = false ∧ p (6 + d) = false
    · rw [if_pos hz, if_pos (lc_G_iff.mpr ⟨h0, h3, hz.2, h1, hz.1⟩)]
      unfold lc_P
      grind
    · rw [if_neg hz, if_neg (fun t => hz ⟨(lc_G_iff.mp t).2.2.2.2, (lc_G_iff.mp t).2.2.1⟩), Int.mul_zero, Int.mul_zero]
  · rw [if_neg h, Int.mul_zero]
    refine (lc_sm_0 3 (fun d hd => lc_T_no (lc_nf (fun t => ?_)))).symm
    obtain ⟨t1, t2, t3, t4, t5⟩ := lc_G_iff.mp t
    have := lc_u1_ub hs hd t2 t5 t3 hc
    have w1 := hs (3 + b)
    have w2 := hs (6 + d)
    have w3 := hc (3 * b + d)
    exact h (lc_okB_iff.mpr ⟨t4, by omega⟩)
theorem lc_s3_1 {F : Nat → Nat → Nat → Int} {l : Nat} (hl : l < 3) : lc_s3 (fun a b d => if a = l then F a b d else 0) = lc_sm (fun b => lc_sm (fun d => F l b d) 3) 3 := by
  unfold lc_s3
  simp only [← lc_sm_if]
  exact lc_sm_pick hl
theorem lc_s3_2 {F : Nat → Nat → Nat → Int} {l : Nat} (hl : l < 3) : lc_s3 (fun a b d => if b = l then F a b d else 0) = lc_sm (fun a => lc_sm (fun d => F a l d) 3) 3 := by
  unfold lc_s3
  simp only [← lc_sm_if]
  exact lc_sm_c 3 (fun a _ => lc_sm_pick hl)
theorem lc_s3_3 {F : Nat → Nat → Nat → Int} {l : Nat} (hl : l < 3) : lc_s3 (fun a b d => if d = l then F a b d else 0) = lc_sm (fun a => lc_sm (fun b => F a b l) 3) 3 := by
  unfold lc_s3
  exact lc_sm_c 3 (fun a _ => lc_sm_c 3 (fun b _ => lc_sm_pick hl))
theorem lc_if2 {A B : Prop} [Decidable A] [Decidable B] (x : Int) : (if A ∧ B then x else 0) = if B then (if A then x else 0) else 0 := by
  by_cases hb : B
  · by_cases ha : A
    · rw [if_pos ⟨ha, hb⟩, if_pos hb, if_pos ha]
    · rw [if_neg (fun t => ha t.1), if_pos hb, if_neg ha]
  · rw [if_neg (fun t => hb t.2), if_neg hb]
theorem lc_law5 {i l : Nat} (hi : i < 3) (hl : l < 3) (hs : lc_W s) (hc : lc_W c) : lc_sm (fun k => if lc_gk p q k = true ∧ lc_mine i (k / 9) (k / 3 % 3) (k % 3) = l then lc_Pk s c k else 0) 27 = lc_FP s c p q (3 * i + l) * lc_BP s c p q (3 * i + l) := by
  have e : lc_sm (fun k => if lc_gk p q k = true ∧ lc_mine i (k / 9) (k / 3 % 3) (k % 3) = l then lc_Pk s c k else 0) 27 = lc_s3 (fun a b d => if lc_mine i a b d = l then lc_T s c p q a b d else 0) :=
    lc_smk (fun a b d => if lc_mine i a b d = l then lc_T s c p q a b d else 0) (fun k => lc_if2 _)
  rw [e]
  have hi' : i = 0 ∨ i = 1 ∨ i = 2 := by omega
  rcases hi' with rfl | rfl | rfl
  · show lc_s3 (fun a b d => if a = l then lc_T s c p q a b d else 0) = _
    rw [lc_s3_1 hl, Nat.mul_zero, Nat.zero_add]
    unfold lc_FP lc_BP
    rw [lc_tb0 hl, lc_tb0 hl]
    unfold lc_r0
    by_cases h : p l = true
    · rw [if_pos h, Int.zero_mul]
      refine lc_sm_0 3 (fun b _ => lc_sm_0 3 (fun d _ => lc_T_no (lc_nf (fun t => ?_))))
      rw [(lc_G_iff.mp t).1] at h
      exact absurd h (by decide)
    · rw [if_neg h, lc_z0_c hs hc (lc_nf h)]
  · show lc_s3 (fun a b d => if b = l then lc_T s c p q a b d else 0) = _
    rw [lc_s3_2 hl]
    unfold lc_FP lc_BP
    rw [show 3 * 1 + l = 3 + l by omega, lc_tb1 hl, lc_tb1 hl, lc_r1_c, lc_z1_c hs, lc_sm_r]
    refine lc_sm_c 3 (fun a _ => ?_)
    rw [lc_sm_l]
    refine lc_sm_c 3 (fun d _ => ?_)
    unfold lc_Z
    by_cases h : q (3 * l + d) = false ∧ p (6 + d) = false
    · rw [if_pos h, ← lc_T_of h.1 h.2, Int.mul_assoc]
    · rw [if_neg h, Int.mul_zero]
      exact lc_T_no (lc_nf (fun t => h ⟨(lc_G_iff.mp t).2.2.2.2, (lc_G_iff.mp t).2.2.1⟩))
  · show lc_s3 (fun a b d => if d = l then lc_T s c p q a b d else 0) = _
    rw [lc_s3_3 hl]
    unfold lc_FP lc_BP
    rw [show 3 * 2 + l = 6 + l by omega, lc_tb2, lc_tb2, lc_r2_c, show lc_z2 l = 1 from rfl, Int.mul_one]
    simp only [lc_sm3]
    omega
theorem lc_law7 {i l : Nat} (hi : i < 3) (hl : l < 3) : lc_sm (fun k => if lc_gk p q k = true ∧ (k / 3 % 3 = l ∧ k % 3 = i) then lc_Pk s c k else 0) 27 = if q (3 * l + i) = false ∧ p (6 + i) = false then lc_r1 s c p q l * c (3 * l + i) * s (6 + i) else 0 := by
  have e : lc_sm (fun k => if lc_gk p q k = true ∧ (k / 3 % 3 = l ∧ k % 3 = i) then lc_Pk s c k else 0) 27 = lc_s3 (fun a b d => if d = i then (if b = l then lc_T s c p q a b d else 0) else 0) :=
    lc_smk (fun a b d => if d = i then (if b = l then lc_T s c p q a b d else 0) else 0) (fun k => by
      show (if lc_gk p q k = true ∧ (k / 3 % 3 = l ∧ k % 3 = i) then lc_Pk s c k else 0) = if k % 3 = i then (if k / 3 % 3 = l then (if lc_gk p q k = true then lc_Pk s c k else 0) else 0) else 0
      rw [lc_if2, lc_if2])
  rw [e, lc_s3_3 hi]
  have e2 : ∀ a, lc_sm (fun b => if b = l then lc_T s c p q a b i else 0) 3 = lc_T s c p q a l i := fun a => lc_sm_pick hl
  rw [lc_sm_c 3 (fun a _ => e2 a)]
  by_cases h : q (3 * l + i) = false ∧ p (6 + i) = false
  · rw [if_pos h, lc_r1_c, lc_sm_r, lc_sm_r]
    exact lc_sm_c 3 (fun a _ => (lc_T_of h.1 h.2).symm)
  · rw [if_neg h]
    exact lc_sm_0 3 (fun a _ => lc_T_no (lc_nf (fun t => h ⟨(lc_G_iff.mp t).2.2.2.2, (lc_G_iff.mp t).2.2.1⟩)))
end
end
section
/-! ===== part 11: the plain law, greatest sums: best, ways, through, first ===== -/
section
variable {s c : Nat → Int} {p q : Nat → Bool}
theorem lc_S_nn (hs : lc_W s) (hc : lc_W c) (a b d : Nat) : 0 ≤ lc_S s c a b d ∧ lc_S s c a b d ≤ 35 := by
  have h1 := hs a
  have h2 := hs (3 + b)
  have h3 := hs (6 + d)
  have h4 := hc (3 * a + b)
  have h5 := hc (3 * b + d)
  unfold lc_S
  omega
/-- the greatest, by what it is -/
theorem lc_max {ok : Nat → Bool} {v : Nat → Int} {X : Int} (hv : ∀ k, 0 ≤ v k) (h1 : ∀ k, k < 27 → ok k = true → v k ≤ X) (h2 : (X = -2 ∧ ∀ k, k < 27 → ok k = false) ∨ (0 ≤ X ∧ ∃ k, k < 27 ∧ ok k = true ∧ v k = X)) : lc_g (-2) ok v 27 = X := by
  rcases lc_g_at (z := -2) (ok := ok) (v := v) (by decide) 27 (fun b _ _ => hv b) with ⟨g1, g2⟩ | ⟨g1, k, hk, g2, g3⟩
  · rcases h2 with ⟨e1, e2⟩ | ⟨e1, k, hk, e2, e3⟩
    · rw [g1, e1]
    · rw [g2 k hk] at e2
      exact absurd e2 (by decide)
  · rcases h2 with ⟨e1, e2⟩ | ⟨e1, k', hk', e2, e3⟩
    · rw [e2 k hk] at g2
      exact absurd g2 (by decide)
    · have t1 := h1 k hk g2
      have t2 := lc_g_ub (z := -2) (ok := ok) (v := v) 27 k' hk' e2
      omega
/-- the same over triples -/
theorem lc_max3 {ok : Nat → Nat → Nat → Bool} {v : Nat → Nat → Nat → Int} {X : Int} (hv : ∀ a b d, 0 ≤ v a b d) (h1 : ∀ a b d, a < 3 → b < 3 → d < 3 → ok a b d = true → v a b d ≤ X) (h2 : (X = -2 ∧ ∀ a b d, a < 3 → b < 3 → d < 3 → ok a b d = false) ∨ (0 ≤ X ∧ ∃ a b d, a < 3 ∧ b < 3 ∧ d < 3 ∧ ok a b d = true ∧ v a b d = X)) :
    lc_g (-2) (fun k => ok (k / 9) (k / 3 % 3) (k % 3)) (fun k => v (k / 9) (k / 3 % 3) (k % 3)) 27 = X := by
  refine lc_max (fun k => hv _ _ _) (fun k hk h => h1 _ _ _ (by omega) (by omega) (by omega) h) ?_
  rcases h2 with ⟨e1, e2⟩ | ⟨e1, a, b, d, ha, hb, hd, e2, e3⟩
  · exact Or.inl ⟨e1, fun k hk => e2 _ _ _ (by omega) (by omega) (by omega)⟩
  · refine Or.inr ⟨e1, 9 * a + 3 * b + d, by omega, ?_⟩
    rw [show (9 * a + 3 * b + d) / 9 = a by omega, show (9 * a + 3 * b + d) / 3 % 3 = b by omega, show (9 * a + 3 * b + d) % 3 = d by omega]
    exact ⟨e2, e3⟩
/-! beginnings of two labels -/
theorem lc_m1_e (b : Nat) : lc_m1 s c p q b = if p (3 + b) = true then -1000 else lc_g (-1000) (lc_okF q (lc_n0 p) b) (lc_vF s c (lc_m0 s p) 1 b) 3 := rfl
theorem lc_m0_e {a : Nat} (h : p a = false) : lc_m0 s p a = s a := if_neg (by rw [h]; decide)
theorem lc_v1_e {a b : Nat} (h : p a = false) : lc_vF s c (lc_m0 s p) 1 b a = s a + c (3 * a + b) + s (3 + b) := by
  show lc_m0 s p a + c (3 * a + b) + s (3 + b) = _
  rw [lc_m0_e h]
theorem lc_m1_ub {a b : Nat} (ha : a < 3) (h : lc_o1 p q a b = true) : s a + c (3 * a + b) + s (3 + b) ≤ lc_m1 s c p q b := by
  obtain ⟨h1, h2, h3⟩ := lc_o1_iff.mp h
  rw [lc_m1_e, if_neg (by rw [h3]; decide), ← lc_v1_e h1]
  exact lc_g_ub 3 a ha (lc_okF_iff.mpr ⟨h2, lc_n0_iff.mpr h1⟩)
theorem lc_m1_at (hs : lc_W s) (hc : lc_W c) (b : Nat) : lc_m1 s c p q b = -1000 ∨ (0 ≤ lc_m1 s c p q b ∧ ∃ a, a < 3 ∧ lc_o1 p q a b = true ∧ s a + c (3 * a + b) + s (3 + b) = lc_m1 s c p q b) := by
  rw [lc_m1_e]
  by_cases hp : p (3 + b) = true
  · rw [if_pos hp]; exact Or.inl rfl
  · rw [if_neg hp]
    have hv : ∀ a, a < 3 → lc_okF q (lc_n0 p) b a = true → 0 ≤ lc_vF s c (lc_m0 s p) 1 b a := by
      intro a _ h
      rw [lc_v1_e (lc_n0_iff.mp (lc_okF_iff.mp h).2)]
      have h1 := hs a
      have h2 := hs (3 + b)
      have h3 := hc (3 * a + b)
      omega
    rcases lc_g_at (z := -1000) (by decide) 3 hv with ⟨g1, g2⟩ | ⟨g1, a, ha, g2, g3⟩
    · exact Or.inl g1
    · obtain ⟨t1, t2⟩ := lc_okF_iff.mp g2
      have t3 := lc_n0_iff.mp t2
      rw [lc_v1_e t3] at g3
      exact Or.inr ⟨g1, a, ha, lc_o1_iff.mpr ⟨t3, t1, lc_nf hp⟩, g3⟩
theorem lc_n1_iff (hs : lc_W s) (hc : lc_W c) {b : Nat} (hb : b < 3) : lc_n1 p q b ≠ 0 ↔ 0 ≤ lc_m1 s c p q b := by
  have := lc_R1 (p := p) (q := q) hs hc b hb
  omega
theorem lc_m2_e (d : Nat) : lc_m2 s c p q d = if p (6 + d) = true then -1000 else lc_g (-1000) (lc_okF q (lc_n1 p q) d) (lc_vF s c (lc_m1 s c p q) 2 d) 3 := rfl
theorem lc_v2_e (b d : Nat) : lc_vF s c (lc_m1 s c p q) 2 d b = lc_m1 s c p q b + c (3 * b + d) + s (6 + d) := rfl
theorem lc_m2_ub1 (hs : lc_W s) (hc : lc_W c) {b d : Nat} (hb : b < 3) (h1 : 0 ≤ lc_m1 s c p q b) (h2 : q (3 * b + d) = false) (h3 : p (6 + d) = false) : lc_m1 s c p q b + c (3 * b + d) + s (6 + d) ≤ lc_m2 s c p q d := by
  rw [lc_m2_e, if_neg (by rw [h3]; decide), ← lc_v2_e]
  exact lc_g_ub 3 b hb (lc_okF_iff.mpr ⟨h2, (lc_n1_iff hs hc hb).mpr h1⟩)
theorem lc_m2_ub (hs : lc_W s) (hc : lc_W c) {a b d : Nat} (ha : a < 3) (hb : b < 3) (h : lc_G p q a b d = true) : lc_S s c a b d ≤ lc_m2 s c p q d := by
  obtain ⟨t1, t2, t3, t4, t5⟩ := lc_G_iff.mp h
  have h1 := lc_m1_ub (s := s) (c := c) ha (lc_o1_iff.mpr ⟨t1, t4, t2⟩)
  have w1 := hs a
  have w2 := hs (3 + b)
  have w3 := hc (3 * a + b)
  have h2 := lc_m2_ub1 hs hc hb (by omega) t5 t3
  unfold lc_S
  omega
theorem lc_m2_at (hs : lc_W s) (hc : lc_W c) (d : Nat) : lc_m2 s c p q d = -1000 ∨ (0 ≤ lc_m2 s c p q d ∧ ∃ a b, a < 3 ∧ b < 3 ∧ lc_G p q a b d = true ∧ lc_S s c a b d = lc_m2 s c p q d) := by
  rw [lc_m2_e]
  by_cases hp : p (6 + d) = true
  · rw [if_pos hp]; exact Or.inl rfl
  · rw [if_neg hp]
    have hv : ∀ b, b < 3 → lc_okF q (lc_n1 p q) d b = true → 0 ≤ lc_vF s c (lc_m1 s c p q) 2 d b := by
      intro b hb h
      rw [lc_v2_e]
      have h1 := (lc_n1_iff hs hc hb).mp (lc_okF_iff.mp h).2
      have h2 := hs (6 + d)
      have h3 := hc (3 * b + d)
      omega
    rcases lc_g_at (z := -1000) (by decide) 3 hv with ⟨g1, g2⟩ | ⟨g1, b, hb, g2, g3⟩
    · exact Or.inl g1
    · obtain ⟨t1, t2⟩ := lc_okF_iff.mp g2
      have t3 := (lc_n1_iff hs hc hb).mp t2
      rw [lc_v2_e] at g3
      rcases lc_m1_at (p := p) (q := q) hs hc b with e | ⟨e, a, ha, e1, e2⟩
      · omega
      · obtain ⟨u1, u2, u3⟩ := lc_o1_iff.mp e1
        refine Or.inr ⟨g1, a, b, ha, hb, lc_G_iff.mpr ⟨u1, u3, lc_nf hp, u2, t1⟩, ?_⟩
        unfold lc_S
        omega
theorem lc_gr_m (d : Nat) (hd : d < 3) : lc_m2 s c p q d ≤ lc_gr s c p q := lc_g_ub (ok := fun _ => true) 3 d hd rfl
theorem lc_gr_ub (hs : lc_W s) (hc : lc_W c) {a b d : Nat} (ha : a < 3) (hb : b < 3) (hd : d < 3) (h : lc_G p q a b d = true) : lc_S s c a b d ≤ lc_gr s c p q := by
  have h1 := lc_m2_ub hs hc ha hb h
  have h2 := lc_gr_m (s := s) (c := c) (p := p) (q := q) d hd
  omega
theorem lc_gr_at (hs : lc_W s) (hc : lc_W c) : (¬ 0 ≤ lc_gr s c p q ∧ ∀ a b d, a < 3 → b < 3 → d < 3 → lc_G p q a b d = false) ∨ (0 ≤ lc_gr s c p q ∧ ∃ a b d, a < 3 ∧ b < 3 ∧ d < 3 ∧ lc_G p q a b d = true ∧ lc_S s c a b d = lc_gr s c p q) := by
  have hm : ∀ n, n ≤ 3 → lc_g (-1000) (fun _ => true) (lc_m2 s c p q) n = -1000 ∨ ∃ d, d < n ∧ lc_m2 s c p q d = lc_g (-1000) (fun _ => true) (lc_m2 s c p q) n ∧ 0 ≤ lc_m2 s c p q d := by
    intro n
    induction n with
    | zero => intro _; exact Or.inl rfl
    | succ n ih =>
      intro hn
      have hlb : -1000 ≤ lc_g (-1000) (fun _ => true) (lc_m2 s c p q) n := lc_g_lb n
      by_cases hlt : lc_g (-1000) (fun _ => true) (lc_m2 s c p q) n < lc_m2 s c p q n
      · rw [lc_g_gt rfl hlt]
        have hR := lc_R2 (p := p) (q := q) hs hc n (by omega)
        exact Or.inr ⟨n, by omega, rfl, by omega⟩
      · rw [lc_g_le (by omega)]
        rcases ih (by omega) with t | ⟨d, hd, t⟩
        · exact Or.inl t
        · exact Or.inr ⟨d, by omega, t⟩
  rcases hm 3 (by omega) with t | ⟨d, hd, t1, t2⟩
  · have t' : lc_gr s c p q = -1000 := t
    refine Or.inl ⟨by omega, fun a b d ha hb hd => lc_nf (fun h => ?_)⟩
    have h1 := lc_gr_ub hs hc ha hb hd h
    have h2 := lc_S_nn hs hc a b d
    omega
  · have t' : lc_m2 s c p q d = lc_gr s c p q := t1
    rcases lc_m2_at (p := p) (q := q) hs hc d with e | ⟨e, a, b, ha, hb, e1, e2⟩
    · omega
    · exact Or.inr ⟨by omega, a, b, d, ha, hb, hd, e1, by omega⟩
theorem lc_law2 (hs : lc_W s) (hc : lc_W c) : lc_g (-2) (lc_gk p q) (lc_Sk s c) 27 = if 0 ≤ lc_gr s c p q then lc_gr s c p q else -2 := by
  refine lc_max3 (ok := lc_G p q) (v := lc_S s c) (fun a b d => (lc_S_nn hs hc a b d).1) (fun a b d ha hb hd h => ?_) ?_
  · have h1 := lc_gr_ub hs hc ha hb hd h
    have h2 := lc_S_nn hs hc a b d
    rw [if_pos (by omega)]
    exact h1
  · rcases lc_gr_at (p := p) (q := q) hs hc with ⟨e1, e2⟩ | ⟨e1, e2⟩
    · rw [if_neg e1]
      exact Or.inl ⟨rfl, e2⟩
    · rw [if_pos e1]
      exact Or.inr ⟨e1, e2⟩
/-! ways -/
theorem lc_k1_c (b : Nat) : lc_k1 s c p q b = lc_sm (fun a => if lc_o1 p q a b = true ∧ s a + c (3 * a + b) + s (3 + b) = lc_m1 s c p q b then 1 else 0) 3 := by
  show (if p (3 + b) = true then 0 else lc_h (-1000) (lc_okF q (lc_n0 p) b) (lc_vF s c (lc_m0 s p) 1 b) (lc_n0 p) 3) = _
  by_cases hp : p (3 + b) = true
  · rw [if_pos hp]
    refine (lc_sm_0 3 (fun a _ => if_neg (fun t => ?_))).symm
    rw [(lc_o1_iff.mp t.1).2.2] at hp
    exact absurd hp (by decide)
  · rw [if_neg hp, lc_h_eq]
    have em : lc_g (-1000) (lc_okF q (lc_n0 p) b) (lc_vF s c (lc_m0 s p) 1 b) 3 = lc_m1 s c p q b := by
      rw [lc_m1_e, if_neg hp]
    rw [em]
    refine lc_sm_c 3 (fun a _ => ?_)
    by_cases h : lc_okF q (lc_n0 p) b a = true
    · obtain ⟨t1, t2⟩ := lc_okF_iff.mp h
      have t3 := lc_n0_iff.mp t2
      have t4 : lc_n0 p a = 1 := if_neg (by rw [t3]; decide)
      rw [lc_v1_e t3, t4, h, lc_o1_iff.mpr ⟨t3, t1, lc_nf hp⟩]
    · rw [if_neg (fun t => h t.1), if_neg]
      intro t
      obtain ⟨u1, u2, u3⟩ := lc_o1_iff.mp t.1
      exact h (lc_okF_iff.mpr ⟨u2, lc_n0_iff.mpr u1⟩)
theorem lc_k2_c (hs : lc_W s) (hc : lc_W c) (d : Nat) : lc_k2 s c p q d = lc_sm (fun b => lc_sm (fun a => if lc_G p q a b d = true ∧ lc_S s c a b d = lc_m2 s c p q d then 1 else 0) 3) 3 := by
  show (if p (6 + d) = true then 0 else lc_h (-1000) (lc_okF q (lc_n1 p q) d) (lc_vF s c (lc_m1 s c p q) 2 d) (lc_k1 s c p q) 3) = _
  by_cases hp : p (6 + d) = true
  · rw [if_pos hp]
    refine (lc_sm_0 3 (fun b _ => lc_sm_0 3 (fun a _ => if_neg (fun t => ?_)))).symm
    rw [(lc_G_iff.mp t.1).2.2.1] at hp
    exact absurd hp (by decide)
  · rw [if_neg hp, lc_h_eq]
    have em : lc_g (-1000) (lc_okF q (lc_n1 p q) d) (lc_vF s c (lc_m1 s c p q) 2 d) 3 = lc_m2 s c p q d := by
      rw [lc_m2_e, if_neg hp]
    rw [em]
    refine lc_sm_c 3 (fun b hb => ?_)
    rw [lc_v2_e]
    by_cases h : lc_okF q (lc_n1 p q) d b = true ∧ lc_m1 s c p q b + c (3 * b + d) + s (6 + d) = lc_m2 s c p q d
    · rw [if_pos h, lc_k1_c]
      obtain ⟨t1, t2⟩ := lc_okF_iff.mp h.1
      have t3 := h.2
      refine lc_sm_c 3 (fun a ha => ?_)
      by_cases g : lc_o1 p q a b = true ∧ s a + c (3 * a + b) + s (3 + b) = lc_m1 s c p q b
      · obtain ⟨u1, u2, u3⟩ := lc_o1_iff.mp g.1
        have u4 := g.2
        rw [if_pos g, if_pos]
        refine ⟨lc_G_iff.mpr ⟨u1, u3, lc_nf hp, u2, t1⟩, ?_⟩
        unfold lc_S
        omega
      · rw [if_neg g, if_neg]
        intro t
        obtain ⟨u1, u2, u3, u4, u5⟩ := lc_G_iff.mp t.1
        have u6 := t.2
        unfold lc_S at u6
        exact g ⟨lc_o1_iff.mpr ⟨u1, u4, u2⟩, by omega⟩
    · rw [if_neg h]
      refine (lc_sm_0 3 (fun a ha => if_neg (fun t => ?_))).symm
      obtain ⟨u1, u2, u3, u4, u5⟩ := lc_G_iff.mp t.1
      have u6 := t.2
      unfold lc_S at u6
      have h1 := lc_m1_ub (s := s) (c := c) ha (lc_o1_iff.mpr ⟨u1, u4, u2⟩)
      have w1 := hs a
      have w2 := hs (3 + b)
      have w3 := hc (3 * a + b)
      have h2 : 0 ≤ lc_m1 s c p q b := by omega
      have h3 := lc_m2_ub1 hs hc hb h2 u5 u3
      exact h ⟨lc_okF_iff.mpr ⟨u5, (lc_n1_iff hs hc hb).mpr h2⟩, by omega⟩
theorem lc_law3 (hs : lc_W s) (hc : lc_W c) : lc_h (-2) (lc_gk p q) (lc_Sk s c) (fun _ => 1) 27 = if 0 ≤ lc_gr s c p q then lc_sm (fun a => if lc_m2 s c p q a = lc_gr s c p q then lc_k2 s c p q a else 0) 3 else 0 := by
  rw [lc_h_eq, lc_law2 hs hc]
  by_cases hg : 0 ≤ lc_gr s c p q
  · rw [if_pos hg, if_pos hg]
    have e : lc_sm (fun k => if lc_gk p q k = true ∧ lc_Sk s c k = lc_gr s c p q then 1 else 0) 27 = lc_s3 (fun a b d => if lc_G p q a b d = true ∧ lc_S s c a b d = lc_gr s c p q then 1 else 0) :=
      lc_smk (fun a b d => if lc_G p q a b d = true ∧ lc_S s c a b d = lc_gr s c p q then 1 else 0) (fun k => rfl)
    rw [e, lc_s3_r]
    refine lc_sm_c 3 (fun d hd => ?_)
    by_cases h : lc_m2 s c p q d = lc_gr s c p q
    · rw [if_pos h, lc_k2_c hs hc, h]
    · rw [if_neg h]
      refine lc_sm_0 3 (fun b hb => lc_sm_0 3 (fun a ha => if_neg (fun t => ?_)))
      have h1 := lc_m2_ub hs hc ha hb t.1
      have h2 := lc_gr_m (s := s) (c := c) (p := p) (q := q) d hd
      have h3 := t.2
      omega
  · rw [if_neg hg, if_neg hg]
    refine lc_sm_0 27 (fun k hk => if_neg (fun t => ?_))
    have h2 := lc_S_nn hs hc (k / 9) (k / 3 % 3) (k % 3)
    have h3 : lc_S s c (k / 9) (k / 3 % 3) (k % 3) = -2 := t.2
    omega
/-! ends of three labels -/
theorem lc_u0_e (a : Nat) : lc_u0 s c p q a = if p a = true then -1000 else if 0 ≤ lc_gB c q (lc_u1 s c p q) a then s a + lc_gB c q (lc_u1 s c p q) a else -1000 := by
  show (if p (3 * 0 + a) = true then -1000 else if 0 ≤ lc_gB c q (lc_u1 s c p q) a then s (3 * 0 + a) + lc_gB c q (lc_u1 s c p q) a else -1000) = _
  rw [Nat.mul_zero, Nat.zero_add]
theorem lc_u0_ub1 (hs : lc_W s) (hc : lc_W c) {a b : Nat} (hb : b < 3) (h0 : p a = false) (h1 : q (3 * a + b) = false) (h2 : 0 ≤ lc_u1 s c p q b) : s a + c (3 * a + b) + lc_u1 s c p q b ≤ lc_u0 s c p q a := by
  have hu := lc_g_ub (z := -1000) (ok := lc_okB q (lc_u1 s c p q) a) (v := lc_vB c (lc_u1 s c p q) a) 3 b hb (lc_okB_iff.mpr ⟨h1, h2⟩)
  have hu' : c (3 * a + b) + lc_u1 s c p q b ≤ lc_gB c q (lc_u1 s c p q) a := hu
  have w1 := hs a
  have w2 := hc (3 * a + b)
  rw [lc_u0_e, if_neg (by rw [h0]; decide), if_pos (by omega)]
  omega
theorem lc_u0_ub (hs : lc_W s) (hc : lc_W c) {a b d : Nat} (hb : b < 3) (hd : d < 3) (h : lc_G p q a b d = true) : lc_S s c a b d ≤ lc_u0 s c p q a := by
  obtain ⟨t1, t2, t3, t4, t5⟩ := lc_G_iff.mp h
  have h1 := lc_u1_ub (q := q) hs hd t2 t5 t3 hc
  have w1 := hs (3 + b)
  have w2 := hs (6 + d)
  have w3 := hc (3 * b + d)
  have h2 := lc_u0_ub1 hs hc hb t1 t4 (by omega)
  unfold lc_S
  omega
theorem lc_u0_at (hs : lc_W s) (hc : lc_W c) (a : Nat) : lc_u0 s c p q a = -1000 ∨ (0 ≤ lc_u0 s c p q a ∧ p a = false ∧ ∃ b d, b < 3 ∧ d < 3 ∧ lc_G p q a b d = true ∧ lc_S s c a b d = lc_u0 s c p q a) := by
  have e := lc_u0_e (s := s) (c := c) (p := p) (q := q) a
  by_cases h1 : p a = true
  · rw [e, if_pos h1]; exact Or.inl rfl
  · rw [if_neg h1] at e
    have hv : ∀ b, b < 3 → lc_okB q (lc_u1 s c p q) a b = true → 0 ≤ lc_vB c (lc_u1 s c p q) a b := by
      intro b _ hb
      have t1 := (lc_okB_iff.mp hb).2
      have t2 := hc (3 * a + b)
      unfold lc_vB
      omega
    rcases lc_g_at (z := -1000) (by decide) 3 hv with ⟨g1, g2⟩ | ⟨g1, b, hb, g2, g3⟩
    · have g1' : lc_gB c q (lc_u1 s c p q) a = -1000 := g1
      rw [if_neg (by rw [g1']; decide)] at e
      exact Or.inl e
    · have g1' : 0 ≤ lc_gB c q (lc_u1 s c p q) a := g1
      have g3' : c (3 * a + b) + lc_u1 s c p q b = lc_gB c q (lc_u1 s c p q) a := g3
      rw [if_pos g1'] at e
      obtain ⟨t1, t2⟩ := lc_okB_iff.mp g2
      have hs1 := hs a
      rcases lc_u1_at (p := p) (q := q) hs hc b with f | ⟨f, d, hd, f1, f2, f3, f4⟩
      · omega
      · refine Or.inr ⟨by omega, lc_nf h1, b, d, hb, hd, lc_G_iff.mpr ⟨lc_nf h1, f1, f3, t1, f2⟩, ?_⟩
        unfold lc_S
        omega
theorem lc_law6 {i l : Nat} (hi : i < 3) (hl : l < 3) (hs : lc_W s) (hc : lc_W c) : lc_g (-2) (fun k => lc_gk p q k && decide (lc_mine i (k / 9) (k / 3 % 3) (k % 3) = l)) (lc_Sk s c) 27 = if 0 ≤ lc_FS s c p q (3 * i + l) ∧ 0 ≤ lc_BS s c p q (3 * i + l) then lc_FS s c p q (3 * i + l) + lc_BS s c p q (3 * i + l) - s (3 * i + l) else -2 := by
  refine lc_max3 (ok := fun a b d => lc_G p q a b d && decide (lc_mine i a b d = l)) (v := lc_S s c) (fun a b d => (lc_S_nn hs hc a b d).1) ?_ ?_
  · intro a b d ha hb hd h
    have h' : lc_G p q a b d = true ∧ lc_mine i a b d = l := by simpa using h
    obtain ⟨h1, h2⟩ := h'
    obtain ⟨t1, t2, t3, t4, t5⟩ := lc_G_iff.mp h1
    have hS : lc_S s c a b d = s a + s (3 + b) + s (6 + d) + c (3 * a + b) + c (3 * b + d) := rfl
    have w1 := hs a
    have w2 := hs (3 + b)
    have w3 := hs (6 + d)
    have w4 := hc (3 * a + b)
    have w5 := hc (3 * b + d)
    have hi' : i = 0 ∨ i = 1 ∨ i = 2 := by omega
    rcases hi' with rfl | rfl | rfl
    · have e : a = l := h2
      subst e
      have e1 : lc_FS s c p q (3 * 0 + a) = s a := by
        rw [Nat.mul_zero, Nat.zero_add]
        exact (lc_tb0 ha).trans (lc_m0_e t1)
      have e2 : lc_BS s c p q (3 * 0 + a) = lc_u0 s c p q a := by
        rw [Nat.mul_zero, Nat.zero_add]
        exact lc_tb0 ha
      have e3 : s (3 * 0 + a) = s a := by rw [Nat.mul_zero, Nat.zero_add]
      have h3 := lc_u0_ub hs hc hb hd h1
      rw [e1, e2, e3, if_pos ⟨by omega, by omega⟩]
      omega
    · have e : b = l := h2
      subst e
      have e1 : lc_FS s c p q (3 * 1 + b) = lc_m1 s c p q b := lc_tb1 hb
      have e2 : lc_BS s c p q (3 * 1 + b) = lc_u1 s c p q b := lc_tb1 hb
      have e3 : s (3 * 1 + b) = s (3 + b) := rfl
      have h3 := lc_m1_ub (s := s) (c := c) ha (lc_o1_iff.mpr ⟨t1, t4, t2⟩)
      have h4 := lc_u1_ub (q := q) hs hd t2 t5 t3 hc
      rw [e1, e2, e3, if_pos ⟨by omega, by omega⟩]
      omega
    · have e : d = l := h2
      subst e
      have e1 : lc_FS s c p q (3 * 2 + d) = lc_m2 s c p q d := lc_tb2
      have e2 : lc_BS s c p q (3 * 2 + d) = lc_u2 s p d := lc_tb2
      have e3 : s (3 * 2 + d) = s (6 + d) := rfl
      have e4 : lc_u2 s p d = s (6 + d) := if_neg (by rw [t3]; decide)
      have h3 := lc_m2_ub hs hc ha hb h1
      rw [e1, e2, e3, e4, if_pos ⟨by omega, by omega⟩]
      omega
  · by_cases hX : 0 ≤ lc_FS s c p q (3 * i + l) ∧ 0 ≤ lc_BS s c p q (3 * i + l)
    · rw [if_pos hX]
      right
      have hi' : i = 0 ∨ i = 1 ∨ i = 2 := by omega
      rcases hi' with rfl | rfl | rfl
      · have e1 : lc_FS s c p q (3 * 0 + l) = lc_m0 s p l := by
          rw [Nat.mul_zero, Nat.zero_add]
          exact lc_tb0 hl
        have e2 : lc_BS s c p q (3 * 0 + l) = lc_u0 s c p q l := by
          rw [Nat.mul_zero, Nat.zero_add]
          exact lc_tb0 hl
        have e3 : s (3 * 0 + l) = s l := by rw [Nat.mul_zero, Nat.zero_add]
        rw [e1, e2] at hX
        rw [e1, e2, e3]
        rcases lc_u0_at (p := p) (q := q) hs hc l with f | ⟨f, f0, b, d, hb, hd, f1, f2⟩
        · omega
        · rw [lc_m0_e f0]
          refine ⟨by omega, l, b, d, hl, hb, hd, ?_, by omega⟩
          rw [f1, decide_eq_true (show lc_mine 0 l b d = l from rfl)]
          rfl
      · have e1 : lc_FS s c p q (3 * 1 + l) = lc_m1 s c p q l := lc_tb1 hl
        have e2 : lc_BS s c p q (3 * 1 + l) = lc_u1 s c p q l := lc_tb1 hl
        have e3 : s (3 * 1 + l) = s (3 + l) := rfl
        rw [e1, e2] at hX
        rw [e1, e2, e3]
        rcases lc_m1_at (p := p) (q := q) hs hc l with f | ⟨f, a, ha, f1, f2⟩
        · omega
        · rcases lc_u1_at (p := p) (q := q) hs hc l with g | ⟨g, d, hd, g1, g2, g3, g4⟩
          · omega
          · obtain ⟨u1, u2, u3⟩ := lc_o1_iff.mp f1
            have hG : lc_G p q a l d = true := lc_G_iff.mpr ⟨u1, u3, g3, u2, g2⟩
            have hS : lc_S s c a l d = s a + s (3 + l) + s (6 + d) + c (3 * a + l) + c (3 * l + d) := rfl
            have w1 := lc_S_nn hs hc a l d
            refine ⟨by omega, a, l, d, ha, hl, hd, ?_, by omega⟩
            rw [hG, decide_eq_true (show lc_mine 1 a l d = l from rfl)]
            rfl
      · have e1 : lc_FS s c p q (3 * 2 + l) = lc_m2 s c p q l := lc_tb2
        have e2 : lc_BS s c p q (3 * 2 + l) = lc_u2 s p l := lc_tb2
        have e3 : s (3 * 2 + l) = s (6 + l) := rfl
        rw [e1, e2] at hX
        have hp := (lc_u2_iff hs).mp hX.2
        have e4 : lc_u2 s p l = s (6 + l) := if_neg (by rw [hp]; decide)
        rw [e1, e2, e3, e4]
        rcases lc_m2_at (p := p) (q := q) hs hc l with f | ⟨f, a, b, ha, hb, f1, f2⟩
        · omega
        · refine ⟨by omega, a, b, l, ha, hb, hl, ?_, by omega⟩
          rw [f1, decide_eq_true (show lc_mine 2 a b l = l from rfl)]
          rfl
    · rw [if_neg hX]
      left
      refine ⟨rfl, fun a b d ha hb hd => lc_nf (fun h => ?_)⟩
      have h' : lc_G p q a b d = true ∧ lc_mine i a b d = l := by simpa using h
      obtain ⟨h1, h2⟩ := h'
      obtain ⟨t1, t2, t3, t4, t5⟩ := lc_G_iff.mp h1
      have hS : lc_S s c a b d = s a + s (3 + b) + s (6 + d) + c (3 * a + b) + c (3 * b + d) := rfl
      have w1 := hs a
      have w2 := hs (3 + b)
      have w3 := hs (6 + d)
      have w4 := hc (3 * a + b)
      have w5 := hc (3 * b + d)
      apply hX
      have hi' : i = 0 ∨ i = 1 ∨ i = 2 := by omega
      rcases hi' with rfl | rfl | rfl
      · have e : a = l := h2
        subst e
        have e1 : lc_FS s c p q (3 * 0 + a) = s a := by
          rw [Nat.mul_zero, Nat.zero_add]
          exact (lc_tb0 ha).trans (lc_m0_e t1)
        have e2 : lc_BS s c p q (3 * 0 + a) = lc_u0 s c p q a := by
          rw [Nat.mul_zero, Nat.zero_add]
          exact lc_tb0 ha
        have h3 := lc_u0_ub hs hc hb hd h1
        rw [e1, e2]
        exact ⟨by omega, by omega⟩
      · have e : b = l := h2
        subst e
        have e1 : lc_FS s c p q (3 * 1 + b) = lc_m1 s c p q b := lc_tb1 hb
        have e2 : lc_BS s c p q (3 * 1 + b) = lc_u1 s c p q b := lc_tb1 hb
        have h3 := lc_m1_ub (s := s) (c := c) ha (lc_o1_iff.mpr ⟨t1, t4, t2⟩)
        have h4 := lc_u1_ub (q := q) hs hd t2 t5 t3 hc
        rw [e1, e2]
        exact ⟨by omega, by omega⟩
      · have e : d = l := h2
        subst e
        have e1 : lc_FS s c p q (3 * 2 + d) = lc_m2 s c p q d := lc_tb2
        have e2 : lc_BS s c p q (3 * 2 + d) = lc_u2 s p d := lc_tb2
        have e4 : lc_u2 s p d = s (6 + d) := if_neg (by rw [t3]; decide)
        have h3 := lc_m2_ub hs hc ha hb h1
        rw [e1, e2, e4]
        exact ⟨by omega, by omega⟩
/-! the first best labelling -/
theorem lc_pick_at {f : Nat → Bool} (h : ∃ a, a < 3 ∧ f a = true) : f (lc_pick f) = true ∧ ∀ a, a < lc_pick f → f a = false := by
  unfold lc_pick
  cases h0 : f 0 with
  | true =>
    rw [if_pos rfl]
    exact ⟨h0, fun a ha => absurd ha (by omega)⟩
  | false =>
    rw [if_neg (by decide)]
    cases h1 : f 1 with
    | true =>
      rw [if_pos rfl]
      refine ⟨h1, fun a ha => ?_⟩
      have : a = 0 := by omega
      rw [this, h0]
    | false =>
      rw [if_neg (by decide)]
      obtain ⟨a, ha, hf⟩ := h
      have ha' : a = 0 ∨ a = 1 ∨ a = 2 := by omega
      rcases ha' with rfl | rfl | rfl
      · rw [h0] at hf; exact absurd hf (by decide)
      · rw [h1] at hf; exact absurd hf (by decide)
      · refine ⟨hf, fun a ha => ?_⟩
        have ha' : a = 0 ∨ a = 1 := by omega
        rcases ha' with rfl | rfl
        · exact h0
        · exact h1
theorem lc_rc0_iff {u : Nat → Int} {r : Int} {a : Nat} : lc_rc0 u r a = true ↔ 0 ≤ u a ∧ u a = r := by
  unfold lc_rc0
  simp
theorem lc_rc_iff {u : Nat → Int} {t : Nat} {r : Int} {a : Nat} : lc_rc c q u t r a = true ↔ 0 ≤ u a ∧ q (3 * t + a) = false ∧ u a + c (3 * t + a) = r := by
  unfold lc_rc
  simp
theorem lc_first (hs : lc_W s) (hc : lc_W c) (hg : 0 ≤ lc_gr s c p q) :
    (lc_G p q (lc_t0 s c p q) (lc_t1 s c p q) (lc_t2 s c p q) = true ∧ lc_S s c (lc_t0 s c p q) (lc_t1 s c p q) (lc_t2 s c p q) = lc_gr s c p q) ∧
    ∀ a b d, a < 3 → b < 3 → d < 3 → lc_G p q a b d = true → lc_S s c a b d = lc_gr s c p q → 9 * lc_t0 s c p q + 3 * lc_t1 s c p q + lc_t2 s c p q ≤ 9 * a + 3 * b + d := by
  have l0 : lc_t0 s c p q < 3 := lc_pick_lt _
  have l1 : lc_t1 s c p q < 3 := lc_pick_lt _
  have l2 : lc_t2 s c p q < 3 := lc_pick_lt _
  have u0le : ∀ a, a < 3 → lc_u0 s c p q a ≤ lc_gr s c p q := by
    intro a ha
    rcases lc_u0_at (p := p) (q := q) hs hc a with f | ⟨f, f0, b, d, hb, hd, f1, f2⟩
    · omega
    · have := lc_gr_ub hs hc ha hb hd f1
      omega
  have k0 : ∃ a, a < 3 ∧ lc_rc0 (lc_u0 s c p q) (lc_gr s c p q) a = true := by
    rcases lc_gr_at (p := p) (q := q) hs hc with ⟨e1, e2⟩ | ⟨e1, a, b, d, ha, hb, hd, e2, e3⟩
    · exact absurd hg e1
    · have h1 := lc_u0_ub hs hc hb hd e2
      have h2 := u0le a ha
      exact ⟨a, ha, lc_rc0_iff.mpr ⟨by omega, by omega⟩⟩
  have P0 : lc_rc0 (lc_u0 s c p q) (lc_gr s c p q) (lc_t0 s c p q) = true ∧ ∀ a, a < lc_t0 s c p q → lc_rc0 (lc_u0 s c p q) (lc_gr s c p q) a = false := lc_pick_at k0
  obtain ⟨v0, m0⟩ := P0
  obtain ⟨v01, v02⟩ := lc_rc0_iff.mp v0
  have he1 : lc_e1 s c p q = lc_gr s c p q - s (lc_t0 s c p q) := rfl
  have u1le : ∀ b, b < 3 → p (lc_t0 s c p q) = false → q (3 * lc_t0 s c p q + b) = false → 0 ≤ lc_u1 s c p q b → lc_u1 s c p q b + c (3 * lc_t0 s c p q + b) ≤ lc_e1 s c p q := by
    intro b hb hp hq hu
    have := lc_u0_ub1 hs hc hb hp hq hu
    omega
  have k1 : p (lc_t0 s c p q) = false ∧ ∃ b, b < 3 ∧ lc_rc c q (lc_u1 s c p q) (lc_t0 s c p q) (lc_e1 s c p q) b = true := by
    rcases lc_u0_at (p := p) (q := q) hs hc (lc_t0 s c p q) with f | ⟨f, f0, b, d, hb, hd, f1, f2⟩
    · omega
    · obtain ⟨t1, t2, t3, t4, t5⟩ := lc_G_iff.mp f1
      have h1 := lc_u1_ub (q := q) hs hd t2 t5 t3 hc
      have w1 := hs (3 + b)
      have w2 := hs (6 + d)
      have w3 := hc (3 * b + d)
      have h2 := u1le b hb t1 t4 (by omega)
      unfold lc_S at f2
      exact ⟨f0, b, hb, lc_rc_iff.mpr ⟨by omega, t4, by omega⟩⟩
  obtain ⟨p0, k1⟩ := k1
  have P1 : lc_rc c q (lc_u1 s c p q) (lc_t0 s c p q) (lc_e1 s c p q) (lc_t1 s c p q) = true ∧ ∀ b, b < lc_t1 s c p q → lc_rc c q (lc_u1 s c p q) (lc_t0 s c p q) (lc_e1 s c p q) b = false := lc_pick_at k1
  obtain ⟨v1, m1⟩ := P1
  obtain ⟨v11, v12, v13⟩ := lc_rc_iff.mp v1
  have he2 : lc_e2 s c p q = lc_e1 s c p q - c (3 * lc_t0 s c p q + lc_t1 s c p q) - s (3 + lc_t1 s c p q) := rfl
  have k2 : p (3 + lc_t1 s c p q) = false ∧ ∃ d, d < 3 ∧ lc_rc c q (lc_u2 s p) (lc_t1 s c p q) (lc_e2 s c p q) d = true := by
    rcases lc_u1_at (p := p) (q := q) hs hc (lc_t1 s c p q) with f | ⟨f, d, hd, f1, f2, f3, f4⟩
    · omega
    · have e4 : lc_u2 s p d = s (6 + d) := if_neg (by rw [f3]; decide)
      have w2 := hs (6 + d)
      exact ⟨f1, d, hd, lc_rc_iff.mpr ⟨by omega, f2, by omega⟩⟩
  obtain ⟨p1, k2⟩ := k2
  have P2 : lc_rc c q (lc_u2 s p) (lc_t1 s c p q) (lc_e2 s c p q) (lc_t2 s c p q) = true ∧ ∀ d, d < lc_t2 s c p q → lc_rc c q (lc_u2 s p) (lc_t1 s c p q) (lc_e2 s c p q) d = false := lc_pick_at k2
  obtain ⟨v2, m2⟩ := P2
  obtain ⟨v21, v22, v23⟩ := lc_rc_iff.mp v2
  have p2 := (lc_u2_iff hs).mp v21
  have e2 : lc_u2 s p (lc_t2 s c p q) = s (6 + lc_t2 s c p q) := if_neg (by rw [p2]; decide)
  refine ⟨⟨lc_G_iff.mpr ⟨p0, p1, p2, v12, v22⟩, ?_⟩, ?_⟩
  · unfold lc_S
    omega
  · intro a b d ha hb hd hG hS
    obtain ⟨t1, t2, t3, t4, t5⟩ := lc_G_iff.mp hG
    have hS' : s a + s (3 + b) + s (6 + d) + c (3 * a + b) + c (3 * b + d) = lc_gr s c p q := hS
    have w1 := hs (3 + b)
    have w2 := hs (6 + d)
    have w3 := hc (3 * b + d)
    have q0 : lc_t0 s c p q ≤ a := by
      rcases Nat.lt_or_ge a (lc_t0 s c p q) with h | h
      · exfalso
        have h1 := lc_u0_ub hs hc hb hd hG
        have h2 := u0le a ha
        have h3 := m0 a h
        rw [lc_rc0_iff.mpr ⟨by omega, by omega⟩] at h3
        exact absurd h3 (by decide)
      · exact h
    rcases Nat.lt_or_ge (lc_t0 s c p q) a with h | h
    · omega
    · have ea : a = lc_t0 s c p q := by omega
      subst ea
      have hu1 := lc_u1_ub (q := q) hs hd t2 t5 t3 hc
      have hu2 := u1le b hb t1 t4 (by omega)
      have q1 : lc_t1 s c p q ≤ b := by
        rcases Nat.lt_or_ge b (lc_t1 s c p q) with h | h
        · exfalso
          have h3 := m1 b h
          rw [lc_rc_iff.mpr ⟨by omega, t4, by omega⟩] at h3
          exact absurd h3 (by decide)
        · exact h
      rcases Nat.lt_or_ge (lc_t1 s c p q) b with h | h
      · omega
      · have eb : b = lc_t1 s c p q := by omega
        subst eb
        have e4 : lc_u2 s p d = s (6 + d) := if_neg (by rw [t3]; decide)
        have q2 : lc_t2 s c p q ≤ d := by
          rcases Nat.lt_or_ge d (lc_t2 s c p q) with h | h
          · exfalso
            have h3 := m2 d h
            rw [lc_rc_iff.mpr ⟨by omega, t5, by omega⟩] at h3
            exact absurd h3 (by decide)
          · exact h
        omega
theorem lc_law8 (hs : lc_W s) (hc : lc_W c) : (¬ 0 ≤ lc_gr s c p q ∧ lc_f (-2) (lc_gk p q) (lc_Sk s c) 27 = -1) ∨ (0 ≤ lc_gr s c p q ∧ lc_f (-2) (lc_gk p q) (lc_Sk s c) 27 = ((9 * lc_t0 s c p q + 3 * lc_t1 s c p q + lc_t2 s c p q : Nat) : Int)) := by
  have hv : ∀ k, k < 27 → lc_gk p q k = true → 0 ≤ lc_Sk s c k := fun k _ _ => (lc_S_nn hs hc _ _ _).1
  have l2 := lc_law2 (p := p) (q := q) hs hc
  rcases lc_f_at (z := -2) (by decide) 27 hv with ⟨e1, e2, e3⟩ | ⟨t, e1, e2, e3, e4, e5⟩
  · left
    refine ⟨fun h => ?_, e1⟩
    rw [if_pos h] at l2
    omega
  · right
    have hg : 0 ≤ lc_gr s c p q := by
      by_cases h : 0 ≤ lc_gr s c p q
      · exact h
      · rw [if_neg h] at l2
        have := hv t e2 e3
        omega
    refine ⟨hg, ?_⟩
    rw [if_pos hg] at l2
    rw [l2] at e4
    obtain ⟨⟨f1, f2⟩, f3⟩ := lc_first hs hc hg
    have l0 : lc_t0 s c p q < 3 := lc_pick_lt _
    have l1 : lc_t1 s c p q < 3 := lc_pick_lt _
    have l2' : lc_t2 s c p q < 3 := lc_pick_lt _
    have a1 := f3 (t / 9) (t / 3 % 3) (t % 3) (by omega) (by omega) (by omega) e3 e4
    have hK1 : lc_gk p q (9 * lc_t0 s c p q + 3 * lc_t1 s c p q + lc_t2 s c p q) = true := by
      unfold lc_gk
      rw [show (9 * lc_t0 s c p q + 3 * lc_t1 s c p q + lc_t2 s c p q) / 9 = lc_t0 s c p q by omega, show (9 * lc_t0 s c p q + 3 * lc_t1 s c p q + lc_t2 s c p q) / 3 % 3 = lc_t1 s c p q by omega, show (9 * lc_t0 s c p q + 3 * lc_t1 s c p q + lc_t2 s c p q) % 3 = lc_t2 s c p q by omega]
      exact f1
    have hK2 : lc_Sk s c (9 * lc_t0 s c p q + 3 * lc_t1 s c p q + lc_t2 s c p q) = lc_gr s c p q := by
      unfold lc_Sk
      rw [show (9 * lc_t0 s c p q + 3 * lc_t1 s c p q + lc_t2 s c p q) / 9 = lc_t0 s c p q by omega, show (9 * lc_t0 s c p q + 3 * lc_t1 s c p q + lc_t2 s c p q) / 3 % 3 = lc_t1 s c p q by omega, show (9 * lc_t0 s c p q + 3 * lc_t1 s c p q + lc_t2 s c p q) % 3 = lc_t2 s c p q by omega]
      exact f2
    have a2 : t ≤ 9 * lc_t0 s c p q + 3 * lc_t1 s c p q + lc_t2 s c p q := by
      rcases Nat.lt_or_ge (9 * lc_t0 s c p q + 3 * lc_t1 s c p q + lc_t2 s c p q) t with h | h
      · exfalso
        have := e5 _ h hK1
        omega
      · exact h
    rw [e1]
    omega
end
end
section
/-! ===== part 12: the law's small functions, its object and the loop that sets it up ===== -/
def lc_ws (w : Int64) (j : Nat) : Int := ((((w.toUInt64 >>> ((3 * nI j).toInt64.toUInt64 &&& Int64.toUInt64 63)).toInt64).toInt32) &&& 7).toInt
def lc_wc (w : Int64) (j : Nat) : Int := ((((w.toUInt64 >>> ((27 + (3 * nI j)).toInt64.toUInt64 &&& Int64.toUInt64 63)).toInt64).toInt32) &&& 7).toInt
def lc_bt (x : Int32) (j : Nat) : Bool := decide (((x >>> (nI j &&& 31)) &&& 1) = 1)
def lc_bq (x : Int32) (j : Nat) : Bool := lc_bt x (9 + j)
theorem lc_and7 (x : Int32) : 0 ≤ (x &&& 7).toInt ∧ (x &&& 7).toInt ≤ 7 := by
  obtain ⟨t, ht, et⟩ := pk_andE x (m := 7) 3 (by decide)
  have ht' : t < 8 := ht
  rw [et, nI_toInt (by omega)]
  omega
theorem lc_ws_W (w : Int64) : lc_W (lc_ws w) := fun _ => lc_and7 _
theorem lc_wc_W (w : Int64) : lc_W (lc_wc w) := fun _ => lc_and7 _
theorem lc_single {post : Int32 → Prop} {w : Int64} {i a : Nat} (H : post (lc_i (lc_ws w (3 * i + a)))) : wpL_single post () w (nI i) (nI a) := by
  unfold wpL_single
  rw [lc_ix]
  have e : lc_i (lc_ws w (3 * i + a)) = ((((w.toUInt64 >>> ((3 * nI (3 * i + a)).toInt64.toUInt64 &&& Int64.toUInt64 63)).toInt64).toInt32) &&& 7) := (lc_i_of _).symm
  rw [e] at H
  exact H
theorem lc_couple {post : Int32 → Prop} {w : Int64} {i a : Nat} (H : post (lc_i (lc_wc w (3 * i + a)))) : wpL_couple post () w (nI i) (nI a) := by
  unfold wpL_couple
  rw [lc_ix]
  have e : lc_i (lc_wc w (3 * i + a)) = ((((w.toUInt64 >>> ((27 + (3 * nI (3 * i + a))).toInt64.toUInt64 &&& Int64.toUInt64 63)).toInt64).toInt32) &&& 7) := (lc_i_of _).symm
  rw [e] at H
  exact H
theorem lc_bt_t {x : Int32} {j : Nat} : ((x >>> (nI j &&& 31)) &&& 1) = 1 ↔ lc_bt x j = true := by
  unfold lc_bt
  simp
theorem lc_bt_f {x : Int32} {j : Nat} : ((x >>> (nI j &&& 31)) &&& 1) = 0 ↔ lc_bt x j = false := by
  unfold lc_bt
  obtain ⟨t, ht, et⟩ := pk_andE (x >>> (nI j &&& 31)) (m := 1) 1 (by decide)
  have ht' : t = 0 ∨ t = 1 := by
    have : t < 2 := ht
    omega
  rw [et]
  rcases ht' with rfl | rfl
  · decide
  · decide
theorem lc_good {post : Int32 → Prop} {x : Int32} {a b d : Nat} (H : post (lc_bI (lc_G (lc_bt x) (lc_bq x) a b d))) : wpL_good post () x (nI a) (nI b) (nI d) := by
  have e1 : 3 + nI b = nI (3 + b) := by rw [show (3 : Int32) = nI 3 from by decide, nI_add]
  have e2 : 6 + nI d = nI (6 + d) := by rw [show (6 : Int32) = nI 6 from by decide, nI_add]
  have e3 : ∀ y z : Nat, 9 + 3 * nI y + nI z = nI (9 + (3 * y + z)) := by
    intro y z
    rw [show (9 : Int32) = nI 9 from by decide, show (3 : Int32) = nI 3 from by decide, pk_mul, nI_add, nI_add, Nat.add_assoc]
  unfold wpL_good
  rw [e1, e2, e3, e3]
  unfold lc_G at H
  refine br_c (fun h1 => ?_) (fun h1 => ?_)
  · rw [lc_bt_t.mp h1] at H
    exact H
  · rw [lc_nf (fun t => h1 (lc_bt_t.mpr t))] at H
    refine br_c (fun h2 => ?_) (fun h2 => ?_)
    · rw [lc_bt_t.mp h2] at H
      exact H
    · rw [lc_nf (fun t => h2 (lc_bt_t.mpr t))] at H
      refine br_c (fun h3 => ?_) (fun h3 => ?_)
      · rw [lc_bt_t.mp h3] at H
        exact H
      · rw [lc_nf (fun t => h3 (lc_bt_t.mpr t))] at H
        refine br_c (fun h4 => ?_) (fun h4 => ?_)
        · have h4' : lc_bq x (3 * a + b) = false := lc_bt_f.mp h4
          rw [h4'] at H
          refine br_c (fun h5 => ?_) (fun h5 => ?_)
          · have h5' : lc_bq x (3 * b + d) = false := lc_bt_f.mp h5
            rw [h5'] at H
            exact H
          · have h5' : lc_bq x (3 * b + d) = true := by
              cases e : lc_bq x (3 * b + d) with
              | true => rfl
              | false => exact absurd (lc_bt_f.mpr e) h5
            rw [h5'] at H
            exact H
        · have h4' : lc_bq x (3 * a + b) = true := by
            cases e : lc_bq x (3 * a + b) with
            | true => rfl
            | false => exact absurd (lc_bt_f.mpr e) h4
          rw [h4'] at H
          exact H
theorem lc_byte8 {v : Int} (h0 : 0 ≤ v) (h7 : v ≤ 7) : (lc_i v).toInt8.toInt32 = lc_i v := by
  have hd : ∀ t, t < 8 → (nI t).toInt8.toInt32 = nI t := by decide
  have e : lc_i v = nI v.toNat := by
    rw [lc_i_n, Int.toNat_of_nonneg h0]
  rw [e]
  exact hd v.toNat (by omega)
theorem lc_narB (v : Bool) : vp_nar .boolean (lc_bI v) = lc_bI v := by
  cases v with
  | false => rfl
  | true => rfl
section
variable {post : Int32 → St2 → Prop} {rdy : Int32} {a1 a2 a3 a4 a5 a6 a7 a8 a11 a12 a13 a14 : Nat → Int32} {a9 a10 : Nat → Int64}
theorem lc_kix (k : Nat) : 3 * nI (k / 3) + nI (k % 3) = nI k := by
  rw [lc_ix, show 3 * (k / 3) + k % 3 = k by omega]
theorem lc_weigh {k : Nat} {v : Int} (hk : k < 9) (h0 : 0 ≤ v) (h7 : v ≤ 7)
    (H : post 1 (3, 0, upd a1 k (lc_i v), a2, a3, a4, a5, a6, a7, a8, a9, a10, a11, a12, a13, a14)) :
    wpX_weigh post (3, rdy, a1, a2, a3, a4, a5, a6, a7, a8, a9, a10, a11, a12, a13, a14) (nI (k / 3)) (nI (k % 3)) (lc_i v) := by
  have e1 := lc_kix k
  have c1 : (nI k).toNatClampNeg = k := nI_clamp (by omega)
  have v1 : vp_in (nI k) 18 := vp_in_nI (by omega) (by decide)
  have hb : lc_bd v := ⟨by omega, by omega⟩
  unfold wpX_weigh
  refine lc_isPlace (by omega) (by omega) (br_f (by decide) ?_)
  simp only [e1, c1, v1, true_and, forall_eq, lc_byte8 h0 h7]
  refine br_f (by rw [lc_i0]; exact fun t => absurd ((lc_i_lt hb lc_b0).mp t) (by omega)) (br_t ?_ H)
  rw [show (9 : Int32) = lc_i 9 from by decide]
  exact (lc_i_le hb ⟨by decide, by decide⟩).mpr (by omega)
theorem lc_weighCouple {k : Nat} {v : Int} (hk : k < 9) (h0 : 0 ≤ v) (h7 : v ≤ 7)
    (H : post 1 (3, 0, a1, a2, upd a3 k (lc_i v), a4, a5, a6, a7, a8, a9, a10, a11, a12, a13, a14)) :
    wpX_weighCouple post (3, rdy, a1, a2, a3, a4, a5, a6, a7, a8, a9, a10, a11, a12, a13, a14) (nI (k / 3)) (nI (k % 3)) (lc_i v) := by
  have e1 := lc_kix k
  have c1 : (nI k).toNatClampNeg = k := nI_clamp (by omega)
  have v1 : vp_in (nI k) 9 := vp_in_nI (by omega) (by decide)
  have hb : lc_bd v := ⟨by omega, by omega⟩
  unfold wpX_weighCouple
  refine lc_isLabel (by omega) (br_f (by decide) (lc_isLabel (by omega) (br_f (by decide) ?_)))
  simp only [e1, c1, v1, true_and, forall_eq, lc_byte8 h0 h7]
  refine br_f (by rw [lc_i0]; exact fun t => absurd ((lc_i_lt hb lc_b0).mp t) (by omega)) (br_t ?_ H)
  rw [show (9 : Int32) = lc_i 9 from by decide]
  exact (lc_i_le hb ⟨by decide, by decide⟩).mpr (by omega)
theorem lc_bar {k : Nat} {v : Bool} (hk : k < 9)
    (H : post 1 (3, 0, a1, upd a2 k (lc_bI v), a3, a4, a5, a6, a7, a8, a9, a10, a11, a12, a13, a14)) :
    wpX_bar post (3, rdy, a1, a2, a3, a4, a5, a6, a7, a8, a9, a10, a11, a12, a13, a14) (nI (k / 3)) (nI (k % 3)) (lc_bI v) := by
  have e1 := lc_kix k
  have c1 : (nI k).toNatClampNeg = k := nI_clamp (by omega)
  have v1 : vp_in (nI k) 18 := vp_in_nI (by omega) (by decide)
  unfold wpX_bar
  refine lc_isPlace (by omega) (by omega) (br_f (by decide) ?_)
  simp only [e1, c1, v1, true_and, forall_eq, lc_narB]
  exact H
theorem lc_barCouple {k : Nat} {v : Bool} (hk : k < 9)
    (H : post 1 (3, 0, a1, a2, a3, upd a4 k (lc_bI v), a5, a6, a7, a8, a9, a10, a11, a12, a13, a14)) :
    wpX_barCouple post (3, rdy, a1, a2, a3, a4, a5, a6, a7, a8, a9, a10, a11, a12, a13, a14) (nI (k / 3)) (nI (k % 3)) (lc_bI v) := by
  have e1 := lc_kix k
  have c1 : (nI k).toNatClampNeg = k := nI_clamp (by omega)
  have v1 : vp_in (nI k) 9 := vp_in_nI (by omega) (by decide)
  unfold wpX_barCouple
  refine lc_isLabel (by omega) (br_f (by decide) (lc_isLabel (by omega) (br_f (by decide) ?_)))
  simp only [e1, c1, v1, true_and, forall_eq, lc_narB]
  exact H
end
/-- the object, new: only its length and its flag matter -/
theorem lc_init {post : St2 → Prop} (H : ∀ a1 a3, post (3, 0, a1, (fun _ => 0), a3, (fun _ => 0), (fun _ => 0), (fun _ => 0), (fun _ => 0), (fun _ => 0), (fun _ => 0), (fun _ => 0), (fun _ => 0), (fun _ => 0), (fun _ => 0), (fun _ => 0))) :
    wpX_init post 14 224 (0, 0) 3 := by
  have l164 : ∀ b1 : Nat → Int32, ∃ fu, wX_init_164 post 14 224 14 224 3 0 fu 0 b1 (fun _ => 0) (fun _ => 0) (fun _ => 0) (fun _ => 0) (fun _ => 0) (fun _ => 0) (fun _ => 0) (fun _ => 0) (fun _ => 0) (fun _ => 0) (fun _ => 0) (fun _ => 0) (fun _ => 0) := by
    intro b1
    refine pk_loop (fun n k T => wX_init_164 post 14 224 14 224 3 0 n (nI k) b1 (fun _ => 0) T (fun _ => 0) (fun _ => 0) (fun _ => 0) (fun _ => 0) (fun _ => 0) (fun _ => 0) (fun _ => 0) (fun _ => 0) (fun _ => 0) (fun _ => 0) (fun _ => 0)) (fun _ _ => True) 9 0 (fun _ => 0) (by omega) trivial ?_ ?_
    · intro n T _
      exact br_t (by decide) (H b1 T)
    · intro n k T hk _ hw
      exact br_f (nI_ge (b := 9) hk (by decide)) ⟨vp_in_nI (by omega) (by decide), nm_e (nm_r (nI_1 k) (hw _ trivial))⟩
  have l143 : ∃ fu, wX_init_143 post 14 224 14 224 3 0 fu 0 (fun _ => 0) (fun _ => 0) (fun _ => 0) (fun _ => 0) (fun _ => 0) (fun _ => 0) (fun _ => 0) (fun _ => 0) (fun _ => 0) (fun _ => 0) (fun _ => 0) (fun _ => 0) (fun _ => 0) (fun _ => 0) := by
    refine pk_loop (fun n k T => wX_init_143 post 14 224 14 224 3 0 n (nI k) T (fun _ => 0) (fun _ => 0) (fun _ => 0) (fun _ => 0) (fun _ => 0) (fun _ => 0) (fun _ => 0) (fun _ => 0) (fun _ => 0) (fun _ => 0) (fun _ => 0) (fun _ => 0) (fun _ => 0)) (fun _ _ => True) 18 0 (fun _ => 0) (by omega) trivial ?_ ?_
    · intro n T _
      exact br_t (by decide) (l164 T)
    · intro n k T hk _ hw
      exact br_f (nI_ge (b := 18) hk (by decide)) ⟨vp_in_nI (by omega) (by decide), nm_e (nm_r (nI_1 k) (hw _ trivial))⟩
  unfold wpX_init
  refine ⟨by decide, by decide, by decide, by decide, by decide, by decide, by decide, by decide, by decide, by decide, by decide, by decide, by decide, by decide, by decide, by decide, by decide, by decide, by decide, by decide, by decide, by decide, by decide, by decide, by decide, by decide, by decide, by decide, ?_⟩
  exact br_t (by decide) (br_t (by decide) l143)
section
variable {post : Int32 → St0 → Prop} {mc ms kc ks : Nat} {w : Int64} {x2 x3 : Int32} {J : Int32 → Int32 → Int32 → (Nat → Int32) → (Nat → Int32) → (Nat → Int32) → (Nat → Int32) → (Nat → Int32) → (Nat → Int32) → (Nat → Int32) → (Nat → Int32) → (Nat → Int64) → (Nat → Int64) → (Nat → Int32) → (Nat → Int32) → (Nat → Int32) → (Nat → Int32) → Prop} {rdy : Int32} {a1 a2 a3 a4 a5 a6 a7 a8 a11 a12 a13 a14 : Nat → Int32} {a9 a10 : Nat → Int64}
theorem lc_145 {k : Nat} {v : Bool} (hk : k < 9) (H : J (nI (k + 1)) 3 0 a1 a2 a3 (upd a4 k (lc_bI v)) a5 a6 a7 a8 a9 a10 a11 a12 a13 a14) :
    wL_lawOf_145 post mc ms J w x2 x3 (nI k) (lc_bI v) (nI (k % 3)) (nI (k / 3)) kc ks 3 rdy a1 a2 a3 a4 a5 a6 a7 a8 a9 a10 a11 a12 a13 a14 := by
  unfold wL_lawOf_145
  exact lc_barCouple hk (br_f (by decide) (nm_r (nI_1 k) H))
theorem lc_111 {k : Nat} {v : Bool} (hk : k < 9) (H : J (nI (k + 1)) 3 0 a1 (upd a2 k (lc_bI v)) a3 (upd a4 k (lc_bI (lc_bq x2 k))) a5 a6 a7 a8 a9 a10 a11 a12 a13 a14) :
    wL_lawOf_111 post mc ms J w x2 x3 (nI k) (lc_bI v) (nI (k % 3)) (nI (k / 3)) kc ks 3 rdy a1 a2 a3 a4 a5 a6 a7 a8 a9 a10 a11 a12 a13 a14 := by
  have h3 : ¬ (3 : Int32) = 0 := by decide
  have e9 : 9 + nI k = nI (9 + k) := by rw [show (9 : Int32) = nI 9 from by decide, nI_add]
  have f5 : nI k / 3 = nI (k / 3) := lc_div3 (by omega)
  have f6 : nI k - nI (k / 3) * 3 = nI (k % 3) := by
    rw [← f5]
    exact lc_rem3 (by omega)
  unfold wL_lawOf_111
  refine lc_bar hk (br_f (by decide) ⟨h3, h3, ?_⟩)
  rw [f5, f6, e9]
  refine br_c (fun h => ?_) (fun h => ?_)
  · have h' : lc_bq x2 k = true := lc_bt_t.mp h
    rw [h'] at H
    exact lc_145 (v := true) hk H
  · have h' : lc_bq x2 k = false := lc_nf (fun t => h (lc_bt_t.mpr t))
    rw [h'] at H
    exact lc_145 (v := false) hk H
/-- what is set up so far -/
def lc_InK (s c : Nat → Int) (p q : Nat → Bool) (n : Nat) (a1 a2 a3 a4 : Nat → Int32) : Prop := ∀ j, j < n → a1 j = lc_i (s j) ∧ a2 j = lc_bI (p j) ∧ a3 j = lc_i (c j) ∧ a4 j = lc_bI (q j)
theorem lc_InK_put {s c : Nat → Int} {p q : Nat → Bool} {n : Nat} (h : lc_InK s c p q n a1 a2 a3 a4) : lc_InK s c p q (n + 1) (upd a1 n (lc_i (s n))) (upd a2 n (lc_bI (p n))) (upd a3 n (lc_i (c n))) (upd a4 n (lc_bI (q n))) := by
  intro j hj
  by_cases e : j = n
  · subst e
    rw [pk_us, pk_us, pk_us, pk_us]
    exact ⟨rfl, rfl, rfl, rfl⟩
  · rw [pk_un e, pk_un e, pk_un e, pk_un e]
    exact h j (by omega)
theorem lc_13 (H : ∀ (i l : Nat) (b1 b2 b3 b4 : Nat → Int32), i < 3 → l < 3 → lc_In (lc_ws w) (lc_wc w) (lc_bt x2) (lc_bq x2) b1 b2 b3 b4 → ∃ fu, wL_lawOf_209 post mc ms w x2 (nI i) (nI l) kc ks 3 0 b1 b2 b3 b4 a5 a6 a7 a8 a9 a10 a11 a12 a13 a14 fu 0 (-2) 0 (-1) (-2) 0 0 0 0) :
    ∃ fu, wL_lawOf_13 post mc ms w x2 x3 kc ks fu 0 3 0 a1 a2 a3 a4 a5 a6 a7 a8 a9 a10 a11 a12 a13 a14 := by
  have h3 : ¬ (3 : Int32) = 0 := by decide
  refine pk_loop (σ := (Nat → Int32) × (Nat → Int32) × (Nat → Int32) × (Nat → Int32)) (fun n k S => wL_lawOf_13 post mc ms w x2 x3 kc ks n (nI k) 3 0 S.1 S.2.1 S.2.2.1 S.2.2.2 a5 a6 a7 a8 a9 a10 a11 a12 a13 a14)
    (fun k S => lc_InK (lc_ws w) (lc_wc w) (lc_bt x2) (lc_bq x2) k S.1 S.2.1 S.2.2.1 S.2.2.2) 9 0 (a1, a2, a3, a4) (by omega) (fun j hj => absurd hj (by omega)) ?_ ?_
  · intro n S hh
    obtain ⟨t, ht, et⟩ := pk_andE x3 (m := 255) 8 (by decide)
    obtain ⟨t', ht', et'⟩ := pk_andE (x3 >>> ((8 : Int32) &&& 31)) (m := 255) 8 (by decide)
    have ht1 : t < 256 := ht
    have ht2 : t' < 256 := ht'
    have e1 : (x3 &&& 255) - (x3 &&& 255) / 3 * 3 = nI (t % 3) := by
      rw [et]
      exact lc_rem3 (by omega)
    have e2 : ((x3 >>> ((8 : Int32) &&& 31)) &&& 255) - ((x3 >>> ((8 : Int32) &&& 31)) &&& 255) / 3 * 3 = nI (t' % 3) := by
      rw [et']
      exact lc_rem3 (by omega)
    exact br_t (by decide) ⟨h3, nm_r e1 ⟨h3, nm_r e2 (H (t % 3) (t' % 3) _ _ _ _ (by omega) (by omega) hh)⟩⟩
  · intro n k S hk hh hw
    have f5 : nI k / 3 = nI (k / 3) := lc_div3 (by omega)
    have f6 : nI k - nI (k / 3) * 3 = nI (k % 3) := by
      rw [← f5]
      exact lc_rem3 (by omega)
    have w1 := lc_ws_W w k
    have w2 := lc_wc_W w k
    have ek : 3 * (k / 3) + k % 3 = k := by omega
    simp only [wL_lawOf_13, f5, f6]
    refine br_f (nI_ge (b := 9) hk (by decide)) ⟨h3, h3, lc_single ⟨h3, h3, lc_couple ⟨h3, h3, ?_⟩⟩⟩
    rw [ek]
    refine lc_weigh hk w1.1 w1.2 (br_f (by decide) ⟨h3, h3, lc_weighCouple hk w2.1 w2.2 (br_f (by decide) ⟨h3, h3, ?_⟩)⟩)
    have hn := hw (_, _, _, _) (lc_InK_put hh)
    refine br_c (fun h => ?_) (fun h => ?_)
    · have h' : lc_bt x2 k = true := lc_bt_t.mp h
      rw [h'] at hn
      exact lc_111 (v := true) hk hn
    · have h' : lc_bt x2 k = false := lc_nf (fun t => h (lc_bt_t.mpr t))
      rw [h'] at hn
      exact lc_111 (v := false) hk hn
end
end
section
/-! ===== part 13: one turn of the law's loop over 27 labellings ===== -/
section
variable {post : Int32 → St0 → Prop} {mc ms kc ks : Nat} {w : Int64} {x2 x5 x6 x7 x8 x9 x10 x11 x18 x20 x21 : Int32} {x12 x14 x16 x23 : Int64} {J : Int32 → Int32 → Int32 → Int32 → Int32 → Int64 → Int64 → Int64 → Int32 → Prop} {len rdy : Int32} {a1 a2 a3 a4 a5 a6 a7 a8 a11 a12 a13 a14 : Nat → Int32} {a9 a10 : Nat → Int64}
theorem lc_429 {be wa fi S : Int} {k : Nat} (hbe : lc_bd be) (hS : lc_bd S)
    (H : J x7 (lc_i (if be < S then S else be)) (lc_i (if be < S then 1 else if S = be then wa + 1 else wa)) (lc_i (if be < S then (k : Int) else fi)) x11 x12 x14 x16 (nI (k + 1))) :
    wL_lawOf_429 post mc ms J w x2 x5 x6 x7 (lc_i be) (lc_i wa) (lc_i fi) x11 x12 x14 x16 (nI k) (lc_i S) kc ks len rdy a1 a2 a3 a4 a5 a6 a7 a8 a9 a10 a11 a12 a13 a14 := by
  unfold wL_lawOf_429
  simp only [wL_lawOf_439, forall_eq, nI_1]
  by_cases hlt : be < S
  · rw [if_pos hlt, if_pos hlt, if_pos hlt, ← lc_i1, ← lc_i_n] at H
    refine br_f (fun t => absurd ((lc_i_eq hS hbe).mp t) (by omega)) (br_f (fun t => absurd ((lc_i_le hS hbe).mp t) (by omega)) H)
  · rw [if_neg hlt, if_neg hlt, if_neg hlt] at H
    by_cases he : S = be
    · rw [if_pos he] at H
      rw [lc_i1, lc_i_add]
      exact br_t (by rw [he]) (br_t ((lc_i_le hS hbe).mpr (by omega)) H)
    · rw [if_neg he] at H
      exact br_f (fun t => he ((lc_i_eq hS hbe).mp t)) (br_t ((lc_i_le hS hbe).mpr (by omega)) H)
theorem lc_408 {i l b d : Nat} {be wa fi S li P : Int} {k : Nat} (hi : i < 3) (hl : l < 3) (hb : b < 3) (hd : d < 3) (hbe : lc_bd be) (hS : lc_bd S)
    (H : J x7 (lc_i (if be < S then S else be)) (lc_i (if be < S then 1 else if S = be then wa + 1 else wa)) (lc_i (if be < S then (k : Int) else fi)) x11 x12 x14 (lc_l (if b = l ∧ d = i then li + P else li)) (nI (k + 1))) :
    wL_lawOf_408 post mc ms J w x2 (nI i) (nI l) x7 (lc_i be) (lc_i wa) (lc_i fi) x11 x12 x14 (lc_l li) (nI k) (nI b) (nI d) (lc_i S) (lc_l P) kc ks len rdy a1 a2 a3 a4 a5 a6 a7 a8 a9 a10 a11 a12 a13 a14 := by
  unfold wL_lawOf_408
  by_cases h1 : b = l
  · refine br_t (by rw [h1]) ?_
    by_cases h2 : d = i
    · rw [if_pos (show b = l ∧ d = i from ⟨h1, h2⟩)] at H
      exact br_t (by rw [h2]) (nm_r (lc_l_add li P) (lc_429 hbe hS H))
    · rw [if_neg (show ¬ (b = l ∧ d = i) from fun t => h2 t.2)] at H
      exact br_f (fun t => h2 ((nI_eq (by omega) (by omega)).mp t)) (lc_429 hbe hS H)
  · rw [if_neg (show ¬ (b = l ∧ d = i) from fun t => h1 t.1)] at H
    exact br_f (fun t => h1 ((nI_eq (by omega) (by omega)).mp t)) (lc_429 hbe hS H)
theorem lc_390 {i l b d me : Nat} {be wa fi S li P th : Int} {k : Nat} (hi : i < 3) (hl : l < 3) (hb : b < 3) (hd : d < 3) (hme : me < 3) (hbe : lc_bd be) (hS : lc_bd S) (hth : lc_bd th)
    (H : J x7 (lc_i (if be < S then S else be)) (lc_i (if be < S then 1 else if S = be then wa + 1 else wa)) (lc_i (if be < S then (k : Int) else fi)) (lc_i (if me = l ∧ th < S then S else th)) x12 x14 (lc_l (if b = l ∧ d = i then li + P else li)) (nI (k + 1))) :
    wL_lawOf_390 post mc ms J w x2 (nI i) (nI l) x7 (lc_i be) (lc_i wa) (lc_i fi) (lc_i th) x12 x14 (lc_l li) (nI k) (nI b) (nI d) (lc_i S) (lc_l P) (nI me) kc ks len rdy a1 a2 a3 a4 a5 a6 a7 a8 a9 a10 a11 a12 a13 a14 := by
  unfold wL_lawOf_390
  by_cases h1 : me = l
  · refine br_t (by rw [h1]) ?_
    by_cases h2 : th < S
    · rw [if_pos (show me = l ∧ th < S from ⟨h1, h2⟩)] at H
      exact br_f (fun t => absurd ((lc_i_le hS hth).mp t) (by omega)) (lc_408 hi hl hb hd hbe hS H)
    · rw [if_neg (show ¬ (me = l ∧ th < S) from fun t => h2 t.2)] at H
      exact br_t ((lc_i_le hS hth).mpr (by omega)) (lc_408 hi hl hb hd hbe hS H)
  · rw [if_neg (show ¬ (me = l ∧ th < S) from fun t => h1 t.1)] at H
    exact br_f (fun t => h1 ((nI_eq (by omega) (by omega)).mp t)) (lc_408 hi hl hb hd hbe hS H)
theorem lc_364 {i l b d me : Nat} {al be wa fi S li P th to pa : Int} {k : Nat} (hi : i < 3) (hl : l < 3) (hb : b < 3) (hd : d < 3) (hme : me < 3) (hbe : lc_bd be) (hS : lc_bd S) (hth : lc_bd th)
    (H : J (lc_i (al + 1)) (lc_i (if be < S then S else be)) (lc_i (if be < S then 1 else if S = be then wa + 1 else wa)) (lc_i (if be < S then (k : Int) else fi)) (lc_i (if me = l ∧ th < S then S else th)) (lc_l (to + P)) (lc_l (if me = l then pa + P else pa)) (lc_l (if b = l ∧ d = i then li + P else li)) (nI (k + 1))) :
    wL_lawOf_364 post mc ms J w x2 (nI i) (nI l) (lc_i al) (lc_i be) (lc_i wa) (lc_i fi) (lc_i th) (lc_l to) (lc_l pa) (lc_l li) (nI k) (nI b) (nI d) (lc_i S) (lc_l P) (nI me) kc ks len rdy a1 a2 a3 a4 a5 a6 a7 a8 a9 a10 a11 a12 a13 a14 := by
  unfold wL_lawOf_364
  refine nm_r (show lc_i al + 1 = lc_i (al + 1) by rw [lc_i1, lc_i_add]) (nm_r (lc_l_add to P) ?_)
  by_cases h1 : me = l
  · rw [if_pos h1] at H
    exact br_t (by rw [h1]) (nm_r (lc_l_add pa P) (lc_390 hi hl hb hd hme hbe hS hth H))
  · rw [if_neg h1] at H
    exact br_f (fun t => h1 ((nI_eq (by omega) (by omega)).mp t)) (lc_390 hi hl hb hd hme hbe hS hth H)
end
/-! the law's numbers behind k turns -/
def lc_al (x : Int32) (k : Nat) : Int := lc_sm (fun k => if lc_gk (lc_bt x) (lc_bq x) k = true then 1 else 0) k
def lc_be (w : Int64) (x : Int32) (k : Nat) : Int := lc_g (-2) (lc_gk (lc_bt x) (lc_bq x)) (lc_Sk (lc_ws w) (lc_wc w)) k
def lc_wa (w : Int64) (x : Int32) (k : Nat) : Int := lc_h (-2) (lc_gk (lc_bt x) (lc_bq x)) (lc_Sk (lc_ws w) (lc_wc w)) (fun _ => 1) k
def lc_fi (w : Int64) (x : Int32) (k : Nat) : Int := lc_f (-2) (lc_gk (lc_bt x) (lc_bq x)) (lc_Sk (lc_ws w) (lc_wc w)) k
def lc_th (w : Int64) (x : Int32) (i l k : Nat) : Int := lc_g (-2) (fun k => lc_gk (lc_bt x) (lc_bq x) k && decide (lc_mine i (k / 9) (k / 3 % 3) (k % 3) = l)) (lc_Sk (lc_ws w) (lc_wc w)) k
def lc_to (w : Int64) (x : Int32) (k : Nat) : Int := lc_sm (fun k => if lc_gk (lc_bt x) (lc_bq x) k = true then lc_Pk (lc_ws w) (lc_wc w) k else 0) k
def lc_pa (w : Int64) (x : Int32) (i l k : Nat) : Int := lc_sm (fun k => if lc_gk (lc_bt x) (lc_bq x) k = true ∧ lc_mine i (k / 9) (k / 3 % 3) (k % 3) = l then lc_Pk (lc_ws w) (lc_wc w) k else 0) k
def lc_li (w : Int64) (x : Int32) (i l k : Nat) : Int := lc_sm (fun k => if lc_gk (lc_bt x) (lc_bq x) k = true ∧ (k / 3 % 3 = l ∧ k % 3 = i) then lc_Pk (lc_ws w) (lc_wc w) k else 0) k
section
variable {w : Int64} {x : Int32} {i l k : Nat}
theorem lc_Sk_bd (w : Int64) (k : Nat) : 0 ≤ lc_Sk (lc_ws w) (lc_wc w) k ∧ lc_Sk (lc_ws w) (lc_wc w) k ≤ 35 := lc_S_nn (lc_ws_W w) (lc_wc_W w) _ _ _
theorem lc_be_bd : lc_bd (lc_be w x k) := by
  have h1 : -2 ≤ lc_be w x k := lc_g_lb k
  have h2 : lc_be w x k ≤ 35 := lc_g_bd (by decide) k (fun b _ _ => (lc_Sk_bd w b).2)
  exact ⟨by omega, by omega⟩
theorem lc_th_bd : lc_bd (lc_th w x i l k) := by
  have h1 : -2 ≤ lc_th w x i l k := lc_g_lb k
  have h2 : lc_th w x i l k ≤ 35 := lc_g_bd (by decide) k (fun b _ _ => (lc_Sk_bd w b).2)
  exact ⟨by omega, by omega⟩
/-- a labelling that isn't allowed changes nothing -/
theorem lc_no (h : lc_gk (lc_bt x) (lc_bq x) k = false) : lc_al x (k + 1) = lc_al x k ∧ lc_be w x (k + 1) = lc_be w x k ∧ lc_wa w x (k + 1) = lc_wa w x k ∧ lc_fi w x (k + 1) = lc_fi w x k ∧ lc_th w x i l (k + 1) = lc_th w x i l k ∧ lc_to w x (k + 1) = lc_to w x k ∧ lc_pa w x i l (k + 1) = lc_pa w x i l k ∧ lc_li w x i l (k + 1) = lc_li w x i l k := by
  have hf : ¬ lc_gk (lc_bt x) (lc_bq x) k = true := by rw [h]; decide
  refine ⟨?_, lc_g_no h, ?_, ?_, ?_, ?_, ?_, ?_⟩
  · show _ + (if lc_gk (lc_bt x) (lc_bq x) k = true then 1 else 0) = _
    rw [if_neg hf, Int.add_zero]; rfl
  · exact (lc_h_s k).trans (if_neg hf)
  · exact (lc_f_s k).trans (if_neg (fun t => hf t.1))
  · refine lc_g_no ?_
    rw [h]
    rfl
  · show _ + (if lc_gk (lc_bt x) (lc_bq x) k = true then lc_Pk (lc_ws w) (lc_wc w) k else 0) = _
    rw [if_neg hf, Int.add_zero]; rfl
  · show _ + (if lc_gk (lc_bt x) (lc_bq x) k = true ∧ lc_mine i (k / 9) (k / 3 % 3) (k % 3) = l then lc_Pk (lc_ws w) (lc_wc w) k else 0) = _
    rw [if_neg (fun t => hf t.1), Int.add_zero]; rfl
  · show _ + (if lc_gk (lc_bt x) (lc_bq x) k = true ∧ (k / 3 % 3 = l ∧ k % 3 = i) then lc_Pk (lc_ws w) (lc_wc w) k else 0) = _
    rw [if_neg (fun t => hf t.1), Int.add_zero]; rfl
/-- one that is allowed -/
theorem lc_yes (h : lc_gk (lc_bt x) (lc_bq x) k = true) : lc_al x (k + 1) = lc_al x k + 1 ∧ lc_be w x (k + 1) = (if lc_be w x k < lc_Sk (lc_ws w) (lc_wc w) k then lc_Sk (lc_ws w) (lc_wc w) k else lc_be w x k) ∧ lc_wa w x (k + 1) = (if lc_be w x k < lc_Sk (lc_ws w) (lc_wc w) k then 1 else if lc_Sk (lc_ws w) (lc_wc w) k = lc_be w x k then lc_wa w x k + 1 else lc_wa w x k) ∧ lc_fi w x (k + 1) = (if lc_be w x k < lc_Sk (lc_ws w) (lc_wc w) k then (k : Int) else lc_fi w x k) ∧ lc_th w x i l (k + 1) = (if lc_mine i (k / 9) (k / 3 % 3) (k % 3) = l ∧ lc_th w x i l k < lc_Sk (lc_ws w) (lc_wc w) k then lc_Sk (lc_ws w) (lc_wc w) k else lc_th w x i l k) ∧ lc_to w x (k + 1) = lc_to w x k + lc_Pk (lc_ws w) (lc_wc w) k ∧ lc_pa w x i l (k + 1) = (if lc_mine i (k / 9) (k / 3 % 3) (k % 3) = l then lc_pa w x i l k + lc_Pk (lc_ws w) (lc_wc w) k else lc_pa w x i l k) ∧ lc_li w x i l (k + 1) = (if k / 3 % 3 = l ∧ k % 3 = i then lc_li w x i l k + lc_Pk (lc_ws w) (lc_wc w) k else lc_li w x i l k) := by
  refine ⟨?_, ?_, ?_, ?_, ?_, ?_, ?_, ?_⟩
  · show _ + (if lc_gk (lc_bt x) (lc_bq x) k = true then 1 else 0) = _
    rw [if_pos h]; rfl
  · refine (lc_g_s k).trans ?_
    by_cases c : lc_be w x k < lc_Sk (lc_ws w) (lc_wc w) k
    · rw [if_pos c]; exact if_pos ⟨h, c⟩
    · rw [if_neg c]; exact if_neg (fun t => c t.2)
  · exact (lc_h_s k).trans (if_pos h)
  · refine (lc_f_s k).trans ?_
    by_cases c : lc_be w x k < lc_Sk (lc_ws w) (lc_wc w) k
    · rw [if_pos c]; exact if_pos ⟨h, c⟩
    · rw [if_neg c]; exact if_neg (fun t => c t.2)
  · refine (lc_g_s k).trans ?_
    by_cases c : lc_mine i (k / 9) (k / 3 % 3) (k % 3) = l ∧ lc_th w x i l k < lc_Sk (lc_ws w) (lc_wc w) k
    · rw [if_pos c]
      refine if_pos ⟨?_, c.2⟩
      rw [h, decide_eq_true c.1]
      rfl
    · rw [if_neg c]
      refine if_neg (fun t => c ⟨?_, t.2⟩)
      have t1 := t.1
      rw [h] at t1
      exact of_decide_eq_true t1
  · show _ + (if lc_gk (lc_bt x) (lc_bq x) k = true then lc_Pk (lc_ws w) (lc_wc w) k else 0) = _
    rw [if_pos h]; rfl
  · show _ + (if lc_gk (lc_bt x) (lc_bq x) k = true ∧ lc_mine i (k / 9) (k / 3 % 3) (k % 3) = l then lc_Pk (lc_ws w) (lc_wc w) k else 0) = _
    by_cases c : lc_mine i (k / 9) (k / 3 % 3) (k % 3) = l
    · rw [if_pos c, if_pos ⟨h, c⟩]; rfl
    · rw [if_neg c, if_neg (fun t => c t.2), Int.add_zero]; rfl
  · show _ + (if lc_gk (lc_bt x) (lc_bq x) k = true ∧ (k / 3 % 3 = l ∧ k % 3 = i) then lc_Pk (lc_ws w) (lc_wc w) k else 0) = _
    by_cases c : k / 3 % 3 = l ∧ k % 3 = i
    · rw [if_pos c, if_pos ⟨h, c⟩]; rfl
    · rw [if_neg c, if_neg (fun t => c t.2), Int.add_zero]; rfl
end
end
section
/-! ===== part 14: the law's loop, its checks, and what is owed ===== -/
section
variable {post : Int32 → St0 → Prop} {mc ms kc ks : Nat} {w : Int64} {x2 : Int32} {a1 a2 a3 a4 a5 a6 a7 a8 a11 a12 a13 a14 : Nat → Int32} {a9 a10 : Nat → Int64}
theorem lc_209s {i l k n : Nat} (hi : i < 3) (hl : l < 3) (hk : k < 27)
    (hW : wL_lawOf_209 post mc ms w x2 (nI i) (nI l) kc ks 3 0 a1 a2 a3 a4 a5 a6 a7 a8 a9 a10 a11 a12 a13 a14 n (lc_i (lc_al x2 (k + 1))) (lc_i (lc_be w x2 (k + 1))) (lc_i (lc_wa w x2 (k + 1))) (lc_i (lc_fi w x2 (k + 1))) (lc_i (lc_th w x2 i l (k + 1))) (lc_l (lc_to w x2 (k + 1))) (lc_l (lc_pa w x2 i l (k + 1))) (lc_l (lc_li w x2 i l (k + 1))) (nI (k + 1))) :
    wL_lawOf_209 post mc ms w x2 (nI i) (nI l) kc ks 3 0 a1 a2 a3 a4 a5 a6 a7 a8 a9 a10 a11 a12 a13 a14 (n + 1) (lc_i (lc_al x2 k)) (lc_i (lc_be w x2 k)) (lc_i (lc_wa w x2 k)) (lc_i (lc_fi w x2 k)) (lc_i (lc_th w x2 i l k)) (lc_l (lc_to w x2 k)) (lc_l (lc_pa w x2 i l k)) (lc_l (lc_li w x2 i l k)) (nI k) := by
  have h3 : ¬ (3 : Int32) = 0 := by decide
  have h9 : ¬ (9 : Int32) = 0 := by decide
  have e20 : nI k / 3 - nI k / 3 / 3 * 3 = nI (k / 3 % 3) := by
    rw [lc_div3 (by omega)]
    exact lc_rem3 (by omega)
  have e21 : nI k - nI k / 3 * 3 = nI (k % 3) := lc_rem3 (by omega)
  refine br_f (nI_ge (b := 27) hk (by decide)) ⟨h9, nm_r (lc_div9 (by omega)) ⟨h3, h3, nm_r e20 ⟨h3, nm_r e21 (lc_good ?_)⟩⟩⟩
  cases hg : lc_G (lc_bt x2) (lc_bq x2) (k / 9) (k / 3 % 3) (k % 3) with
  | false =>
    obtain ⟨t1, t2, t3, t4, t5, t6, t7, t8⟩ := lc_no (w := w) (i := i) (l := l) hg
    rw [t1, t2, t3, t4, t5, t6, t7, t8] at hW
    exact br_t (by decide) (nm_r (nI_1 k) hW)
  | true =>
    obtain ⟨t1, t2, t3, t4, t5, t6, t7, t8⟩ := lc_yes (w := w) (i := i) (l := l) hg
    rw [t1, t2, t3, t4, t5, t6, t7, t8] at hW
    have ha : k / 9 < 3 := by omega
    have hb : k / 3 % 3 < 3 := by omega
    have hd : k % 3 < 3 := by omega
    have hme : lc_mine i (k / 9) (k / 3 % 3) (k % 3) < 3 := by
      unfold lc_mine
      by_cases c1 : i = 0
      · rw [if_pos c1]; exact ha
      · rw [if_neg c1]
        by_cases c2 : i = 1
        · rw [if_pos c2]; exact hb
        · rw [if_neg c2]; exact hd
    have hSb := lc_Sk_bd w k
    have hS : lc_bd (lc_Sk (lc_ws w) (lc_wc w) k) := ⟨by omega, by omega⟩
    have key := lc_364 (post := post) (mc := mc) (ms := ms) (kc := kc) (ks := ks) (w := w) (x2 := x2) (len := 3) (rdy := 0) (a1 := a1) (a2 := a2) (a3 := a3) (a4 := a4) (a5 := a5) (a6 := a6) (a7 := a7) (a8 := a8) (a9 := a9) (a10 := a10) (a11 := a11) (a12 := a12) (a13 := a13) (a14 := a14) hi hl hb hd hme lc_be_bd hS lc_th_bd hW
    have eS : lc_i (lc_ws w (3 * 0 + k / 9)) + lc_i (lc_ws w (3 * 1 + k / 3 % 3)) + lc_i (lc_ws w (3 * 2 + k % 3)) + lc_i (lc_wc w (3 * (k / 9) + k / 3 % 3)) + lc_i (lc_wc w (3 * (k / 3 % 3) + k % 3)) = lc_i (lc_Sk (lc_ws w) (lc_wc w) k) := by
      rw [lc_i_add, lc_i_add, lc_i_add, lc_i_add, show 3 * 0 + k / 9 = k / 9 by omega, show 3 * 1 + k / 3 % 3 = 3 + k / 3 % 3 by omega, show 3 * 2 + k % 3 = 6 + k % 3 by omega]
      rfl
    have eP : (lc_i (lc_ws w (3 * 0 + k / 9))).toInt64 * (lc_i (lc_ws w (3 * 1 + k / 3 % 3))).toInt64 * (lc_i (lc_ws w (3 * 2 + k % 3))).toInt64 * (lc_i (lc_wc w (3 * (k / 9) + k / 3 % 3))).toInt64 * (lc_i (lc_wc w (3 * (k / 3 % 3) + k % 3))).toInt64 = lc_l (lc_Pk (lc_ws w) (lc_wc w) k) := by
      rw [lc_i_l (lc_bdW (lc_ws_W w) _), lc_i_l (lc_bdW (lc_ws_W w) _), lc_i_l (lc_bdW (lc_ws_W w) _), lc_i_l (lc_bdW (lc_wc_W w) _), lc_i_l (lc_bdW (lc_wc_W w) _), lc_l_mul, lc_l_mul, lc_l_mul, lc_l_mul, show 3 * 0 + k / 9 = k / 9 by omega, show 3 * 1 + k / 3 % 3 = 3 + k / 3 % 3 by omega, show 3 * 2 + k % 3 = 6 + k % 3 by omega]
      rfl
    refine br_f (by decide) (lc_single (i := 0) (lc_single (i := 1) (lc_single (i := 2) (lc_couple (lc_couple (nm_r eS (lc_single (i := 0) (lc_single (i := 1) (lc_single (i := 2) (lc_couple (lc_couple (nm_r eP ?_))))))))))))
    have hi' : i = 0 ∨ i = 1 ∨ i = 2 := by omega
    rcases hi' with rfl | rfl | rfl
    · exact br_t (by decide) key
    · exact br_f (by decide) (br_t (by decide) key)
    · exact br_f (by decide) (br_f (by decide) key)
theorem lc_209x {i l n : Nat} (hi : i < 3) (hl : l < 3) (hI : lc_In (lc_ws w) (lc_wc w) (lc_bt x2) (lc_bq x2) a1 a2 a3 a4) (hpost : post 1 ()) :
    wL_lawOf_209 post mc ms w x2 (nI i) (nI l) kc ks 3 0 a1 a2 a3 a4 a5 a6 a7 a8 a9 a10 a11 a12 a13 a14 (n + 1) (lc_i (lc_al x2 27)) (lc_i (lc_be w x2 27)) (lc_i (lc_wa w x2 27)) (lc_i (lc_fi w x2 27)) (lc_i (lc_th w x2 i l 27)) (lc_l (lc_to w x2 27)) (lc_l (lc_pa w x2 i l 27)) (lc_l (lc_li w x2 i l 27)) (nI 27) := by
  have hs := lc_ws_W w
  have hc := lc_wc_W w
  have h3 : ¬ (3 : Int32) = 0 := by decide
  have h9 : ¬ (9 : Int32) = 0 := by decide
  have q1 : lc_al x2 27 = _ := lc_law1
  have q2 : lc_be w x2 27 = _ := lc_law2 hs hc
  have q3 : lc_wa w x2 27 = _ := lc_law3 hs hc
  have q4 : lc_to w x2 27 = _ := lc_law4
  have q5 : lc_pa w x2 i l 27 = _ := lc_law5 hi hl hs hc
  have q6 : lc_th w x2 i l 27 = _ := lc_law6 hi hl hs hc
  have q7 : lc_li w x2 i l 27 = _ := lc_law7 hi hl
  rw [q1, q2, q3, q4, q5, q6, q7]
  refine br_t (by decide) (lc_allowed hs hc hI (fun b5 b6 b7 b8 b9 b10 b11 b12 b13 b14 hF => br_t rfl ?_))
  refine lc_best hs hc hF (br_t rfl (lc_bestCount hs hc hF (br_t rfl (lc_total hF (br_t rfl (lc_through hi hl hF (br_t rfl (lc_bestThrough hi hl hs hc hF (br_t rfl (lc_throughCouple hi hl hs hc hF (br_t rfl ?_)))))))))))
  have hT := hF.2.2.2.2
  rcases lc_law8 (p := lc_bt x2) (q := lc_bq x2) hs hc with ⟨g1, g2⟩ | ⟨g1, g2⟩
  · have g2' : lc_fi w x2 27 = -1 := g2
    rw [g2', if_neg g1]
    refine br_f (by decide) (lc_label (i := 0) (t := 0) (by decide) hs hc hF (fun t => absurd t g1) (br_t (if_neg g1) (lc_ranked hs hc hF (br_t ?_ hpost))))
    rw [if_neg g1, lc_im2]
  · have g2' : lc_fi w x2 27 = ((9 * lc_t0 (lc_ws w) (lc_wc w) (lc_bt x2) (lc_bq x2) + 3 * lc_t1 (lc_ws w) (lc_wc w) (lc_bt x2) (lc_bq x2) + lc_t2 (lc_ws w) (lc_wc w) (lc_bt x2) (lc_bq x2) : Nat) : Int) := g2
    have l0 : lc_t0 (lc_ws w) (lc_wc w) (lc_bt x2) (lc_bq x2) < 3 := lc_pick_lt _
    have l1 : lc_t1 (lc_ws w) (lc_wc w) (lc_bt x2) (lc_bq x2) < 3 := lc_pick_lt _
    have l2 : lc_t2 (lc_ws w) (lc_wc w) (lc_bt x2) (lc_bq x2) < 3 := lc_pick_lt _
    obtain ⟨T0, T1, T2⟩ := hT g1
    rw [g2', ← lc_i_n]
    generalize lc_t0 (lc_ws w) (lc_wc w) (lc_bt x2) (lc_bq x2) = t0 at l0 T0 ⊢
    generalize lc_t1 (lc_ws w) (lc_wc w) (lc_bt x2) (lc_bq x2) = t1 at l1 T1 ⊢
    generalize lc_t2 (lc_ws w) (lc_wc w) (lc_bt x2) (lc_bq x2) = t2 at l2 T2 ⊢
    have d0 : nI (9 * t0 + 3 * t1 + t2) / 9 = nI t0 := by
      rw [lc_div9 (by omega), show (9 * t0 + 3 * t1 + t2) / 9 = t0 by omega]
    have d1 : nI (9 * t0 + 3 * t1 + t2) / 3 - nI (9 * t0 + 3 * t1 + t2) / 3 / 3 * 3 = nI t1 := by
      rw [lc_div3 (by omega), lc_rem3 (by omega), show (9 * t0 + 3 * t1 + t2) / 3 % 3 = t1 by omega]
    have d2 : nI (9 * t0 + 3 * t1 + t2) - nI (9 * t0 + 3 * t1 + t2) / 3 * 3 = nI t2 := by
      rw [lc_rem3 (by omega), show (9 * t0 + 3 * t1 + t2) % 3 = t2 by omega]
    refine br_t (nI_pos' (by omega)) (lc_label (i := 0) (t := t0) (by decide) hs hc hF (fun _ => T0) ⟨h9, br_t ((if_pos g1).trans d0.symm) ?_⟩)
    refine lc_label (i := 1) (t := t1) (by decide) hs hc hF (fun _ => T1) ⟨h3, h3, br_t ((if_pos g1).trans d1.symm) ?_⟩
    refine lc_label (i := 2) (t := t2) (by decide) hs hc hF (fun _ => T2) ⟨h3, br_t ((if_pos g1).trans d2.symm) ?_⟩
    exact lc_ranked hs hc hF (br_t rfl hpost)
theorem lc_209 {i l : Nat} (hi : i < 3) (hl : l < 3) (hI : lc_In (lc_ws w) (lc_wc w) (lc_bt x2) (lc_bq x2) a1 a2 a3 a4) (hpost : post 1 ()) :
    ∃ fu, wL_lawOf_209 post mc ms w x2 (nI i) (nI l) kc ks 3 0 a1 a2 a3 a4 a5 a6 a7 a8 a9 a10 a11 a12 a13 a14 fu 0 (-2) 0 (-1) (-2) 0 0 0 0 := by
  obtain ⟨n, hn⟩ := pk_loop (σ := Unit) (fun n k _ => wL_lawOf_209 post mc ms w x2 (nI i) (nI l) kc ks 3 0 a1 a2 a3 a4 a5 a6 a7 a8 a9 a10 a11 a12 a13 a14 n (lc_i (lc_al x2 k)) (lc_i (lc_be w x2 k)) (lc_i (lc_wa w x2 k)) (lc_i (lc_fi w x2 k)) (lc_i (lc_th w x2 i l k)) (lc_l (lc_to w x2 k)) (lc_l (lc_pa w x2 i l k)) (lc_l (lc_li w x2 i l k)) (nI k)) (fun _ _ => True) 27 0 () (by omega) trivial
    (fun n _ _ => lc_209x hi hl hI hpost) (fun n k _ hk _ hw => lc_209s hi hl hk (hw () trivial))
  have hn' : wL_lawOf_209 post mc ms w x2 (nI i) (nI l) kc ks 3 0 a1 a2 a3 a4 a5 a6 a7 a8 a9 a10 a11 a12 a13 a14 n (lc_i 0) (lc_i (-2)) (lc_i 0) (lc_i (-1)) (lc_i (-2)) (lc_l 0) (lc_l 0) (lc_l 0) (nI 0) := hn
  rw [← lc_i0, ← lc_im2, ← lc_im1, ← lc_l0, nI_0] at hn'
  exact ⟨n, hn'⟩
theorem lc_lawOf {x3 : Int32} (hpost : post 1 ()) : wpL_lawOf post 15 240 () w x2 x3 := by
  unfold wpL_lawOf
  refine ⟨by decide, by decide, 14, 224, by decide, by decide, lc_init (fun b1 b3 => ?_)⟩
  exact lc_13 (fun i l b1 b2 b3 b4 hi hl hI => lc_209 hi hl hI hpost)
end
theorem lc_cellAt {post : Int32 → Prop} {L : Nat} {xs : Nat → Int32} {k : Nat} (hL : L ≤ 4) (hk : k ≤ 4) (H : ∀ r, post r) : wpL_cellAt post L xs () (nI k) := by
  unfold wpL_cellAt
  refine pk_le L k (fun _ => H _) (fun h => ⟨vp_in_nI h (by omega), H _⟩)
theorem i_vc (xs : Nat → Int32) (L : Nat) (hL : L ≤ 4) : wpL_law (fun r => r = 1) L xs := by
  unfold wpL_law
  refine lc_cellAt (k := 0) hL (by decide) (fun r1 => lc_cellAt (k := 1) hL (by decide) (fun r2 => lc_cellAt (k := 2) hL (by decide) (fun r3 => lc_cellAt (k := 3) hL (by decide) (fun r4 => ?_))))
  exact ⟨15, 240, by decide, by decide, lc_lawOf rfl⟩
end
