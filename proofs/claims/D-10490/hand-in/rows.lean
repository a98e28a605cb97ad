section
/-- the sum of the first n values -/
def zb_sum (f : Nat → Int) : Nat → Int
  | 0 => 0
  | n + 1 => zb_sum f n + f n
theorem zb_d0 (q : Int) : q ∣ 0 := ⟨0, by simp⟩
theorem zb_dm {q a : Int} (b : Int) (h : q ∣ a) : q ∣ b * a := by
  obtain ⟨k, hk⟩ := h
  exact ⟨b * k, by rw [hk, Int.mul_left_comm]⟩
theorem zb_dr {q a : Int} (b : Int) (h : q ∣ a) : q ∣ a * b := by
  rw [Int.mul_comm]
  exact zb_dm b h
theorem zb_de {q a b : Int} (h : q ∣ a) (e : a = b) : q ∣ b := e ▸ h
theorem zb_sum_s (f : Nat → Int) (n : Nat) : zb_sum f (n + 1) = zb_sum f n + f n := rfl
theorem zb_sum_congr {f g : Nat → Int} {n : Nat} (h : ∀ i, i < n → f i = g i) : zb_sum f n = zb_sum g n := by
  induction n with
  | zero => rfl
  | succ n ih =>
    rw [zb_sum_s, zb_sum_s, ih (fun i hi => h i (by omega)), h n (by omega)]
theorem zb_sum_zero {f : Nat → Int} {n : Nat} (h : ∀ i, i < n → f i = 0) : zb_sum f n = 0 := by
  induction n with
  | zero => rfl
  | succ n ih =>
    rw [zb_sum_s, ih (fun i hi => h i (by omega)), h n (by omega)]
    rfl
theorem zb_sum_add (f g : Nat → Int) (n : Nat) : zb_sum (fun i => f i + g i) n = zb_sum f n + zb_sum g n := by
  induction n with
  | zero => rfl
  | succ n ih =>
    rw [zb_sum_s, zb_sum_s, zb_sum_s, ih]
    omega
theorem zb_sum_mul (a : Int) (f : Nat → Int) (n : Nat) : zb_sum (fun i => a * f i) n = a * zb_sum f n := by
  induction n with
  | zero => exact (Int.mul_zero a).symm
  | succ n ih =>
    rw [zb_sum_s, zb_sum_s, ih, Int.mul_add]
theorem zb_sum_comm (f : Nat → Nat → Int) (m n : Nat) : zb_sum (fun i => zb_sum (fun j => f i j) n) m = zb_sum (fun j => zb_sum (fun i => f i j) m) n := by
  induction m with
  | zero =>
    exact (zb_sum_zero (fun i _ => rfl)).symm
  | succ m ih =>
    rw [zb_sum_s, ih]
    rw [← zb_sum_add]
    rfl
theorem zb_sum_dvd {q : Int} {f : Nat → Int} {n : Nat} (h : ∀ i, i < n → q ∣ f i) : q ∣ zb_sum f n := by
  induction n with
  | zero => exact zb_d0 q
  | succ n ih =>
    rw [zb_sum_s]
    exact Int.dvd_add (ih (fun i hi => h i (by omega))) (h n (by omega))
theorem zb_sum_cg {q : Int} {f g : Nat → Int} {n : Nat} (h : ∀ i, i < n → q ∣ f i - g i) : q ∣ zb_sum f n - zb_sum g n := by
  induction n with
  | zero => exact zb_d0 q
  | succ n ih =>
    rw [zb_sum_s, zb_sum_s]
    exact zb_de (Int.dvd_add (ih (fun i hi => h i (by omega))) (h n (by omega))) (by omega)
theorem zb_sum_ext {f : Nat → Int} {m n : Nat} (hmn : m ≤ n) (h : ∀ i, m ≤ i → i < n → f i = 0) : zb_sum f n = zb_sum f m := by
  induction n with
  | zero =>
    have e : m = 0 := by omega
    rw [e]
  | succ n ih =>
    by_cases e : m = n + 1
    · rw [e]
    · rw [zb_sum_s, h n (by omega) (by omega), ih (by omega) (fun i h1 h2 => h i h1 (by omega)), Int.add_zero]
theorem zb_sum_shift {f : Nat → Int} (x m : Nat) (h : ∀ i, i < x → f i = 0) : zb_sum f (x + m) = zb_sum (fun i => f (x + i)) m := by
  induction m with
  | zero => exact zb_sum_zero h
  | succ m ih =>
    rw [zb_sum_s, ← ih]
    rfl
theorem zb_sum_head (f : Nat → Int) (n : Nat) : zb_sum f (n + 1) = f 0 + zb_sum (fun i => f (i + 1)) n := by
  induction n with
  | zero =>
    show 0 + f 0 = f 0 + 0
    omega
  | succ n ih =>
    rw [zb_sum_s, ih, zb_sum_s]
    omega
theorem zb_sum_one {q : Int} {f : Nat → Int} {n k : Nat} (hk : k < n) (h : ∀ i, i < n → i ≠ k → q ∣ f i) : q ∣ zb_sum f n - f k := by
  induction n with
  | zero => exact absurd hk (by omega)
  | succ n ih =>
    rw [zb_sum_s]
    by_cases e : k = n
    · rw [e]
      exact zb_de (zb_sum_dvd (n := n) (fun i hi => h i (by omega) (by omega))) (by omega)
    · exact zb_de (Int.dvd_add (ih (by omega) (fun i h1 h2 => h i (by omega) h2)) (h n (by omega) (by omega))) (by omega)
/-- what the polynomial c of length L says of the symbol k of s: 0 where it is right -/
def zb_dc (c : Nat → Int) (L : Nat) (s : Nat → Int) (k : Nat) : Int := zb_sum (fun i => c i * s (k - i)) (L + 1)
theorem zb_swap (c c' : Nat → Int) (L L' : Nat) (s : Nat → Int) (n : Nat) : zb_sum (fun i => c' i * zb_dc c L s (n - i)) (L' + 1) = zb_sum (fun j => c j * zb_dc c' L' s (n - j)) (L + 1) := by
  have e1 : zb_sum (fun i => c' i * zb_dc c L s (n - i)) (L' + 1) = zb_sum (fun i => zb_sum (fun j => c' i * (c j * s (n - i - j))) (L + 1)) (L' + 1) :=
    zb_sum_congr (fun i _ => (zb_sum_mul (c' i) (fun j => c j * s (n - i - j)) (L + 1)).symm)
  have e2 : zb_sum (fun j => c j * zb_dc c' L' s (n - j)) (L + 1) = zb_sum (fun j => zb_sum (fun i => c j * (c' i * s (n - j - i))) (L' + 1)) (L + 1) :=
    zb_sum_congr (fun j _ => (zb_sum_mul (c j) (fun i => c' i * s (n - j - i)) (L' + 1)).symm)
  rw [e1, e2, zb_sum_comm]
  refine zb_sum_congr (fun j _ => zb_sum_congr (fun i _ => ?_))
  rw [Nat.sub_right_comm, Int.mul_left_comm]
theorem zb_massey {q : Int} {s c c' : Nat → Int} {n L L' : Nat} (hg : ∀ k, L ≤ k → k < n → q ∣ zb_dc c L s k) (hc : c' 0 = 1) (hg' : ∀ k, L' ≤ k → k < n + 1 → q ∣ zb_dc c' L' s k) (hL : L + L' ≤ n) : q ∣ zb_dc c L s n := by
  have h1 : q ∣ zb_sum (fun j => c j * zb_dc c' L' s (n - j)) (L + 1) :=
    zb_sum_dvd (fun j hj => zb_dm _ (hg' (n - j) (by omega) (by omega)))
  rw [← zb_swap, zb_sum_head] at h1
  have h2 : q ∣ zb_sum (fun i => c' (i + 1) * zb_dc c L s (n - (i + 1))) L' :=
    zb_sum_dvd (fun i hi => zb_dm _ (hg (n - (i + 1)) (by omega) (by omega)))
  have h3 := Int.dvd_sub h1 h2
  refine zb_de h3 ?_
  show c' 0 * zb_dc c L s (n - 0) + _ - _ = _
  rw [hc, Nat.sub_zero, Int.one_mul]
  omega
end
section
/-- mending, after k symbols: C of length L is right so far and shortest; B, moved up by x, was right until it failed by b -/
def zb_inv (q : Int) (s : Nat → Int) (k L x M : Nat) (b : Int) (C B : Nat → Int) : Prop :=
  L ≤ k ∧ 1 ≤ x ∧ M + L + x = k + 1 ∧ C 0 = 1 ∧ (∀ i, L < i → C i = 0) ∧ (∀ j, L ≤ j → j < k → q ∣ zb_dc C L s j) ∧ (∀ i, M < i → B i = 0) ∧ (∀ j, M + x ≤ j → j < k → q ∣ zb_dc B M s (j - x)) ∧ (1 ≤ L → q ∣ zb_dc B M s (k - x) - b) ∧ ¬ q ∣ b ∧ (∀ (c' : Nat → Int) (L' : Nat), c' 0 = 1 → (∀ j, L' ≤ j → j < k → q ∣ zb_dc c' L' s j) → L ≤ L')
theorem zb_inv_0 {q : Int} {s C B : Nat → Int} (h1 : ¬ q ∣ 1) (hC : C 0 = 1) (hC' : ∀ i, 0 < i → C i = 0) (hB' : ∀ i, 0 < i → B i = 0) : zb_inv q s 0 0 1 0 1 C B :=
  ⟨Nat.le_refl 0, Nat.le_refl 1, rfl, hC, hC', fun j _ h => absurd h (by omega), hB', fun j _ h => absurd h (by omega), fun h => absurd h (by omega), h1, fun _ _ _ _ => Nat.zero_le _⟩
theorem zb_inv_same {q : Int} {s C B : Nat → Int} {k L x M : Nat} {b : Int} (h : zb_inv q s k L x M b C B) (hd : q ∣ zb_dc C L s k) : zb_inv q s (k + 1) L (x + 1) M b C B := by
  obtain ⟨h1, h2, h3, h4, h5, h6, h7, h8, h9, h10, h11⟩ := h
  refine ⟨by omega, by omega, by omega, h4, h5, fun j j1 j2 => ?_, h7, fun j j1 j2 => ?_, fun hl => ?_, h10, fun c' L' c1 c2 => h11 c' L' c1 (fun j j1 j2 => c2 j j1 (by omega))⟩
  · by_cases e : j = k
    · rw [e]
      exact hd
    · exact h6 j j1 (by omega)
  · have t := h8 (j - 1) (by omega) (by omega)
    rw [show j - (x + 1) = j - 1 - x by omega]
    exact t
  · rw [show k + 1 - (x + 1) = k - x by omega]
    exact h9 hl
theorem zb_dcT {q : Int} {s C B T : Nat → Int} {L x M N : Nat} {h : Int} (hC : ∀ i, L < i → C i = 0) (hB : ∀ i, M < i → B i = 0) (T1 : ∀ i, i < x → T i = C i) (T2 : ∀ i, x ≤ i → q ∣ T i - (C i - h * B (i - x))) (hL : L ≤ N) (hM : M + x ≤ N) (j : Nat) : q ∣ zb_dc T N s j - (zb_dc C L s j - h * zb_dc B M s (j - x)) := by
  have e1 : zb_sum (fun i => C i * s (j - i)) (N + 1) = zb_dc C L s j :=
    zb_sum_ext (by omega) (fun i i1 _ => by
      show C i * s (j - i) = 0
      rw [hC i (by omega), Int.zero_mul])
  have e2 : zb_sum (fun i => (if i < x then 0 else B (i - x)) * s (j - i)) (N + 1) = zb_dc B M s (j - x) := by
    have e3 : zb_sum (fun i => (if i < x then 0 else B (i - x)) * s (j - i)) (N + 1) = zb_sum (fun i => (if i < x then 0 else B (i - x)) * s (j - i)) (x + (M + 1)) :=
      zb_sum_ext (by omega) (fun i i1 _ => by
        show (if i < x then 0 else B (i - x)) * s (j - i) = 0
        rw [if_neg (by omega), hB (i - x) (by omega), Int.zero_mul])
    rw [e3, zb_sum_shift x (M + 1) (fun i hi => by
        show (if i < x then 0 else B (i - x)) * s (j - i) = 0
        rw [if_pos hi, Int.zero_mul])]
    refine zb_sum_congr (fun i _ => ?_)
    show (if x + i < x then 0 else B (x + i - x)) * s (j - (x + i)) = B i * s (j - x - i)
    rw [if_neg (by omega), show x + i - x = i by omega, show j - (x + i) = j - x - i by omega]
  have e4 : q ∣ zb_dc T N s j - zb_sum (fun i => C i * s (j - i) + (- h) * ((if i < x then 0 else B (i - x)) * s (j - i))) (N + 1) :=
    zb_sum_cg (fun i _ => by
      show q ∣ T i * s (j - i) - (C i * s (j - i) + (- h) * ((if i < x then 0 else B (i - x)) * s (j - i)))
      by_cases hi : i < x
      · rw [if_pos hi, T1 i hi]
        exact zb_de (zb_d0 q) (by grind)
      · rw [if_neg hi]
        exact zb_de (zb_dr (s (j - i)) (T2 i (by omega))) (by grind))
  rw [zb_sum_add, zb_sum_mul, e1, e2] at e4
  exact zb_de e4 (by grind)
theorem zb_genT {q : Int} {s C B T : Nat → Int} {k L x M N : Nat} {b h : Int} (hi : zb_inv q s k L x M b C B) (T1 : ∀ i, i < x → T i = C i) (T2 : ∀ i, x ≤ i → q ∣ T i - (C i - h * B (i - x))) (hh : q ∣ h * b - zb_dc C L s k) (hL : L ≤ N) (hM : M + x ≤ N) : ∀ j, N ≤ j → j < k + 1 → q ∣ zb_dc T N s j := by
  obtain ⟨h1, h2, h3, h4, h5, h6, h7, h8, h9, h10, h11⟩ := hi
  intro j j1 j2
  have t := zb_dcT (s := s) (T := T) h5 h7 T1 T2 hL hM j
  by_cases e : j = k
  · rw [e] at t ⊢
    have t2 := zb_dm h (h9 (by omega))
    exact zb_de (Int.dvd_sub (Int.dvd_sub t t2) hh) (by grind)
  · have t1 := h6 j (by omega) (by omega)
    have t2 := zb_dm h (h8 j (by omega) (by omega))
    exact zb_de (Int.dvd_add t (Int.dvd_sub t1 t2)) (by grind)
theorem zb_inv_mend {q : Int} {s C B T : Nat → Int} {k L x M : Nat} {b h : Int} (hi : zb_inv q s k L x M b C B) (T1 : ∀ i, i < x → T i = C i) (T2 : ∀ i, x ≤ i → q ∣ T i - (C i - h * B (i - x))) (T3 : ∀ i, x ≤ i → C i = 0 → B (i - x) = 0 → T i = 0) (hh : q ∣ h * b - zb_dc C L s k) (hk : k < 2 * L) : zb_inv q s (k + 1) L (x + 1) M b T B := by
  have g := zb_genT hi T1 T2 hh (N := L) (Nat.le_refl L) (by obtain ⟨h1, h2, h3, _⟩ := hi; omega)
  obtain ⟨h1, h2, h3, h4, h5, h6, h7, h8, h9, h10, h11⟩ := hi
  refine ⟨by omega, by omega, by omega, by rw [T1 0 (by omega), h4], fun i hl => ?_, g, h7, fun j j1 j2 => ?_, fun hl => ?_, h10, fun c' L' c1 c2 => h11 c' L' c1 (fun j j1 j2 => c2 j j1 (by omega))⟩
  · by_cases e : i < x
    · rw [T1 i e, h5 i hl]
    · exact T3 i (by omega) (h5 i hl) (h7 (i - x) (by omega))
  · rw [show j - (x + 1) = j - 1 - x by omega]
    exact h8 (j - 1) (by omega) (by omega)
  · rw [show k + 1 - (x + 1) = k - x by omega]
    exact h9 hl
theorem zb_inv_grow {q : Int} {s C B T : Nat → Int} {k L x M : Nat} {b h d : Int} (hi : zb_inv q s k L x M b C B) (T1 : ∀ i, i < x → T i = C i) (T2 : ∀ i, x ≤ i → q ∣ T i - (C i - h * B (i - x))) (T3 : ∀ i, x ≤ i → C i = 0 → B (i - x) = 0 → T i = 0) (hh : q ∣ h * b - zb_dc C L s k) (hk : 2 * L ≤ k) (hd : q ∣ zb_dc C L s k - d) (hd0 : ¬ q ∣ d) : zb_inv q s (k + 1) (k + 1 - L) 1 L d T C := by
  have g := zb_genT hi T1 T2 hh (N := k + 1 - L) (by omega) (by obtain ⟨h1, h2, h3, _⟩ := hi; omega)
  obtain ⟨h1, h2, h3, h4, h5, h6, h7, h8, h9, h10, h11⟩ := hi
  refine ⟨by omega, Nat.le_refl 1, by omega, by rw [T1 0 (by omega), h4], fun i hl => ?_, g, h5, fun j j1 j2 => h6 (j - 1) (by omega) (by omega), fun hl => ?_, hd0, fun c' L' c1 c2 => ?_⟩
  · by_cases e : i < x
    · rw [T1 i e, h5 i (by omega)]
    · exact T3 i (by omega) (h5 i (by omega)) (h7 (i - x) (by omega))
  · rw [show k + 1 - 1 = k by omega]
    exact hd
  · by_cases e : L + L' ≤ k
    · exact absurd (zb_de (Int.dvd_sub (zb_massey h6 c1 c2 e) hd) (by omega)) hd0
    · omega
/-- L is the least length of a register that generates the first n symbols of s -/
def zb_lc (q : Int) (s : Nat → Int) (n L : Nat) : Prop :=
  L ≤ n ∧ (∃ c : Nat → Int, c 0 = 1 ∧ ∀ j, L ≤ j → j < n → q ∣ zb_dc c L s j) ∧ ∀ (c' : Nat → Int) (L' : Nat), c' 0 = 1 → (∀ j, L' ≤ j → j < n → q ∣ zb_dc c' L' s j) → L ≤ L'
theorem zb_lc_inv {q : Int} {s C B : Nat → Int} {k L x M : Nat} {b : Int} (hi : zb_inv q s k L x M b C B) : zb_lc q s k L := by
  obtain ⟨h1, h2, h3, h4, h5, h6, h7, h8, h9, h10, h11⟩ := hi
  exact ⟨h1, ⟨C, h4, h6⟩, h11⟩
theorem zb_lc_eq {q : Int} {s : Nat → Int} {n L L' : Nat} (h : zb_lc q s n L) (h' : zb_lc q s n L') : L = L' := by
  obtain ⟨_, ⟨c, c1, c2⟩, h3⟩ := h
  obtain ⟨_, ⟨c', c1', c2'⟩, h3'⟩ := h'
  have t1 := h3 c' L' c1' c2'
  have t2 := h3' c L c1 c2
  omega
theorem zb_dc_congr {s s' : Nat → Int} {n : Nat} (h : ∀ i, i < n → s i = s' i) (c : Nat → Int) (L j : Nat) (hj : j < n) : zb_dc c L s j = zb_dc c L s' j :=
  zb_sum_congr (fun i _ => by
    show c i * s (j - i) = c i * s' (j - i)
    rw [h (j - i) (by omega)])
theorem zb_lc_congr {q : Int} {s s' : Nat → Int} {n L : Nat} (h : ∀ i, i < n → s i = s' i) (hl : zb_lc q s n L) : zb_lc q s' n L := by
  obtain ⟨h1, ⟨c, c1, c2⟩, h3⟩ := hl
  refine ⟨h1, ⟨c, c1, fun j j1 j2 => ?_⟩, fun c' L' c1' c2' => h3 c' L' c1' (fun j j1 j2 => ?_)⟩
  · rw [← zb_dc_congr h c L j j2]
    exact c2 j j1 j2
  · rw [zb_dc_congr h c' L' j j2]
    exact c2' j j1 j2
/-- one step of mending, whatever the values -/
theorem zb_step {q : Int} (hq : ∀ b : Int, ¬ q ∣ b → ∃ y, q ∣ y * b - 1) {s C B : Nat → Int} {k L x M : Nat} {b : Int} (hi : zb_inv q s k L x M b C B) : ∃ L' x' M' b' C' B', zb_inv q s (k + 1) L' x' M' b' C' B' ∧ (L' = L ∨ 2 * L ≤ k ∧ L' = k + 1 - L) := by
  by_cases hd : q ∣ zb_dc C L s k
  · exact ⟨L, x + 1, M, b, C, B, zb_inv_same hi hd, Or.inl rfl⟩
  · have hb : ¬ q ∣ b := by
      obtain ⟨h1, h2, h3, h4, h5, h6, h7, h8, h9, h10, h11⟩ := hi
      exact h10
    obtain ⟨y, hy⟩ := hq b hb
    have T1 : ∀ i, i < x → (fun i => if i < x then C i else C i - (zb_dc C L s k * y) * B (i - x)) i = C i := fun i h => if_pos h
    have T2 : ∀ i, x ≤ i → q ∣ (fun i => if i < x then C i else C i - (zb_dc C L s k * y) * B (i - x)) i - (C i - (zb_dc C L s k * y) * B (i - x)) := fun i h => by
      show q ∣ (if i < x then C i else C i - (zb_dc C L s k * y) * B (i - x)) - (C i - (zb_dc C L s k * y) * B (i - x))
      rw [if_neg (by omega)]
      exact zb_de (zb_d0 q) (by omega)
    have T3 : ∀ i, x ≤ i → C i = 0 → B (i - x) = 0 → (fun i => if i < x then C i else C i - (zb_dc C L s k * y) * B (i - x)) i = 0 := fun i h e1 e2 => by
      show (if i < x then C i else C i - (zb_dc C L s k * y) * B (i - x)) = 0
      rw [if_neg (by omega), e1, e2, Int.mul_zero]
      rfl
    have hh : q ∣ (zb_dc C L s k * y) * b - zb_dc C L s k := zb_de (zb_dm (zb_dc C L s k) hy) (by grind)
    by_cases hk : k < 2 * L
    · exact ⟨L, x + 1, M, b, _, B, zb_inv_mend hi T1 T2 T3 hh hk, Or.inl rfl⟩
    · exact ⟨k + 1 - L, 1, L, zb_dc C L s k, _, C, zb_inv_grow hi T1 T2 T3 hh (by omega) (zb_de (zb_d0 q) (by omega)) hd, Or.inr ⟨by omega, rfl⟩⟩
theorem zb_ex {q : Int} (hq : ∀ b : Int, ¬ q ∣ b → ∃ y, q ∣ y * b - 1) (h1 : ¬ q ∣ 1) (s : Nat → Int) (k : Nat) : ∃ L x M b C B, zb_inv q s k L x M b C B := by
  induction k with
  | zero => exact ⟨0, 1, 0, 1, fun i => if i = 0 then 1 else 0, fun i => if i = 0 then 1 else 0, zb_inv_0 h1 rfl (fun i hi => if_neg (by omega)) (fun i hi => if_neg (by omega))⟩
  | succ k ih =>
    obtain ⟨L, x, M, b, C, B, hi⟩ := ih
    obtain ⟨L', x', M', b', C', B', hi', _⟩ := zb_step hq hi
    exact ⟨L', x', M', b', C', B', hi'⟩
/-- the profile: the least length stays or mirrors -/
theorem zb_profile {q : Int} (hq : ∀ b : Int, ¬ q ∣ b → ∃ y, q ∣ y * b - 1) (h1 : ¬ q ∣ 1) {s : Nat → Int} {k c d : Nat} (hc : zb_lc q s k c) (hd : zb_lc q s (k + 1) d) : d = c ∨ 2 * c ≤ k ∧ d = k + 1 - c := by
  obtain ⟨L, x, M, b, C, B, hi⟩ := zb_ex hq h1 s k
  obtain ⟨L', x', M', b', C', B', hi', hL⟩ := zb_step hq hi
  rw [zb_lc_eq hc (zb_lc_inv hi), zb_lc_eq hd (zb_lc_inv hi')]
  exact hL
/-- a part needs no longer register than the whole, nor than it is long -/
theorem zb_parts {q : Int} {s : Nat → Int} {n m a A c : Nat} (hA : zb_lc q s n A) (hc : zb_lc q (fun i => s (a + i)) m c) (h : a + m ≤ n) : c ≤ A ∧ c ≤ m := by
  obtain ⟨_, ⟨p, p1, p2⟩, _⟩ := hA
  obtain ⟨h1, _, h3⟩ := hc
  refine ⟨h3 p A p1 (fun j j1 j2 => ?_), h1⟩
  have e : zb_dc p A (fun i => s (a + i)) j = zb_dc p A s (a + j) :=
    zb_sum_congr (fun i hi => by
      show p i * s (a + (j - i)) = p i * s (a + j - i)
      rw [show a + (j - i) = a + j - i by omega])
  rw [e]
  exact p2 (a + j) (by omega) (by omega)
theorem zb_reg (x : Nat → Int) (L : Nat) (s : Nat → Int) (j : Nat) : zb_dc (fun i => if i = 0 then 1 else - x i) L s j = s j - zb_sum (fun i => x (i + 1) * s (j - (i + 1))) L := by
  have e : zb_sum (fun i => (if i + 1 = 0 then 1 else - x (i + 1)) * s (j - (i + 1))) L = (-1) * zb_sum (fun i => x (i + 1) * s (j - (i + 1))) L := by
    rw [← zb_sum_mul]
    refine zb_sum_congr (fun i _ => ?_)
    show (if i + 1 = 0 then 1 else - x (i + 1)) * s (j - (i + 1)) = (-1) * (x (i + 1) * s (j - (i + 1)))
    rw [if_neg (by omega)]
    grind
  unfold zb_dc
  rw [zb_sum_head]
  show (if 0 = 0 then 1 else - x 0) * s (j - 0) + zb_sum (fun i => (if i + 1 = 0 then 1 else - x (i + 1)) * s (j - (i + 1))) L = _
  rw [e, if_pos rfl, Nat.sub_zero]
  omega
/-- a symbol that a shortest register foretells doesn't lengthen it -/
theorem zb_predict {q : Int} {s s' x : Nat → Int} {m L L' : Nat} (hL : zb_lc q s m L) (hx : ∀ j, L ≤ j → j < m → q ∣ zb_sum (fun i => x (i + 1) * s (j - (i + 1))) L - s j) (hs : ∀ i, i < m → s i = s' i) (hm : q ∣ zb_sum (fun i => x (i + 1) * s' (m - (i + 1))) L - s' m) (hL' : zb_lc q s' (m + 1) L') : L' = L := by
  obtain ⟨a1, ⟨p, p1, p2⟩, a3⟩ := hL
  obtain ⟨b1, ⟨p', p1', p2'⟩, b3⟩ := hL'
  have t1 : L ≤ L' := a3 p' L' p1' (fun j j1 j2 => by
    rw [zb_dc_congr hs p' L' j j2]
    exact p2' j j1 (by omega))
  have t2 : L' ≤ L := b3 (fun i => if i = 0 then 1 else - x i) L rfl (fun j j1 j2 => by
    by_cases e : j = m
    · rw [e, zb_reg]
      exact zb_de (zb_dm (-1) hm) (by omega)
    · rw [← zb_dc_congr hs _ L j (by omega), zb_reg]
      exact zb_de (zb_dm (-1) (hx j j1 (by omega))) (by omega))
  omega
end
section
/-- y solves the R equations in K unknowns, the right sides in place K -/
def zb_sol (q : Int) (R K : Nat) (M : Nat → Nat → Int) (y : Nat → Int) : Prop :=
  ∀ r, r < R → q ∣ zb_sum (fun c => M r c * y c) K - M r K
theorem zb_sol_row {q : Int} {K : Nat} {u v w y : Nat → Int} {f g : Int} (h : ∀ c, c ≤ K → q ∣ u c - (f * v c + g * w c)) (hv : q ∣ zb_sum (fun c => v c * y c) K - v K) (hw : q ∣ zb_sum (fun c => w c * y c) K - w K) : q ∣ zb_sum (fun c => u c * y c) K - u K := by
  have e1 : q ∣ zb_sum (fun c => u c * y c) K - zb_sum (fun c => f * (v c * y c) + g * (w c * y c)) K :=
    zb_sum_cg (fun c hc => zb_de (zb_dr (y c) (h c (by omega))) (by
      show (u c - (f * v c + g * w c)) * y c = u c * y c - (f * (v c * y c) + g * (w c * y c))
      grind))
  rw [zb_sum_add, zb_sum_mul, zb_sum_mul] at e1
  have e2 := h K (Nat.le_refl K)
  exact zb_de (Int.dvd_sub (Int.dvd_add e1 (Int.dvd_add (zb_dm f hv) (zb_dm g hw))) e2) (by grind)
/-- every row of the new system is a combination of two rows of the old one -/
def zb_lin (q : Int) (R K : Nat) (M M' : Nat → Nat → Int) : Prop :=
  ∀ r, r < R → ∃ (f g : Int) (r1 r2 : Nat), r1 < R ∧ r2 < R ∧ ∀ c, c ≤ K → q ∣ M' r c - (f * M r1 c + g * M r2 c)
theorem zb_sol_lin {q : Int} {R K : Nat} {M M' : Nat → Nat → Int} {y : Nat → Int} (h : zb_lin q R K M M') (hs : zb_sol q R K M y) : zb_sol q R K M' y := by
  intro r hr
  obtain ⟨f, g, r1, r2, h1, h2, h3⟩ := h r hr
  exact zb_sol_row h3 (hs r1 h1) (hs r2 h2)
/-- the two systems have the same solutions -/
def zb_same (q : Int) (R K : Nat) (M M' : Nat → Nat → Int) : Prop := ∀ y, zb_sol q R K M y ↔ zb_sol q R K M' y
theorem zb_same_0 {q : Int} {R K : Nat} {M : Nat → Nat → Int} : zb_same q R K M M := fun _ => Iff.rfl
theorem zb_same_t {q : Int} {R K : Nat} {M M' M'' : Nat → Nat → Int} (h : zb_same q R K M M') (g : zb_same q R K M' M'') : zb_same q R K M M'' := fun y => (h y).trans (g y)
theorem zb_same_2 {q : Int} {R K : Nat} {M M' : Nat → Nat → Int} (h : zb_lin q R K M M') (g : zb_lin q R K M' M) : zb_same q R K M M' := fun _ => ⟨zb_sol_lin h, zb_sol_lin g⟩
theorem zb_swap_same {q : Int} {R K a b : Nat} {M M' : Nat → Nat → Int} (ha : a < R) (hb : b < R) (h1 : ∀ c, c ≤ K → M' a c = M b c) (h2 : ∀ c, c ≤ K → M' b c = M a c) (h3 : ∀ r c, r < R → r ≠ a → r ≠ b → c ≤ K → M' r c = M r c) : zb_same q R K M M' := by
  refine zb_same_2 (fun r hr => ?_) (fun r hr => ?_)
  · by_cases ea : r = a
    · exact ⟨1, 0, b, b, hb, hb, fun c hc => zb_de (zb_d0 q) (by rw [ea, h1 c hc]; grind)⟩
    · by_cases eb : r = b
      · exact ⟨1, 0, a, a, ha, ha, fun c hc => zb_de (zb_d0 q) (by rw [eb, h2 c hc]; grind)⟩
      · exact ⟨1, 0, r, r, hr, hr, fun c hc => zb_de (zb_d0 q) (by rw [h3 r c hr ea eb hc]; grind)⟩
  · by_cases ea : r = a
    · exact ⟨1, 0, b, b, hb, hb, fun c hc => zb_de (zb_d0 q) (by rw [ea, h2 c hc]; grind)⟩
    · by_cases eb : r = b
      · exact ⟨1, 0, a, a, ha, ha, fun c hc => zb_de (zb_d0 q) (by rw [eb, h1 c hc]; grind)⟩
      · exact ⟨1, 0, r, r, hr, hr, fun c hc => zb_de (zb_d0 q) (by rw [h3 r c hr ea eb hc]; grind)⟩
theorem zb_scale_same {q : Int} {R K a : Nat} {M M' : Nat → Nat → Int} {f g : Int} (ha : a < R) (hf : q ∣ g * f - 1) (h1 : ∀ c, c ≤ K → q ∣ M' a c - f * M a c) (h3 : ∀ r c, r < R → r ≠ a → c ≤ K → M' r c = M r c) : zb_same q R K M M' := by
  refine zb_same_2 (fun r hr => ?_) (fun r hr => ?_)
  · by_cases ea : r = a
    · exact ⟨f, 0, a, a, ha, ha, fun c hc => zb_de (h1 c hc) (by rw [ea]; grind)⟩
    · exact ⟨1, 0, r, r, hr, hr, fun c hc => zb_de (zb_d0 q) (by rw [h3 r c hr ea hc]; grind)⟩
  · by_cases ea : r = a
    · refine ⟨g, 0, a, a, ha, ha, fun c hc => ?_⟩
      rw [ea]
      exact zb_de (Int.dvd_sub (zb_dm (-(M a c)) hf) (zb_dm g (h1 c hc))) (by grind)
    · exact ⟨1, 0, r, r, hr, hr, fun c hc => zb_de (zb_d0 q) (by rw [h3 r c hr ea hc]; grind)⟩
theorem zb_clear_same {q : Int} {R K a : Nat} {M M' : Nat → Nat → Int} {f : Nat → Int} (ha : a < R) (h1 : ∀ c, c ≤ K → M' a c = M a c) (h3 : ∀ r c, r < R → r ≠ a → c ≤ K → q ∣ M' r c - (M r c - f r * M a c)) : zb_same q R K M M' := by
  refine zb_same_2 (fun r hr => ?_) (fun r hr => ?_)
  · by_cases ea : r = a
    · exact ⟨1, 0, a, a, ha, ha, fun c hc => zb_de (zb_d0 q) (by rw [ea, h1 c hc]; grind)⟩
    · exact ⟨1, - f r, r, a, hr, ha, fun c hc => zb_de (h3 r c hr ea hc) (by grind)⟩
  · by_cases ea : r = a
    · exact ⟨1, 0, a, a, ha, ha, fun c hc => zb_de (zb_d0 q) (by rw [ea, h1 c hc]; grind)⟩
    · refine ⟨1, f r, r, a, hr, ha, fun c hc => ?_⟩
      rw [h1 c hc]
      exact zb_de (zb_dm (-1) (h3 r c hr ea hc)) (by grind)
/-- reduced so far: the columns from t on are done; p says which row is a column's own, -1: none -/
def zb_E (q : Int) (R K t k : Nat) (M : Nat → Nat → Int) (p : Nat → Int) : Prop :=
  k ≤ R ∧ (∀ c, t ≤ c → c < K → p c = -1 ∨ ∃ r : Nat, p c = r ∧ r < k ∧ q ∣ M r c - 1 ∧ ∀ r', r' < R → r' ≠ r → q ∣ M r' c) ∧ (∀ c r, t ≤ c → c < K → k ≤ r → r < R → q ∣ M r c) ∧ (∀ r, r < k → ∃ c, t ≤ c ∧ c < K ∧ p c = r) ∧ (∀ c c', t ≤ c → c < K → t ≤ c' → c' < K → p c = p c' → p c = -1 ∨ c = c')
theorem zb_E_0 {q : Int} {R K : Nat} {M : Nat → Nat → Int} {p : Nat → Int} : zb_E q R K K 0 M p :=
  ⟨Nat.zero_le R, fun c h1 h2 => absurd h1 (by omega), fun c r h1 h2 => absurd h1 (by omega), fun r h => absurd h (by omega), fun c c' h1 h2 => absurd h1 (by omega)⟩
theorem zb_E_none {q : Int} {R K t k : Nat} {M : Nat → Nat → Int} {p p' : Nat → Int} (ht : t < K) (h : zb_E q R K (t + 1) k M p) (hp : ∀ c, c ≠ t → p' c = p c) (hpt : p' t = -1) (hz : ∀ r, k ≤ r → r < R → q ∣ M r t) : zb_E q R K t k M p' := by
  obtain ⟨h1, h2, h3, h4, h5⟩ := h
  refine ⟨h1, fun c c1 c2 => ?_, fun c r c1 c2 r1 r2 => ?_, fun r hr => ?_, fun c c' c1 c2 c3 c4 e => ?_⟩
  · by_cases e : c = t
    · rw [e]
      exact Or.inl hpt
    · rw [hp c e]
      exact h2 c (by omega) c2
  · by_cases e : c = t
    · rw [e]
      exact hz r r1 r2
    · exact h3 c r (by omega) c2 r1 r2
  · obtain ⟨c, c1, c2, c3⟩ := h4 r hr
    exact ⟨c, by omega, c2, by rw [hp c (by omega), c3]⟩
  · by_cases e1 : c = t
    · rw [e1]
      exact Or.inl hpt
    · by_cases e2 : c' = t
      · rw [e, e2]
        exact Or.inl hpt
      · rw [hp c e1, hp c' e2] at e
        rw [hp c e1]
        exact h5 c c' (by omega) c2 (by omega) c4 e
theorem zb_E_swap {q : Int} {R K t k a : Nat} {M M' : Nat → Nat → Int} {p : Nat → Int} (h : zb_E q R K t k M p) (ha : a < R) (hk : k ≤ a) (h1 : ∀ c, c ≤ K → M' a c = M k c) (h2 : ∀ c, c ≤ K → M' k c = M a c) (h3 : ∀ r c, r < R → r ≠ a → r ≠ k → c ≤ K → M' r c = M r c) : zb_E q R K t k M' p := by
  obtain ⟨g1, g2, g3, g4, g5⟩ := h
  refine ⟨g1, fun c c1 c2 => ?_, fun c r c1 c2 r1 r2 => ?_, g4, g5⟩
  · rcases g2 c c1 c2 with z | ⟨r, r1, r2, r3, r4⟩
    · exact Or.inl z
    · refine Or.inr ⟨r, r1, r2, ?_, fun r' s1 s2 => ?_⟩
      · rw [h3 r c (by omega) (by omega) (by omega) (by omega)]
        exact r3
      · by_cases ea : r' = a
        · rw [ea, h1 c (by omega)]
          exact r4 k (by omega) (by omega)
        · by_cases ek : r' = k
          · rw [ek, h2 c (by omega)]
            exact r4 a (by omega) (by omega)
          · rw [h3 r' c s1 ea ek (by omega)]
            exact r4 r' s1 s2
  · by_cases ea : r = a
    · rw [ea, h1 c (by omega)]
      exact g3 c k c1 c2 (by omega) (by omega)
    · by_cases ek : r = k
      · rw [ek, h2 c (by omega)]
        exact g3 c a c1 c2 (by omega) (by omega)
      · rw [h3 r c r2 ea ek (by omega)]
        exact g3 c r c1 c2 r1 r2
theorem zb_E_scale {q : Int} {R K t k : Nat} {M M' : Nat → Nat → Int} {p : Nat → Int} {f : Int} (h : zb_E q R K t k M p) (hk : k < R) (h1 : ∀ c, c ≤ K → q ∣ M' k c - f * M k c) (h3 : ∀ r c, r < R → r ≠ k → c ≤ K → M' r c = M r c) : zb_E q R K t k M' p := by
  obtain ⟨g1, g2, g3, g4, g5⟩ := h
  refine ⟨g1, fun c c1 c2 => ?_, fun c r c1 c2 r1 r2 => ?_, g4, g5⟩
  · rcases g2 c c1 c2 with z | ⟨r, r1, r2, r3, r4⟩
    · exact Or.inl z
    · refine Or.inr ⟨r, r1, r2, ?_, fun r' s1 s2 => ?_⟩
      · rw [h3 r c (by omega) (by omega) (by omega)]
        exact r3
      · by_cases ek : r' = k
        · rw [ek]
          exact zb_de (Int.dvd_add (h1 c (by omega)) (zb_dm f (r4 k hk (by omega)))) (by omega)
        · rw [h3 r' c s1 ek (by omega)]
          exact r4 r' s1 s2
  · by_cases ek : r = k
    · rw [ek]
      exact zb_de (Int.dvd_add (h1 c (by omega)) (zb_dm f (g3 c k c1 c2 (by omega) hk))) (by omega)
    · rw [h3 r c r2 ek (by omega)]
      exact g3 c r c1 c2 r1 r2
theorem zb_E_clear {q : Int} {R K t k : Nat} {M M' : Nat → Nat → Int} {p p' : Nat → Int} (ht : t < K) (h : zb_E q R K (t + 1) k M p) (hk : k < R) (hone : q ∣ M k t - 1) (h1 : ∀ c, c ≤ K → M' k c = M k c) (h3 : ∀ r c, r < R → r ≠ k → c ≤ K → q ∣ M' r c - (M r c - M r t * M k c)) (hp : ∀ c, c ≠ t → p' c = p c) (hpt : p' t = k) : zb_E q R K t (k + 1) M' p' := by
  obtain ⟨g1, g2, g3, g4, g5⟩ := h
  have old : ∀ r c, r < R → r ≠ k → t + 1 ≤ c → c < K → q ∣ M' r c - M r c := fun r c r1 r2 c1 c2 =>
    zb_de (Int.dvd_sub (h3 r c r1 r2 (by omega)) (zb_dm (M r t) (g3 c k c1 c2 (Nat.le_refl k) hk))) (by grind)
  have col : ∀ r, r < R → r ≠ k → q ∣ M' r t := fun r r1 r2 =>
    zb_de (Int.dvd_sub (h3 r t r1 r2 (by omega)) (zb_dm (M r t) hone)) (by grind)
  refine ⟨by omega, fun c c1 c2 => ?_, fun c r c1 c2 r1 r2 => ?_, fun r hr => ?_, fun c c' c1 c2 c3 c4 e => ?_⟩
  · by_cases e : c = t
    · rw [e]
      exact Or.inr ⟨k, hpt, by omega, by rw [h1 t (by omega)]; exact hone, fun r' s1 s2 => col r' s1 s2⟩
    · rw [hp c e]
      rcases g2 c (by omega) c2 with z | ⟨r, r1, r2, r3, r4⟩
      · exact Or.inl z
      · refine Or.inr ⟨r, r1, by omega, ?_, fun r' s1 s2 => ?_⟩
        · exact zb_de (Int.dvd_add (old r c (by omega) (by omega) (by omega) c2) r3) (by omega)
        · by_cases ek : r' = k
          · rw [ek, h1 c (by omega)]
            exact r4 k hk (by omega)
          · exact zb_de (Int.dvd_add (old r' c s1 ek (by omega) c2) (r4 r' s1 s2)) (by omega)
  · by_cases e : c = t
    · rw [e]
      exact col r r2 (by omega)
    · exact zb_de (Int.dvd_add (old r c r2 (by omega) (by omega) c2) (g3 c r (by omega) c2 (by omega) r2)) (by omega)
  · by_cases er : r = k
    · exact ⟨t, Nat.le_refl t, ht, by rw [er, hpt]⟩
    · obtain ⟨c, c1, c2, c3⟩ := g4 r (by omega)
      exact ⟨c, by omega, c2, by rw [hp c (by omega), c3]⟩
  · have small : ∀ c, t + 1 ≤ c → c < K → p c ≠ k := fun c c1 c2 e => by
      rcases g2 c c1 c2 with z | ⟨r, r1, r2, _⟩
      · omega
      · omega
    by_cases e1 : c = t
    · by_cases e2 : c' = t
      · exact Or.inr (by omega)
      · rw [e1, hpt, hp c' e2] at e
        exact absurd e.symm (small c' (by omega) c4)
    · by_cases e2 : c' = t
      · rw [e2, hpt, hp c e1] at e
        exact absurd e (small c (by omega) c2)
      · rw [hp c e1, hp c' e2] at e
        rw [hp c e1]
        exact g5 c c' (by omega) c2 (by omega) c4 e
/-- what is read off the reduced rows solves them, if anything does -/
theorem zb_E_end {q : Int} {R K k : Nat} {M : Nat → Nat → Int} {p y y0 : Nat → Int} (h : zb_E q R K 0 k M p) (hs : zb_sol q R K M y0) (hn : ∀ c, c < K → p c = -1 → y c = 0) (hy : ∀ c (r : Nat), c < K → p c = r → y c = M r K) : zb_sol q R K M y := by
  obtain ⟨g1, g2, g3, g4, g5⟩ := h
  intro r hr
  by_cases hk : k ≤ r
  · have t1 : q ∣ zb_sum (fun c => M r c * y c) K := zb_sum_dvd (fun c hc => zb_dr _ (g3 c r (by omega) hc hk hr))
    have t2 : q ∣ zb_sum (fun c => M r c * y0 c) K := zb_sum_dvd (fun c hc => zb_dr _ (g3 c r (by omega) hc hk hr))
    exact zb_de (Int.dvd_add (Int.dvd_sub t1 t2) (hs r hr)) (by omega)
  · obtain ⟨c0, _, c2, c3⟩ := g4 r (by omega)
    have t1 : q ∣ zb_sum (fun c => M r c * y c) K - M r c0 * y c0 := zb_sum_one (f := fun c => M r c * y c) c2 (fun c hc hne => by
      show q ∣ M r c * y c
      rcases g2 c (by omega) hc with z | ⟨r', r1, r2, r3, r4⟩
      · rw [hn c hc z, Int.mul_zero]
        exact zb_d0 q
      · have ne : r ≠ r' := fun e => by
          rcases g5 c c0 (by omega) hc (by omega) c2 (by rw [r1, c3, e]) with z | z
          · omega
          · exact hne z
        exact zb_dr _ (r4 r hr ne))
    have t2 : q ∣ M r c0 - 1 := by
      rcases g2 c0 (by omega) c2 with z | ⟨r', r1, r2, r3, r4⟩
      · omega
      · have e : r' = r := by omega
        rw [e] at r3
        exact r3
    rw [hy c0 r c2 c3] at t1
    exact zb_de (Int.dvd_add t1 (zb_dr (M r K) t2)) (by grind)
end
section
def zw_q (q : Nat) : Prop := q = 2 ∨ q = 3 ∨ q = 5
def zw_ok (q : Nat) (x : Int32) : Prop := ∃ t, t < q ∧ x = nI t
/-- an array as a sequence; a polynomial of 32 places -/
def zw_s (a : Nat → Int32) : Nat → Int := fun i => (a i).toInt
def zw_p (a : Nat → Int32) : Nat → Int := fun i => if i < 32 then (a i).toInt else 0
def zw_n (a : Nat → Int32) : Nat → Nat := fun i => (a i).toNatClampNeg
theorem zw_b8 : ∀ t, t < 128 → (nI t).toInt8.toInt32 = nI t := by decide +kernel
theorem zw_nar {t : Nat} (h : t < 128) : vp_nar .byte (nI t) = nI t := by
  rw [vp_nar_byte, zw_b8 t h]
theorem zw_q2 {q : Nat} (h : zw_q q) : 2 ≤ q ∧ q ≤ 5 := by
  rcases h with e | e | e <;> omega
theorem zw_ok_nar {q : Nat} {x : Int32} (hq : zw_q q) (h : zw_ok q x) : vp_nar .byte x = x := by
  obtain ⟨t, ht, rfl⟩ := h
  have := zw_q2 hq
  exact zw_nar (by omega)
theorem zw_ok_0 {q : Nat} (hq : zw_q q) : zw_ok q 0 := ⟨0, by have := zw_q2 hq; omega, rfl⟩
theorem zw_ok_1 {q : Nat} (hq : zw_q q) : zw_ok q 1 := ⟨1, by have := zw_q2 hq; omega, rfl⟩
theorem zw_ok_n {q : Nat} {a : Nat → Int32} {i : Nat} (hq : zw_q q) (h : zw_ok q (a i)) : zw_n a i < q ∧ a i = nI (zw_n a i) ∧ zw_s a i = (zw_n a i : Int) := by
  obtain ⟨t, ht, e⟩ := h
  have hq2 := zw_q2 hq
  have e2 : zw_n a i = t := by
    show (a i).toNatClampNeg = t
    rw [e, nI_clamp (by omega)]
  have e3 : zw_s a i = (t : Int) := by
    show (a i).toInt = (t : Int)
    rw [e, nI_toInt (by omega)]
  rw [e2]
  exact ⟨ht, e, e3⟩
theorem zw_p_lt {a : Nat → Int32} {i : Nat} (h : i < 32) : zw_p a i = zw_s a i := if_pos h
theorem zw_p_ge {a : Nat → Int32} {i : Nat} (h : 32 ≤ i) : zw_p a i = 0 := if_neg (by omega)
theorem zw_p_eq {a b : Nat → Int32} (h : ∀ i, i < 32 → a i = b i) : zw_p a = zw_p b := by
  funext i
  by_cases e : i < 32
  · rw [zw_p_lt e, zw_p_lt e]
    show (a i).toInt = (b i).toInt
    rw [h i e]
  · rw [zw_p_ge (by omega), zw_p_ge (by omega)]
theorem zw_unit {q : Nat} (hq : zw_q q) (b : Int) (h : ¬ (q : Int) ∣ b) : ∃ y, (q : Int) ∣ y * b - 1 := by
  rcases hq with e | e | e
  · subst e
    have h' : ¬ (2 : Int) ∣ b := h
    exact ⟨1, show (2 : Int) ∣ 1 * b - 1 by omega⟩
  · subst e
    have h' : ¬ (3 : Int) ∣ b := h
    by_cases e1 : b % 3 = 1
    · exact ⟨1, show (3 : Int) ∣ 1 * b - 1 by omega⟩
    · exact ⟨2, show (3 : Int) ∣ 2 * b - 1 by omega⟩
  · subst e
    have h' : ¬ (5 : Int) ∣ b := h
    by_cases e1 : b % 5 = 1
    · exact ⟨1, show (5 : Int) ∣ 1 * b - 1 by omega⟩
    · by_cases e2 : b % 5 = 2
      · exact ⟨3, show (5 : Int) ∣ 3 * b - 1 by omega⟩
      · by_cases e3 : b % 5 = 3
        · exact ⟨2, show (5 : Int) ∣ 2 * b - 1 by omega⟩
        · exact ⟨4, show (5 : Int) ∣ 4 * b - 1 by omega⟩
theorem zw_q1 {q : Nat} (hq : zw_q q) : ¬ (q : Int) ∣ 1 := by
  rcases hq with e | e | e
  · subst e
    exact show ¬ (2 : Int) ∣ 1 by omega
  · subst e
    exact show ¬ (3 : Int) ∣ 1 by omega
  · subst e
    exact show ¬ (5 : Int) ∣ 1 by omega
theorem zw_dv0 {q d : Nat} (h : d < q) (h2 : (q : Int) ∣ (d : Int)) : d = 0 :=
  Nat.eq_zero_of_dvd_of_lt (Int.natCast_dvd_natCast.mp h2) h
theorem zw_mod (a q : Nat) : (q : Int) ∣ (a : Int) - ((a % q : Nat) : Int) := by
  have h : ((q * (a / q) + a % q : Nat) : Int) = (a : Int) := by rw [Nat.div_add_mod]
  rw [Int.natCast_add, Int.natCast_mul] at h
  exact ⟨((a / q : Nat) : Int), by rw [← h]; grind⟩
/-- c - m + q q, made small again -/
theorem zw_wr {q c m : Nat} (hm : m ≤ c + q * q) : (q : Int) ∣ (((c + q * q - m) % q : Nat) : Int) - ((c : Int) - (m : Int)) := by
  have h := zw_mod (c + q * q - m) q
  have e : ((c + q * q - m : Nat) : Int) = (c : Int) + (q : Int) * (q : Int) - (m : Int) := by
    rw [Int.natCast_sub hm, Int.natCast_add, Int.natCast_mul]
  rw [e] at h
  obtain ⟨k, hk⟩ := h
  exact ⟨(q : Int) - k, by grind⟩
/-- what 'inverse' has found before i -/
def zw_gi (v q : Nat) : Nat → Nat
  | 0 => 1
  | i + 1 => if i < 2 then 1 else if v * i % q = 1 then i else zw_gi v q i
theorem zw_gi_t {q v : Nat} (hq : zw_q q) (h0 : 0 < v) (hv : v < q) : zw_gi v q q < q ∧ v * zw_gi v q q % q = 1 := by
  rcases hq with e | e | e
  · subst e
    have t : ∀ v, v < 2 → 0 < v → zw_gi v 2 2 < 2 ∧ v * zw_gi v 2 2 % 2 = 1 := by decide +kernel
    exact t v hv h0
  · subst e
    have t : ∀ v, v < 3 → 0 < v → zw_gi v 3 3 < 3 ∧ v * zw_gi v 3 3 % 3 = 1 := by decide +kernel
    exact t v hv h0
  · subst e
    have t : ∀ v, v < 5 → 0 < v → zw_gi v 5 5 < 5 ∧ v * zw_gi v 5 5 % 5 = 1 := by decide +kernel
    exact t v hv h0
theorem zw_gi_s {v q i : Nat} (h : 2 ≤ i) : zw_gi v q (i + 1) = if v * i % q = 1 then i else zw_gi v q i := if_neg (by omega)
theorem zw_mul_le {a b q : Nat} (ha : a < q) (hb : b < q) : a * b ≤ q * q := Nat.mul_le_mul (Nat.le_of_lt ha) (Nat.le_of_lt hb)
theorem zw_qq {q : Nat} (hq : zw_q q) : q * q ≤ 25 := by
  have h := zw_q2 hq
  exact Nat.mul_le_mul h.2 h.2
/-- an inverse in Int out of one in Nat -/
theorem zw_inv1 {q v r : Nat} (h : v * r % q = 1) : (q : Int) ∣ (r : Int) * (v : Int) - 1 := by
  have t := zw_mod (v * r) q
  rw [h, Int.natCast_mul] at t
  exact zb_de t (by rw [Int.mul_comm]; rfl)
theorem zw_share {q d b r : Nat} (h : b * r % q = 1) : (q : Int) ∣ ((d * r % q : Nat) : Int) * (b : Int) - (d : Int) := by
  have t1 := zw_mod (d * r) q
  rw [Int.natCast_mul] at t1
  exact zb_de (Int.dvd_sub (zb_dm (d : Int) (zw_inv1 h)) (zb_dr (b : Int) t1)) (by grind)
end
section
section
variable {l sz ws rw cl rk rl : Int32} {a1 a2 a3 a4 a5 a6 a7 a8 : Nat → Int32} {q : Nat}
theorem zw_inverse {post : Int32 → Prop} {v : Nat} (hq : zw_q q) (h0 : 0 < v) (hv : v < q) (H : ∀ r, r < q → v * r % q = 1 → post (nI r)) : wpX_inverse post (nI q, l, sz, ws, rw, cl, rk, rl, a1, a2, a3, a4, a5, a6, a7, a8) (nI v) := by
  have hq2 := zw_q2 hq
  unfold wpX_inverse
  refine pk_loop (fun n i r => wX_inverse_4 post (nI v) (nI q) l sz ws rw cl rk rl a1 a2 a3 a4 a5 a6 a7 a8 n r (nI i)) (fun i r => 2 ≤ i ∧ r = nI (zw_gi v q i)) q 2 1 hq2.1 ⟨Nat.le_refl 2, rfl⟩ ?_ ?_
  · intro n r h
    have t := zw_gi_t hq h0 hv
    refine pk_le q q (fun _ => ?_) (fun z => absurd z (by omega))
    rw [h.2]
    exact H _ t.1 t.2
  · intro n i r hi h hw
    refine pk_le q i (fun z => absurd z (by omega)) (fun _ => ⟨nI_ne0 (by omega) (by omega), ?_⟩)
    have hvi : v * i ≤ 25 := Nat.le_trans (zw_mul_le hv hi) (zw_qq hq)
    have hm : v * i % q < q := Nat.mod_lt _ (by omega)
    have e : nI v * nI i - nI v * nI i / nI q * nI q = nI (v * i % q) := by
      rw [pk_mul, pk_rem (by omega) (by omega) (by omega)]
    rw [e]
    refine pk_eq (v * i % q) 1 (fun z => nm_r (nI_1 i) (hw _ ⟨by omega, ?_⟩)) (fun z => nm_r (nI_1 i) (hw _ ⟨by omega, ?_⟩))
    · rw [zw_gi_s h.1, if_pos z]
    · rw [zw_gi_s h.1, if_neg z]
      exact h.2
theorem zw_wrap {post : Int32 → Prop} {c m : Nat} (hq : zw_q q) (hc : c < 1000) (hm : m ≤ c + q * q) (H : post (nI ((c + q * q - m) % q))) : wpX_wrap post (nI q, l, sz, ws, rw, cl, rk, rl, a1, a2, a3, a4, a5, a6, a7, a8) (nI c - nI m) := by
  have hq2 := zw_q2 hq
  have hqq := zw_qq hq
  have e : nI c - nI m + nI q * nI q = nI (c + q * q - m) := by
    rw [pk_mul, ← pk_sub hm, ← nI_add]
    grind
  show ¬ nI q = 0 ∧ post (nI c - nI m + nI q * nI q - (nI c - nI m + nI q * nI q) / nI q * nI q)
  rw [e, pk_rem (by omega) (by omega) (by omega)]
  exact ⟨nI_ne0 (by omega) (by omega), H⟩
theorem zw_discrepancy {post : Int32 → Prop} {k L : Nat} (hq : zw_q q) (hL : L ≤ k) (hk : k < 32) (h3 : ∀ i, i < 32 → zw_ok q (a3 i)) (h2 : ∀ i, i ≤ k → zw_ok q (a2 i))
    (H : ∀ d, d < q → (q : Int) ∣ zb_dc (zw_p a3) L (zw_s a2) k - (d : Int) → post (nI d)) : wpX_discrepancy post (nI q, l, sz, ws, rw, cl, rk, rl, a1, a2, a3, a4, a5, a6, a7, a8) (nI k) (nI L) := by
  have hq2 := zw_q2 hq
  unfold wpX_discrepancy
  refine pk_loop (fun n i x => wX_discrepancy_5 post (nI k) (nI L) (nI q) l sz ws rw cl rk rl a1 a2 a3 a4 a5 a6 a7 a8 n x (nI i)) (fun i x => ∃ S : Nat, x = nI S ∧ S ≤ 25 * i ∧ (S : Int) = zb_sum (fun i => zw_p a3 i * zw_s a2 (k - i)) i) (L + 1) 0 0 (by omega) ⟨0, rfl, by omega, rfl⟩ ?_ ?_
  · intro n x h
    obtain ⟨S, hx, hS, hs⟩ := h
    refine pk_lt L (L + 1) (fun _ => ⟨nI_ne0 (by omega) (by omega), ?_⟩) (fun z => absurd z (by omega))
    rw [hx, pk_rem (by omega) (by omega) (by omega)]
    refine H (S % q) (Nat.mod_lt _ (by omega)) ?_
    show (q : Int) ∣ zb_sum (fun i => zw_p a3 i * zw_s a2 (k - i)) (L + 1) - _
    rw [← hs]
    exact zw_mod S q
  · intro n i x hi h hw
    obtain ⟨S, hx, hS, hs⟩ := h
    have o3 := zw_ok_n hq (h3 i (by omega))
    have o2 := zw_ok_n hq (h2 (k - i) (by omega))
    have hm : zw_n a3 i * zw_n a2 (k - i) ≤ 25 := Nat.le_trans (zw_mul_le o3.1 o2.1) (zw_qq hq)
    refine pk_lt L i (fun z => absurd z (by omega)) (fun _ => pk_lt k i (fun z => absurd z (by omega)) (fun _ => ⟨pk_in i 32 (by omega), pk_in (k - i) 64 (by omega) (pk_sub (by omega)), ?_⟩))
    refine nm_r (e' := nI (S + zw_n a3 i * zw_n a2 (k - i))) ?_ (nm_r (nI_1 i) (hw _ ⟨_, rfl, by omega, ?_⟩))
    · rw [pk_cl i, pk_cl (k - i) (pk_sub (by omega)), hx, ← nI_add, ← pk_mul, ← o3.2.1, ← o2.2.1]
    · rw [zb_sum_s, ← hs, zw_p_lt (by omega), o3.2.2, o2.2.2, Int.natCast_add, Int.natCast_mul]
theorem zw_keepCopy {post : St1 → Prop} (hq : zw_q q) (h3 : ∀ i, i < 32 → zw_ok q (a3 i)) (H : ∀ a, (∀ i, i < 32 → a i = a3 i) → post (nI q, l, sz, ws, rw, cl, rk, rl, a1, a2, a3, a4, a, a6, a7, a8)) : wpX_keepCopy post (nI q, l, sz, ws, rw, cl, rk, rl, a1, a2, a3, a4, a5, a6, a7, a8) := by
  unfold wpX_keepCopy
  refine pk_loop (fun n i s => wX_keepCopy_2 post (nI q) l sz ws rw cl rk rl n (nI i) a1 a2 a3 a4 s a6 a7 a8) (fun i s => ∀ j, j < i → s j = a3 j) 32 0 a5 (by omega) (fun j hj => absurd hj (by omega)) ?_ ?_
  · intro n s h
    exact pk_le 32 32 (fun _ => H s h) (fun z => absurd z (by omega))
  · intro n i s hi h hw
    refine pk_le 32 i (fun z => absurd z (by omega)) (fun _ => ⟨pk_in i 32 hi, pk_in i 32 hi, nm_e (nm_r (nI_1 i) (hw _ (fun j hj => ?_)))⟩)
    rw [pk_cl i, zw_ok_nar hq (h3 i hi)]
    by_cases e : j = i
    · rw [e, pk_us]
    · rw [pk_un e]
      exact h j (by omega)
theorem zw_useCopy {post : St1 → Prop} (hq : zw_q q) (h5 : ∀ i, i < 32 → zw_ok q (a5 i)) (H : ∀ a, (∀ i, i < 32 → a i = a5 i) → post (nI q, l, sz, ws, rw, cl, rk, rl, a1, a2, a3, a, a5, a6, a7, a8)) : wpX_useCopy post (nI q, l, sz, ws, rw, cl, rk, rl, a1, a2, a3, a4, a5, a6, a7, a8) := by
  unfold wpX_useCopy
  refine pk_loop (fun n i s => wX_useCopy_2 post (nI q) l sz ws rw cl rk rl n (nI i) a1 a2 a3 s a5 a6 a7 a8) (fun i s => ∀ j, j < i → s j = a5 j) 32 0 a4 (by omega) (fun j hj => absurd hj (by omega)) ?_ ?_
  · intro n s h
    exact pk_le 32 32 (fun _ => H s h) (fun z => absurd z (by omega))
  · intro n i s hi h hw
    refine pk_le 32 i (fun z => absurd z (by omega)) (fun _ => ⟨pk_in i 32 hi, pk_in i 32 hi, nm_e (nm_r (nI_1 i) (hw _ (fun j hj => ?_)))⟩)
    rw [pk_cl i, zw_ok_nar hq (h5 i hi)]
    by_cases e : j = i
    · rw [e, pk_us]
    · rw [pk_un e]
      exact h j (by omega)
theorem zw_take {post : St1 → Prop} {x y : Nat} (hq : zw_q q) (hxy : x ≤ y) (hy : y ≤ 12) (h1 : ∀ i, i < y → zw_ok q (a1 i)) (H : ∀ a, (∀ j, j < y - x → a j = a1 (x + j)) → post (nI q, l, sz, nI (y - x), rw, cl, rk, rl, a1, a, a3, a4, a5, a6, a7, a8)) : wpX_take post (nI q, l, sz, ws, rw, cl, rk, rl, a1, a2, a3, a4, a5, a6, a7, a8) (nI x) (nI y) := by
  unfold wpX_take
  refine pk_loop (fun n i (s : Int32 × (Nat → Int32)) => wX_take_7 post (nI y) (nI q) l sz rw cl rk rl n (nI i) s.1 a1 s.2 a3 a4 a5 a6 a7 a8) (fun i s => x ≤ i ∧ s.1 = nI (i - x) ∧ ∀ j, j < i - x → s.2 j = a1 (x + j)) y x (0, a2) hxy ⟨Nat.le_refl x, ?_, fun j hj => absurd hj (by omega)⟩ ?_ ?_
  · rw [Nat.sub_self]
    rfl
  · intro n s h
    obtain ⟨w, s⟩ := s
    obtain ⟨g1, g2, g3⟩ := h
    have g2' : w = nI (y - x) := g2
    subst g2'
    exact pk_le y y (fun _ => H s g3) (fun z => absurd z (by omega))
  · intro n i s hi h hw
    obtain ⟨w, s⟩ := s
    obtain ⟨g1, g2, g3⟩ := h
    have g2' : w = nI (i - x) := g2
    subst g2'
    refine pk_le y i (fun z => absurd z (by omega)) (fun _ => ⟨pk_in i 12 (by omega), pk_in (i - x) 64 (by omega), nm_e (nm_r (nI_1 _) (nm_r (nI_1 i) (hw (nI (i - x + 1), _) ⟨by omega, ?_, fun j hj => ?_⟩)))⟩)
    · show nI (i - x + 1) = nI (i + 1 - x)
      rw [show i - x + 1 = i + 1 - x by omega]
    · show upd s (nI (i - x)).toNatClampNeg (vp_nar .byte (a1 (nI i).toNatClampNeg)) j = a1 (x + j)
      rw [nI_clamp (n := i) (by omega), nI_clamp (n := i - x) (by omega), zw_ok_nar hq (h1 i hi)]
      by_cases e : j = i - x
      · rw [e, pk_us, show x + (i - x) = i by omega]
      · rw [pk_un e]
        exact g3 j (by omega)
/-- one place of the mended polynomial -/
def zw_mv (q h x : Nat) (a b : Nat → Int32) (j : Nat) : Nat := (zw_n a j + q * q - h * zw_n b (j - x)) % q
theorem zw_mend {post : St1 → Prop} {d b x : Nat} (hq : zw_q q) (hd : d < q) (hb0 : 0 < b) (hb : b < q) (hx : 1 ≤ x) (hx2 : x ≤ 32) (h3 : ∀ i, i < 32 → zw_ok q (a3 i)) (h4 : ∀ i, i < 32 → zw_ok q (a4 i)) (hz : ∀ i, 32 ≤ i + x → zw_p a4 i = 0)
    (H : ∀ (h : Int) (a : Nat → Int32), (q : Int) ∣ h * (b : Int) - (d : Int) → (∀ i, i < 32 → zw_ok q (a i)) → (∀ i, i < x → zw_p a i = zw_p a3 i) → (∀ i, x ≤ i → (q : Int) ∣ zw_p a i - (zw_p a3 i - h * zw_p a4 (i - x))) → (∀ i, x ≤ i → zw_p a3 i = 0 → zw_p a4 (i - x) = 0 → zw_p a i = 0) → post (nI q, l, sz, ws, rw, cl, rk, rl, a1, a2, a, a4, a5, a6, a7, a8)) :
    wpX_mend post (nI q, l, sz, ws, rw, cl, rk, rl, a1, a2, a3, a4, a5, a6, a7, a8) (nI d) (nI b) (nI x) := by
  have hq2 := zw_q2 hq
  unfold wpX_mend
  refine zw_inverse hq hb0 hb (fun r hr hbr => ⟨nI_ne0 (by omega) (by omega), ?_⟩)
  have hdr : d * r ≤ 25 := Nat.le_trans (zw_mul_le hd hr) (zw_qq hq)
  refine nm_r (e' := nI (d * r % q)) (by rw [pk_mul, pk_rem (by omega) (by omega) (by omega)]) ?_
  have hh : d * r % q < q := Nat.mod_lt _ (by omega)
  have hsh := zw_share (d := d) hbr
  generalize d * r % q = h at hh hsh
  refine pk_loop (fun n i s => wX_mend_17 post (nI x) (nI h) (nI q) l sz ws rw cl rk rl n (nI i) a1 a2 s a4 a5 a6 a7 a8) (fun i s => x ≤ i ∧ (∀ j, j < x ∨ i ≤ j → s j = a3 j) ∧ (∀ j, x ≤ j → j < i → s j = nI (zw_mv q h x a3 a4 j))) 32 x a3 hx2 ⟨Nat.le_refl x, fun j _ => rfl, fun j g1 g2 => absurd g2 (by omega)⟩ ?_ ?_
  · intro n s g
    obtain ⟨_, g2, g3⟩ := g
    have hv : ∀ j, x ≤ j → j < 32 → zw_s s j = (zw_mv q h x a3 a4 j : Int) := fun j j1 j2 => by
      show (s j).toInt = _
      have : zw_mv q h x a3 a4 j < q := Nat.mod_lt _ (by omega)
      rw [g3 j j1 j2, nI_toInt (by omega)]
    refine pk_le 32 32 (fun _ => H (h : Int) s hsh (fun i hi => ?_) (fun i hi => ?_) (fun i hi => ?_) (fun i hi e1 e2 => ?_)) (fun z => absurd z (by omega))
    · by_cases e : i < x
      · rw [g2 i (Or.inl e)]
        exact h3 i hi
      · exact ⟨_, Nat.mod_lt _ (by omega), g3 i (by omega) hi⟩
    · rw [zw_p_lt (by omega), zw_p_lt (by omega)]
      show (s i).toInt = (a3 i).toInt
      rw [g2 i (Or.inl hi)]
    · by_cases e : i < 32
      · have o3 := zw_ok_n hq (h3 i e)
        have o4 := zw_ok_n hq (h4 (i - x) (by omega))
        rw [zw_p_lt e, zw_p_lt e, zw_p_lt (by omega), hv i hi e, o3.2.2, o4.2.2, ← Int.natCast_mul]
        refine zw_wr ?_
        have := zw_mul_le hh o4.1
        omega
      · rw [zw_p_ge (by omega), zw_p_ge (by omega), hz (i - x) (by omega)]
        exact zb_de (zb_d0 _) (by grind)
    · by_cases e : i < 32
      · have o3 := zw_ok_n hq (h3 i e)
        have o4 := zw_ok_n hq (h4 (i - x) (by omega))
        rw [zw_p_lt e, o3.2.2] at e1
        rw [zw_p_lt (by omega), o4.2.2] at e2
        rw [zw_p_lt e, hv i hi e]
        unfold zw_mv
        rw [show zw_n a3 i = 0 by omega, show zw_n a4 (i - x) = 0 by omega, Nat.mul_zero, Nat.zero_add, Nat.sub_zero, Nat.mul_mod_right]
        rfl
      · exact zw_p_ge (by omega)
  · intro n i s hi g hw
    obtain ⟨g1, g2, g3⟩ := g
    have o3 := zw_ok_n hq (h3 i hi)
    have o4 := zw_ok_n hq (h4 (i - x) (by omega))
    have hm := zw_mul_le hh o4.1
    have e4 : (nI h * a4 (i - x)) = nI (h * zw_n a4 (i - x)) := by rw [← pk_mul, ← o4.2.1]
    refine pk_le 32 i (fun z => absurd z (by omega)) (fun _ => ⟨pk_in i 32 hi, pk_in (i - x) 32 (by omega) (pk_sub g1), nm_r (e' := nI (zw_n a3 i) - nI (h * zw_n a4 (i - x))) ?_ (zw_wrap hq (by omega) (by omega) ⟨pk_in i 32 hi, nm_e (nm_r (nI_1 i) (hw _ ⟨by omega, fun j hj => ?_, fun j j1 j2 => ?_⟩))⟩)⟩)
    · rw [pk_cl i, pk_cl (i - x) (pk_sub g1), g2 i (Or.inr (Nat.le_refl i)), e4, ← o3.2.1]
    · rw [pk_cl i, pk_un (by omega)]
      exact g2 j (by omega)
    · have hlt : zw_mv q h x a3 a4 i < q := Nat.mod_lt _ (by omega)
      rw [pk_cl i]
      by_cases e : j = i
      · rw [e, pk_us]
        exact zw_b8 _ (show zw_mv q h x a3 a4 i < 128 by omega)
      · rw [pk_un e]
        exact g3 j j1 (by omega)
end
end
section
section
variable {l sz ws rw cl rk rl : Int32} {a1 a2 a3 a4 a5 a6 a7 a8 : Nat → Int32} {q : Nat}
/-- mending at work, after k symbols: length, shift, last, the two polynomials -/
def zw_I (q : Nat) (a2 : Nat → Int32) (k : Nat) (s : Int32 × Int32 × Int32 × (Nat → Int32) × (Nat → Int32) × (Nat → Int32)) : Prop :=
  ∃ L x M b : Nat, s.1 = nI L ∧ s.2.1 = nI x ∧ s.2.2.1 = nI b ∧ b < q ∧ (∀ i, i < 32 → zw_ok q (s.2.2.2.1 i)) ∧ (∀ i, i < 32 → zw_ok q (s.2.2.2.2.1 i)) ∧ zb_inv (q : Int) (zw_s a2) k L x M (b : Int) (zw_p s.2.2.2.1) (zw_p s.2.2.2.2.1)
theorem zw_short_51 {post : Int32 → St1 → Prop} {m : Nat} (hq : zw_q q) (hm : m ≤ 13) (h2 : ∀ i, i < m → zw_ok q (a2 i)) (h3 : a3 0 = 1) (h3' : ∀ i, 0 < i → i < 32 → a3 i = 0) (h4 : a4 0 = 1) (h4' : ∀ i, 0 < i → i < 32 → a4 i = 0)
    (H : ∀ L b3 b4 b5, zb_lc (q : Int) (zw_s a2) m L → post (nI L) (nI q, l, sz, nI m, rw, cl, rk, rl, a1, a2, b3, b4, b5, a6, a7, a8)) :
    ∃ n, wX_shortest_51 post n 0 1 1 0 (nI q) l sz (nI m) rw cl rk rl a1 a2 a3 a4 a5 a6 a7 a8 := by
  have hq2 := zw_q2 hq
  have okp : ∀ a : Nat → Int32, a 0 = 1 → (∀ i, 0 < i → i < 32 → a i = 0) → ∀ i, i < 32 → zw_ok q (a i) := fun a e0 e1 i hi => by
    by_cases e : i = 0
    · rw [e, e0]
      exact zw_ok_1 hq
    · rw [e1 i (by omega) hi]
      exact zw_ok_0 hq
  have zp : ∀ a : Nat → Int32, (∀ i, 0 < i → i < 32 → a i = 0) → ∀ i, 0 < i → zw_p a i = 0 := fun a e1 i hi => by
    by_cases e : i < 32
    · rw [zw_p_lt e]
      show (a i).toInt = 0
      rw [e1 i hi e]
      rfl
    · exact zw_p_ge (by omega)
  refine pk_loop (fun n k (s : Int32 × Int32 × Int32 × (Nat → Int32) × (Nat → Int32) × (Nat → Int32)) => wX_shortest_51 post n s.1 s.2.1 s.2.2.1 (nI k) (nI q) l sz (nI m) rw cl rk rl a1 a2 s.2.2.2.1 s.2.2.2.2.1 s.2.2.2.2.2 a6 a7 a8) (zw_I q a2) m 0 (0, 1, 1, a3, a4, a5) (by omega) ⟨0, 1, 0, 1, rfl, rfl, rfl, by omega, okp a3 h3 h3', okp a4 h4 h4', ?_⟩ ?_ ?_
  · refine zb_inv_0 (zw_q1 hq) ?_ (zp a3 h3') (zp a4 h4')
    rw [zw_p_lt (by omega)]
    show (a3 0).toInt = 1
    rw [h3]
    rfl
  · intro n s h
    obtain ⟨x1, x2, x3, b3, b4, b5⟩ := s
    obtain ⟨L, x, M, b, e1, e2, e3, hb, o3, o4, hi⟩ := h
    have e1' : x1 = nI L := e1
    subst e1'
    exact pk_le m m (fun _ => H L b3 b4 b5 (zb_lc_inv hi)) (fun z => absurd z (by omega))
  · intro n k s hk h hw
    obtain ⟨x1, x2, x3, b3, b4, b5⟩ := s
    obtain ⟨L, x, M, b, e1, e2, e3, hb, o3, o4, hi⟩ := h
    have e1' : x1 = nI L := e1
    have e2' : x2 = nI x := e2
    have e3' : x3 = nI b := e3
    subst e1' e2' e3'
    have o3' : ∀ i, i < 32 → zw_ok q (b3 i) := o3
    have o4' : ∀ i, i < 32 → zw_ok q (b4 i) := o4
    have hi' : zb_inv (q : Int) (zw_s a2) k L x M (b : Int) (zw_p b3) (zw_p b4) := hi
    have hL : L ≤ k ∧ 1 ≤ x ∧ M + L + x = k + 1 ∧ (∀ i, M < i → zw_p b4 i = 0) ∧ ¬ (q : Int) ∣ (b : Int) := by
      obtain ⟨g1, g2, g3, g4, g5, g6, g7, g8, g9, g10, g11⟩ := hi'
      exact ⟨g1, g2, g3, g7, g10⟩
    obtain ⟨c1, c2, c3, c4, c5⟩ := hL
    have b0 : 0 < b := by
      rcases Nat.eq_zero_or_pos b with z | z
      · rw [z] at c5
        exact absurd (zb_d0 _) c5
      · exact z
    show wX_shortest_51 post (n + 1) (nI L) (nI x) (nI b) (nI k) (nI q) l sz (nI m) rw cl rk rl a1 a2 b3 b4 b5 a6 a7 a8
    refine pk_le m k (fun z => absurd z (by omega)) (fun _ => zw_discrepancy hq c1 (by omega) o3' (fun i hi => h2 i (by omega)) (fun d hd hdd => ?_))
    refine pk_eq d 0 (fun e => ?_) (fun e => ?_)
    · rw [e] at hdd
      have hd1 : (q : Int) ∣ zb_dc (zw_p b3) L (zw_s a2) k := zb_de hdd (by omega)
      exact nm_r (nI_1 x) (nm_r (nI_1 k) (hw (nI L, nI (x + 1), nI b, b3, b4, b5) ⟨L, x + 1, M, b, rfl, rfl, rfl, hb, o3', o4', zb_inv_same hi' hd1⟩))
    · have hd0 : ¬ (q : Int) ∣ (d : Int) := fun z => e (zw_dv0 hd z)
      refine pk_lt k (2 * L) (fun z => ?_) (fun z => ?_) rfl (pk_mul 2 L)
      · refine zw_mend hq hd b0 hb c2 (by omega) o3' o4' (fun i hi => c4 i (by omega)) (fun h a t0 t1 t2 t3 t4 => ?_)
        exact nm_r (nI_1 x) (nm_r (nI_1 k) (hw (nI L, nI (x + 1), nI b, a, b4, b5) ⟨L, x + 1, M, b, rfl, rfl, rfl, hb, t1, o4', zb_inv_mend hi' t2 t3 t4 (zb_de (Int.dvd_sub t0 hdd) (by omega)) z⟩))
      · refine zw_keepCopy hq o3' (fun c hc => ?_)
        refine zw_mend hq hd b0 hb c2 (by omega) o3' o4' (fun i hi => c4 i (by omega)) (fun h a t0 t1 t2 t3 t4 => ?_)
        refine nm_r (e' := nI (k + 1 - L)) (by rw [nI_1, pk_sub (by omega)]) ?_
        refine zw_useCopy hq (fun i hi => by rw [hc i hi]; exact o3' i hi) (fun c' hc' => ?_)
        have ec : zw_p c' = zw_p b3 := zw_p_eq (fun i hi => by rw [hc' i hi, hc i hi])
        refine nm_r (nI_1 k) (hw (nI (k + 1 - L), 1, nI d, a, c', c) ⟨k + 1 - L, 1, L, d, rfl, rfl, rfl, hd, t1, fun i hi => ?_, ?_⟩)
        · show zw_ok q (c' i)
          rw [hc' i hi, hc i hi]
          exact o3' i hi
        · show zb_inv (q : Int) (zw_s a2) (k + 1) (k + 1 - L) 1 L (d : Int) (zw_p a) (zw_p c')
          rw [ec]
          exact zb_inv_grow hi' t2 t3 t4 (zb_de (Int.dvd_sub t0 hdd) (by omega)) (by omega) hdd hd0
theorem zw_shortest {post : Int32 → St1 → Prop} {m : Nat} (hq : zw_q q) (hm : m ≤ 13) (h2 : ∀ i, i < m → zw_ok q (a2 i))
    (H : ∀ L b3 b4 b5, zb_lc (q : Int) (zw_s a2) m L → post (nI L) (nI q, l, sz, nI m, rw, cl, rk, rl, a1, a2, b3, b4, b5, a6, a7, a8)) :
    wpX_shortest post (nI q, l, sz, nI m, rw, cl, rk, rl, a1, a2, a3, a4, a5, a6, a7, a8) := by
  unfold wpX_shortest
  refine pk_loop (fun n i (s : (Nat → Int32) × (Nat → Int32)) => wX_shortest_2 post (nI q) l sz (nI m) rw cl rk rl n (nI i) a1 a2 s.1 s.2 a5 a6 a7 a8) (fun i s => ∀ j, j < i → s.1 j = 0 ∧ s.2 j = 0) 32 0 (a3, a4) (by omega) (fun j hj => absurd hj (by omega)) ?_ ?_
  · intro n s h
    obtain ⟨b3, b4⟩ := s
    refine pk_le 32 32 (fun _ => nm_e (nm_e (zw_short_51 hq hm h2 pk_us (fun i h0 hi => ?_) pk_us (fun i h0 hi => ?_) H))) (fun z => absurd z (by omega))
    · rw [pk_un (by omega)]
      exact (h i hi).1
    · rw [pk_un (by omega)]
      exact (h i hi).2
  · intro n i s hi h hw
    obtain ⟨b3, b4⟩ := s
    refine pk_le 32 i (fun z => absurd z (by omega)) (fun _ => ⟨pk_in i 32 hi, nm_e ⟨pk_in i 32 hi, nm_e (nm_r (nI_1 i) (hw (_, _) (fun j hj => ?_)))⟩⟩)
    show upd b3 (nI i).toNatClampNeg 0 j = 0 ∧ upd b4 (nI i).toNatClampNeg 0 j = 0
    rw [nI_clamp (n := i) (by omega)]
    by_cases e : j = i
    · rw [e, pk_us, pk_us]
      exact ⟨rfl, rfl⟩
    · rw [pk_un e, pk_un e]
      exact h j (by omega)
theorem zw_complexity {post : Int32 → St1 → Prop} {x y z : Nat} (hq : zw_q q) (hxy : x ≤ y) (hyz : y ≤ z) (hz : z ≤ 12) (h1 : ∀ i, i < z → zw_ok q (a1 i))
    (H : ∀ L w b2 b3 b4 b5, zb_lc (q : Int) (fun i => zw_s a1 (x + i)) (y - x) L → post (nI L) (nI q, l, nI z, w, rw, cl, rk, rl, a1, b2, b3, b4, b5, a6, a7, a8)) :
    wpX_complexity post (nI q, l, nI z, ws, rw, cl, rk, rl, a1, a2, a3, a4, a5, a6, a7, a8) (nI x) (nI y) := by
  unfold wpX_complexity
  refine pk_lt x 0 (fun e => absurd e (by omega)) (fun _ => pk_lt z y (fun e => absurd e (by omega)) (fun _ => pk_le x y (fun _ => ?_) (fun e => absurd e (by omega))))
  refine zw_take hq hxy (by omega) (fun i hi => h1 i (by omega)) (fun a ha => ?_)
  refine zw_shortest hq (by omega) (fun i hi => by rw [ha i hi]; exact h1 _ (by omega)) (fun L b3 b4 b5 hL => ?_)
  refine H L _ a b3 b4 b5 (zb_lc_congr (fun i hi => ?_) hL)
  show (a i).toInt = (a1 (x + i)).toInt
  rw [ha i hi]
end
end
section
/-- the cells as rows of 14 places -/
def zw_m (a : Nat → Int32) : Nat → Nat → Int := fun r c => (a (r * 14 + c)).toInt
def zw_cok (q R K : Nat) (a : Nat → Int32) : Prop := ∀ r c, r < R → c ≤ K → zw_ok q (a (r * 14 + c))
theorem zw_ix (a c : Nat) : nI a * 14 + nI c = nI (a * 14 + c) := by
  rw [show (14 : Int32) = nI 14 from rfl, pk_mul, nI_add]
theorem zw_ixc {a c : Nat} (ha : a < 1000) (hc : c < 1000) : (nI a * 14 + nI c).toNatClampNeg = a * 14 + c := pk_cl _ (zw_ix a c)
theorem zw_ixi {a c : Nat} (ha : a < 14) (hc : c < 14) : vp_in (nI a * 14 + nI c) 196 := pk_in (a * 14 + c) 196 (by omega) (zw_ix a c)
section
variable {l sz ws rw cl rk rl : Int32} {a1 a2 a3 a4 a5 a6 a7 a8 : Nat → Int32} {q : Nat}
theorem zw_rowWith {post : Int32 → Prop} {R k c : Nat} (hR : R < 14) (hk : k ≤ R) (hc : c < 14) (H0 : (∀ r, k ≤ r → r < R → a6 (r * 14 + c) = 0) → post (-1)) (H1 : ∀ r, k ≤ r → r < R → ¬ a6 (r * 14 + c) = 0 → post (nI r)) :
    wpX_rowWith post (nI q, l, sz, ws, nI R, cl, nI k, rl, a1, a2, a3, a4, a5, a6, a7, a8) (nI c) := by
  unfold wpX_rowWith
  refine pk_loop (σ := Unit) (fun n i _ => wX_rowWith_5 post (nI c) (nI q) l sz ws (nI R) cl (nI k) rl a1 a2 a3 a4 a5 a6 a7 a8 n (nI i)) (fun i _ => k ≤ i ∧ ∀ r, k ≤ r → r < i → a6 (r * 14 + c) = 0) R k () hk ⟨Nat.le_refl k, fun r r1 r2 => absurd r2 (by omega)⟩ ?_ ?_
  · intro n _ h
    exact pk_le R R (fun _ => H0 h.2) (fun z => absurd z (by omega))
  · intro n i _ hi h hw
    refine pk_le R i (fun z => absurd z (by omega)) (fun _ => ⟨zw_ixi (by omega) hc, ?_⟩)
    rw [zw_ixc (by omega) (by omega)]
    refine br_c (fun z => nm_r (nI_1 i) (hw () ⟨by omega, fun r r1 r2 => ?_⟩)) (fun z => H1 i h.1 hi z)
    by_cases e : r = i
    · rw [e]
      exact z
    · exact h.2 r r1 (by omega)
theorem zw_swap {post : St1 → Prop} {R K a b : Nat} (hq : zw_q q) (hR : R < 14) (hK : K < 14) (ha : a < R) (hb : b < R) (h6 : zw_cok q R K a6)
    (H : ∀ s, (∀ c, c ≤ K → s (a * 14 + c) = a6 (b * 14 + c)) → (∀ c, c ≤ K → s (b * 14 + c) = a6 (a * 14 + c)) → (∀ r c, c < 14 → r ≠ a → r ≠ b → s (r * 14 + c) = a6 (r * 14 + c)) → post (nI q, l, sz, ws, rw, nI K, rk, rl, a1, a2, a3, a4, a5, s, a7, a8)) :
    wpX_swap post (nI q, l, sz, ws, rw, nI K, rk, rl, a1, a2, a3, a4, a5, a6, a7, a8) (nI a) (nI b) := by
  unfold wpX_swap
  refine pk_loop (fun n i s => wX_swap_2 post (nI a) (nI b) (nI q) l sz ws rw (nI K) rk rl n (nI i) a1 a2 a3 a4 a5 s a7 a8) (fun i s => ∀ r c, c < 14 → s (r * 14 + c) = if c < i ∧ r = a then a6 (b * 14 + c) else if c < i ∧ r = b then a6 (a * 14 + c) else a6 (r * 14 + c)) (K + 1) 0 a6 (by omega) (fun r c hc => by rw [if_neg (by omega), if_neg (by omega)]) ?_ ?_
  · intro n s h
    refine pk_lt K (K + 1) (fun _ => H s (fun c hc => ?_) (fun c hc => ?_) (fun r c hc ra rb => ?_)) (fun z => absurd z (by omega))
    · rw [h a c (by omega), if_pos ⟨by omega, rfl⟩]
    · rw [h b c (by omega)]
      by_cases e : b = a
      · rw [if_pos ⟨by omega, e⟩, e]
      · rw [if_neg (fun z => e z.2), if_pos ⟨by omega, rfl⟩]
    · rw [h r c hc, if_neg (fun z => ra z.2), if_neg (fun z => rb z.2)]
  · intro n i s hi h hw
    have sa : s (a * 14 + i) = a6 (a * 14 + i) := by rw [h a i (by omega), if_neg (by omega), if_neg (by omega)]
    have sb : s (b * 14 + i) = a6 (b * 14 + i) := by rw [h b i (by omega), if_neg (by omega), if_neg (by omega)]
    refine pk_lt K i (fun z => absurd z (by omega)) (fun _ => ⟨zw_ixi (by omega) (by omega), nm_r (e' := a6 (a * 14 + i)) ?_ ⟨zw_ixi (by omega) (by omega), zw_ixi (by omega) (by omega), nm_r (e' := upd s (a * 14 + i) (a6 (b * 14 + i))) ?_ ⟨zw_ixi (by omega) (by omega), nm_r (e' := upd (upd s (a * 14 + i) (a6 (b * 14 + i))) (b * 14 + i) (a6 (a * 14 + i))) ?_ (nm_r (nI_1 i) (hw _ (fun r c hc => ?_)))⟩⟩⟩)
    · rw [zw_ixc (by omega) (by omega), sa]
    · rw [zw_ixc (by omega) (by omega), zw_ixc (by omega) (by omega), sb, zw_ok_nar hq (h6 b i hb (by omega))]
    · rw [zw_ixc (by omega) (by omega), zw_ok_nar hq (h6 a i ha (by omega))]
    · by_cases e1 : r * 14 + c = b * 14 + i
      · have er : r = b := by omega
        have ec : c = i := by omega
        rw [er, ec, pk_us]
        by_cases e : b = a
        · rw [if_pos ⟨by omega, e⟩, e]
        · rw [if_neg (fun z => e z.2), if_pos ⟨by omega, rfl⟩]
      · rw [pk_un e1]
        by_cases e2 : r * 14 + c = a * 14 + i
        · have er : r = a := by omega
          have ec : c = i := by omega
          rw [er, ec, pk_us, if_pos ⟨by omega, rfl⟩]
        · rw [pk_un e2, h r c hc]
          by_cases g1 : c < i ∧ r = a
          · rw [if_pos g1, if_pos ⟨by omega, g1.2⟩]
          · rw [if_neg g1, if_neg (show ¬ (c < i + 1 ∧ r = a) by omega)]
            by_cases g2 : c < i ∧ r = b
            · rw [if_pos g2, if_pos ⟨by omega, g2.2⟩]
            · rw [if_neg g2, if_neg (show ¬ (c < i + 1 ∧ r = b) by omega)]
theorem zw_scale {post : St1 → Prop} {R K a t : Nat} (hq : zw_q q) (hR : R < 14) (hK : K < 14) (ha : a < R) (ht : t ≤ K) (h6 : zw_cok q R K a6) (h0 : ¬ a6 (a * 14 + t) = 0)
    (H : ∀ f s, f < q → zw_n a6 (a * 14 + t) * f % q = 1 → (∀ c, c ≤ K → s (a * 14 + c) = nI (zw_n a6 (a * 14 + c) * f % q)) → (∀ r c, c < 14 → r ≠ a → s (r * 14 + c) = a6 (r * 14 + c)) → post (nI q, l, sz, ws, rw, nI K, rk, rl, a1, a2, a3, a4, a5, s, a7, a8)) :
    wpX_scale post (nI q, l, sz, ws, rw, nI K, rk, rl, a1, a2, a3, a4, a5, a6, a7, a8) (nI a) (nI t) := by
  have hq2 := zw_q2 hq
  have o := zw_ok_n hq (h6 a t ha ht)
  have n0 : 0 < zw_n a6 (a * 14 + t) := by
    rcases Nat.eq_zero_or_pos (zw_n a6 (a * 14 + t)) with z | z
    · exact absurd (by rw [o.2.1, z]; rfl) h0
    · exact z
  refine And.intro (zw_ixi (by omega) (by omega)) ?_
  rw [zw_ixc (by omega) (by omega), o.2.1]
  refine zw_inverse hq n0 o.1 (fun f hf hfr => ?_)
  refine pk_loop (fun n i s => wX_scale_19 post (nI a) (nI f) (nI q) l sz ws rw (nI K) rk rl n (nI i) a1 a2 a3 a4 a5 s a7 a8) (fun i s => (∀ c, c < i → s (a * 14 + c) = nI (zw_n a6 (a * 14 + c) * f % q)) ∧ ∀ r c, c < 14 → r ≠ a ∨ i ≤ c → s (r * 14 + c) = a6 (r * 14 + c)) (K + 1) 0 a6 (by omega) ⟨fun c hc => absurd hc (by omega), fun r c _ _ => rfl⟩ ?_ ?_
  · intro n s h
    exact pk_lt K (K + 1) (fun _ => H f s hf hfr (fun c hc => h.1 c (by omega)) (fun r c hc hr => h.2 r c hc (Or.inl hr))) (fun z => absurd z (by omega))
  · intro n i s hi h hw
    have oi := zw_ok_n hq (h6 a i ha (by omega))
    have hm : zw_n a6 (a * 14 + i) * f ≤ 25 := Nat.le_trans (zw_mul_le oi.1 hf) (zw_qq hq)
    have hl : zw_n a6 (a * 14 + i) * f % q < q := Nat.mod_lt _ (by omega)
    refine pk_lt K i (fun z => absurd z (by omega)) (fun _ => ⟨zw_ixi (by omega) (by omega), nI_ne0 (by omega) (by omega), zw_ixi (by omega) (by omega), nm_r (e' := upd s (a * 14 + i) (nI (zw_n a6 (a * 14 + i) * f % q))) ?_ (nm_r (nI_1 i) (hw _ ⟨fun c hc => ?_, fun r c hc hr => ?_⟩))⟩)
    · rw [zw_ixc (by omega) (by omega), h.2 a i (by omega) (Or.inr (Nat.le_refl i)), oi.2.1, pk_mul, pk_rem (by omega) (by omega) (by omega), zw_b8 _ (by omega)]
    · by_cases e : c = i
      · rw [e, pk_us]
      · rw [pk_un (by omega)]
        exact h.1 c (by omega)
    · rw [pk_un (by omega)]
      exact h.2 r c hc (by omega)
theorem zw_subtract {post : St1 → Prop} {R K j a f : Nat} (hq : zw_q q) (hR : R < 14) (hK : K < 14) (hj : j < R) (ha : a < R) (hja : j ≠ a) (hf : f < q) (h6 : zw_cok q R K a6)
    (H : ∀ s, (∀ c, c ≤ K → s (j * 14 + c) = nI ((zw_n a6 (j * 14 + c) + q * q - f * zw_n a6 (a * 14 + c)) % q)) → (∀ r c, c < 14 → r ≠ j → s (r * 14 + c) = a6 (r * 14 + c)) → post (nI q, l, sz, ws, rw, nI K, rk, rl, a1, a2, a3, a4, a5, s, a7, a8)) :
    wpX_subtract post (nI q, l, sz, ws, rw, nI K, rk, rl, a1, a2, a3, a4, a5, a6, a7, a8) (nI j) (nI a) (nI f) := by
  have hq2 := zw_q2 hq
  unfold wpX_subtract
  refine pk_loop (fun n i s => wX_subtract_3 post (nI j) (nI a) (nI f) (nI q) l sz ws rw (nI K) rk rl n (nI i) a1 a2 a3 a4 a5 s a7 a8) (fun i s => (∀ c, c < i → s (j * 14 + c) = nI ((zw_n a6 (j * 14 + c) + q * q - f * zw_n a6 (a * 14 + c)) % q)) ∧ ∀ r c, c < 14 → r ≠ j ∨ i ≤ c → s (r * 14 + c) = a6 (r * 14 + c)) (K + 1) 0 a6 (by omega) ⟨fun c hc => absurd hc (by omega), fun r c _ _ => rfl⟩ ?_ ?_
  · intro n s h
    exact pk_lt K (K + 1) (fun _ => H s (fun c hc => h.1 c (by omega)) (fun r c hc hr => h.2 r c hc (Or.inl hr))) (fun z => absurd z (by omega))
  · intro n i s hi h hw
    have oj := zw_ok_n hq (h6 j i hj (by omega))
    have oa := zw_ok_n hq (h6 a i ha (by omega))
    have hm := zw_mul_le hf oa.1
    have hl : (zw_n a6 (j * 14 + i) + q * q - f * zw_n a6 (a * 14 + i)) % q < q := Nat.mod_lt _ (by omega)
    have sj : s (j * 14 + i) = nI (zw_n a6 (j * 14 + i)) := by rw [h.2 j i (by omega) (Or.inr (Nat.le_refl i)), oj.2.1]
    have sa : nI f * s (a * 14 + i) = nI (f * zw_n a6 (a * 14 + i)) := by rw [h.2 a i (by omega) (Or.inl (fun z => hja z.symm)), oa.2.1, pk_mul]
    refine pk_lt K i (fun z => absurd z (by omega)) (fun _ => ⟨zw_ixi (by omega) (by omega), zw_ixi (by omega) (by omega), nm_r (e' := nI (zw_n a6 (j * 14 + i)) - nI (f * zw_n a6 (a * 14 + i))) ?_ (zw_wrap hq (by omega) (by omega) ⟨zw_ixi (by omega) (by omega), nm_r (e' := upd s (j * 14 + i) (nI ((zw_n a6 (j * 14 + i) + q * q - f * zw_n a6 (a * 14 + i)) % q))) ?_ (nm_r (nI_1 i) (hw _ ⟨fun c hc => ?_, fun r c hc hr => ?_⟩))⟩)⟩)
    · rw [zw_ixc (by omega) (by omega), zw_ixc (by omega) (by omega), sj, sa]
    · rw [zw_ixc (by omega) (by omega), zw_b8 _ (by omega)]
    · by_cases e : c = i
      · rw [e, pk_us]
      · rw [pk_un (by omega)]
        exact h.1 c (by omega)
    · rw [pk_un (by omega)]
      exact h.2 r c hc (by omega)
theorem zw_clearColumn {post : St1 → Prop} {R K a t : Nat} (hq : zw_q q) (hR : R < 14) (hK : K < 14) (ha : a < R) (ht : t ≤ K) (h6 : zw_cok q R K a6)
    (H : ∀ s, (∀ r c, c ≤ K → r < R → r ≠ a → s (r * 14 + c) = nI ((zw_n a6 (r * 14 + c) + q * q - zw_n a6 (r * 14 + t) * zw_n a6 (a * 14 + c)) % q)) → (∀ c, c ≤ K → s (a * 14 + c) = a6 (a * 14 + c)) → post (nI q, l, sz, ws, nI R, nI K, rk, rl, a1, a2, a3, a4, a5, s, a7, a8)) :
    wpX_clearColumn post (nI q, l, sz, ws, nI R, nI K, rk, rl, a1, a2, a3, a4, a5, a6, a7, a8) (nI a) (nI t) := by
  have hq2 := zw_q2 hq
  unfold wpX_clearColumn
  refine pk_loop (fun n i s => wX_clearColumn_2 post (nI a) (nI t) n (nI i) (nI q) l sz ws (nI R) (nI K) rk rl a1 a2 a3 a4 a5 s a7 a8) (fun i s => (∀ r c, c ≤ K → r < i → r ≠ a → s (r * 14 + c) = nI ((zw_n a6 (r * 14 + c) + q * q - zw_n a6 (r * 14 + t) * zw_n a6 (a * 14 + c)) % q)) ∧ ∀ r c, c < 14 → i ≤ r ∨ r = a → s (r * 14 + c) = a6 (r * 14 + c)) R 0 a6 (by omega) ⟨fun r c _ hc => absurd hc (by omega), fun r c _ _ => rfl⟩ ?_ ?_
  · intro n s h
    exact pk_le R R (fun _ => H s h.1 (fun c hc => h.2 a c (by omega) (Or.inr rfl))) (fun z => absurd z (by omega))
  · intro n i s hi h hw
    have oi := zw_ok_n hq (h6 i t hi ht)
    have si : s (i * 14 + t) = nI (zw_n a6 (i * 14 + t)) := by rw [h.2 i t (by omega) (Or.inl (Nat.le_refl i)), oi.2.1]
    refine pk_le R i (fun z => absurd z (by omega)) (fun _ => ⟨zw_ixi (by omega) (by omega), nm_r (e' := nI (zw_n a6 (i * 14 + t))) (by rw [zw_ixc (by omega) (by omega), si]) ?_⟩)
    refine pk_eq i a (fun e => nm_r (nI_1 i) (hw s ⟨fun r c hc r1 r2 => h.1 r c hc (by omega) r2, fun r c hc hr => h.2 r c hc (by omega)⟩)) (fun e => ?_)
    refine pk_eq (zw_n a6 (i * 14 + t)) 0 (fun z => ?_) (fun z => ?_)
    · refine nm_r (nI_1 i) (hw s ⟨fun r c hc r1 r2 => ?_, fun r c hc hr => h.2 r c hc (by omega)⟩)
      by_cases er : r = i
      · have oc := zw_ok_n hq (h6 i c hi hc)
        rw [er, z, Nat.zero_mul, Nat.sub_zero, Nat.add_mul_mod_self_left, Nat.mod_eq_of_lt oc.1, h.2 i c (by omega) (Or.inl (Nat.le_refl i))]
        exact oc.2.1
      · exact h.1 r c hc (by omega) r2
    · have hs : zw_cok q R K s := fun r c hr hc => by
        by_cases e1 : i ≤ r ∨ r = a
        · rw [h.2 r c (by omega) e1]
          exact h6 r c hr hc
        · rw [h.1 r c hc (by omega) (by omega)]
          exact ⟨_, Nat.mod_lt _ (by omega), rfl⟩
      have ni : ∀ c, c ≤ K → zw_n s (i * 14 + c) = zw_n a6 (i * 14 + c) := fun c hc => by
        show (s _).toNatClampNeg = (a6 _).toNatClampNeg
        rw [h.2 i c (by omega) (Or.inl (Nat.le_refl i))]
      have na : ∀ c, c ≤ K → zw_n s (a * 14 + c) = zw_n a6 (a * 14 + c) := fun c hc => by
        show (s _).toNatClampNeg = (a6 _).toNatClampNeg
        rw [h.2 a c (by omega) (Or.inr rfl)]
      refine zw_subtract hq hR hK hi ha e oi.1 hs (fun s' g1 g2 => nm_r (nI_1 i) (hw s' ⟨fun r c hc r1 r2 => ?_, fun r c hc hr => ?_⟩))
      · by_cases er : r = i
        · rw [er, g1 c hc, ni c hc, na c hc]
        · rw [g2 r c (by omega) er]
          exact h.1 r c hc (by omega) r2
      · rw [g2 r c hc (by omega)]
        exact h.2 r c hc (by omega)
end
end
section
section
variable {l sz ws rw cl rk rl : Int32} {a1 a2 a3 a4 a5 a6 a7 a8 : Nat → Int32} {q : Nat}
theorem zw_m_n {R K : Nat} (hq : zw_q q) (h : zw_cok q R K a6) {r c : Nat} (hr : r < R) (hc : c ≤ K) : zw_m a6 r c = (zw_n a6 (r * 14 + c) : Int) := (zw_ok_n hq (h r c hr hc)).2.2
theorem zw_m_of {a : Nat → Int32} {r c t : Nat} (h : a (r * 14 + c) = nI t) (ht : t < 1000) : zw_m a r c = (t : Int) := by
  show (a (r * 14 + c)).toInt = _
  rw [h, nI_toInt (by omega)]
theorem zw_m_eq {a b : Nat → Int32} {r c r' c' : Nat} (h : a (r * 14 + c) = b (r' * 14 + c')) : zw_m a r c = zw_m b r' c' := by
  show (a (r * 14 + c)).toInt = (b (r' * 14 + c')).toInt
  rw [h]
theorem zw_elim_12 {post : St1 → Prop} {R K : Nat} {M0 : Nat → Nat → Int} (hq : zw_q q) (hR : R < 14) (hK : K < 14)
    (H : ∀ k b6 b7, zw_cok q R K b6 → zb_E (q : Int) R K 0 k (zw_m b6) (zw_s b7) → zb_same (q : Int) R K M0 (zw_m b6) → post (nI q, l, sz, ws, nI R, nI K, nI k, rl, a1, a2, a3, a4, a5, b6, b7, a8)) :
    ∀ (t : Nat) (s : Int32 × (Nat → Int32) × (Nat → Int32)), (t ≤ K ∧ ∃ k : Nat, s.1 = nI k ∧ zw_cok q R K s.2.1 ∧ zb_E (q : Int) R K t k (zw_m s.2.1) (zw_s s.2.2) ∧ zb_same (q : Int) R K M0 (zw_m s.2.1)) → wX_eliminate_12 post (t + 1) (nI t - 1) (nI q) l sz ws (nI R) (nI K) s.1 rl a1 a2 a3 a4 a5 s.2.1 s.2.2 a8 := by
  have hq2 := zw_q2 hq
  refine pk_loopD (fun n t (s : Int32 × (Nat → Int32) × (Nat → Int32)) => wX_eliminate_12 post n (nI t - 1) (nI q) l sz ws (nI R) (nI K) s.1 rl a1 a2 a3 a4 a5 s.2.1 s.2.2 a8) (fun t s => t ≤ K ∧ ∃ k : Nat, s.1 = nI k ∧ zw_cok q R K s.2.1 ∧ zb_E (q : Int) R K t k (zw_m s.2.1) (zw_s s.2.2) ∧ zb_same (q : Int) R K M0 (zw_m s.2.1)) ?_ ?_
  · intro n s h
    obtain ⟨x, b6, b7⟩ := s
    obtain ⟨_, k, e, h1, h2, h3⟩ := h
    have e' : x = nI k := e
    subst e'
    exact br_t (show nI 0 - 1 < 0 by decide) (H k b6 b7 h1 h2 h3)
  · intro n t s h hw
    obtain ⟨x, b6, b7⟩ := s
    obtain ⟨ht, k, e, h1, h2, h3⟩ := h
    have e' : x = nI k := e
    subst e'
    have h1' : zw_cok q R K b6 := h1
    have h2' : zb_E (q : Int) R K (t + 1) k (zw_m b6) (zw_s b7) := h2
    have h3' : zb_same (q : Int) R K M0 (zw_m b6) := h3
    have hk : k ≤ R := h2'.1
    have hdec : nI t + (-1) = nI t - 1 := by grind
    show wX_eliminate_12 post (n + 1) (nI (t + 1) - 1) (nI q) l sz ws (nI R) (nI K) (nI k) rl a1 a2 a3 a4 a5 b6 b7 a8
    rw [nI_pred]
    refine pk_lt t 0 (fun z => absurd z (by omega)) (fun _ => ⟨pk_in t 14 (by omega), nm_r (e' := upd b7 t (-1)) (by rw [nI_clamp (n := t) (by omega)]) ?_⟩)
    refine zw_rowWith hR hk (by omega) (fun hz => ?_) (fun p r1 r2 r3 => ?_)
    · refine br_t (by decide) (nm_r hdec (hw (nI k, b6, upd b7 t (-1)) ⟨by omega, k, rfl, h1', ?_, h3'⟩))
      refine zb_E_none (by omega) h2' (fun c hc => ?_) ?_ (fun r g1 g2 => ?_)
      · show (upd b7 t (-1) c).toInt = (b7 c).toInt
        rw [pk_un hc]
      · show (upd b7 t (-1) t).toInt = -1
        rw [pk_us]
        rfl
      · show (q : Int) ∣ (b6 (r * 14 + t)).toInt
        rw [hz r g1 g2]
        exact zb_d0 _
    · refine pk_lt p 0 (fun z => absurd z (by omega)) (fun _ => ?_)
      refine zw_swap hq hR hK r2 (by omega) h1' (fun s1 u1 u2 u3 => ?_)
      have m1 : ∀ c, c ≤ K → zw_m s1 p c = zw_m b6 k c := fun c hc => zw_m_eq (u1 c hc)
      have m2 : ∀ c, c ≤ K → zw_m s1 k c = zw_m b6 p c := fun c hc => zw_m_eq (u2 c hc)
      have m3 : ∀ r c, r < R → r ≠ p → r ≠ k → c ≤ K → zw_m s1 r c = zw_m b6 r c := fun r c _ g1 g2 hc => zw_m_eq (u3 r c (by omega) g1 g2)
      have E1 := zb_E_swap h2' r2 r1 m1 m2 m3
      have S1 := zb_same_t h3' (zb_swap_same r2 (by omega) m1 m2 m3)
      have ok1 : zw_cok q R K s1 := fun r c hr hc => by
        by_cases e1 : r = p
        · rw [e1, u1 c hc]
          exact h1' k c (by omega) hc
        · by_cases e2 : r = k
          · rw [e2, u2 c hc]
            exact h1' p c (by omega) hc
          · rw [u3 r c (by omega) e1 e2]
            exact h1' r c hr hc
      refine zw_scale hq hR hK (by omega) (by omega) ok1 (by rw [u2 t (by omega)]; exact r3) (fun f s2 f1 f2 v1 v2 => ?_)
      have w1 : ∀ c, c ≤ K → (q : Int) ∣ zw_m s2 k c - (f : Int) * zw_m s1 k c := fun c hc => by
        have hl : zw_n s1 (k * 14 + c) * f % q < q := Nat.mod_lt _ (by omega)
        rw [zw_m_of (v1 c hc) (by omega), zw_m_n hq ok1 (by omega) hc, ← Int.natCast_mul, Nat.mul_comm f]
        exact zb_de (zb_dm (-1) (zw_mod (zw_n s1 (k * 14 + c) * f) q)) (by omega)
      have w2 : ∀ r c, r < R → r ≠ k → c ≤ K → zw_m s2 r c = zw_m s1 r c := fun r c _ g1 hc => zw_m_eq (v2 r c (by omega) g1)
      have E2 := zb_E_scale E1 (by omega) w1 w2
      have S2 := zb_same_t S1 (zb_scale_same (g := (zw_n s1 (k * 14 + t) : Int)) (by omega) (zb_de (zw_inv1 f2) (by rw [Int.mul_comm])) w1 w2)
      have ok2 : zw_cok q R K s2 := fun r c hr hc => by
        by_cases e2 : r = k
        · rw [e2, v1 c hc]
          exact ⟨_, Nat.mod_lt _ (by omega), rfl⟩
        · rw [v2 r c (by omega) e2]
          exact ok1 r c hr hc
      have one : (q : Int) ∣ zw_m s2 k t - 1 := by
        have z := v1 t (by omega)
        rw [f2] at z
        rw [zw_m_of z (by omega)]
        exact zb_d0 _
      refine zw_clearColumn hq hR hK (by omega) (by omega) ok2 (fun s3 y1 y2 => ?_)
      have z1 : ∀ c, c ≤ K → zw_m s3 k c = zw_m s2 k c := fun c hc => zw_m_eq (y2 c hc)
      have z2 : ∀ r c, r < R → r ≠ k → c ≤ K → (q : Int) ∣ zw_m s3 r c - (zw_m s2 r c - zw_m s2 r t * zw_m s2 k c) := fun r c hr g1 hc => by
        have o1 := zw_ok_n hq (ok2 r t hr (by omega))
        have o2 := zw_ok_n hq (ok2 k c (by omega) hc)
        have hl : (zw_n s2 (r * 14 + c) + q * q - zw_n s2 (r * 14 + t) * zw_n s2 (k * 14 + c)) % q < q := Nat.mod_lt _ (by omega)
        have hm := zw_mul_le o1.1 o2.1
        rw [zw_m_of (y1 r c hc hr g1) (by omega), zw_m_n hq ok2 hr hc, zw_m_n hq ok2 hr (by omega), zw_m_n hq ok2 (by omega) hc, ← Int.natCast_mul]
        exact zw_wr (by omega)
      have hk8 : (nI k).toInt8.toInt32 = nI k := zw_b8 k (by omega)
      refine ⟨pk_in t 14 (by omega), nm_r (e' := upd (upd b7 t (-1)) t (nI k)) (by rw [nI_clamp (n := t) (by omega), hk8]) (nm_r (nI_1 k) (nm_r hdec (hw (nI (k + 1), s3, upd (upd b7 t (-1)) t (nI k)) ⟨by omega, k + 1, rfl, fun r c hr hc => ?_, ?_, ?_⟩)))⟩
      · show zw_ok q (s3 (r * 14 + c))
        by_cases e2 : r = k
        · rw [e2, y2 c hc]
          exact ok2 k c (by omega) hc
        · rw [y1 r c hc hr e2]
          exact ⟨_, Nat.mod_lt _ (by omega), rfl⟩
      · refine zb_E_clear (by omega) E2 (by omega) one z1 z2 (fun c hc => ?_) ?_
        · show (upd (upd b7 t (-1)) t (nI k) c).toInt = (b7 c).toInt
          rw [pk_un hc, pk_un hc]
        · show (upd (upd b7 t (-1)) t (nI k) t).toInt = (k : Int)
          rw [pk_us, nI_toInt (by omega)]
      · exact zb_same_t S2 (zb_clear_same (f := fun r => zw_m s2 r t) (by omega) z1 z2)
theorem zw_eliminate {post : St1 → Prop} {R K : Nat} (hq : zw_q q) (hR : R < 14) (hK : K < 14) (h6 : zw_cok q R K a6)
    (H : ∀ k b6 b7, zw_cok q R K b6 → zb_E (q : Int) R K 0 k (zw_m b6) (zw_s b7) → zb_same (q : Int) R K (zw_m a6) (zw_m b6) → post (nI q, l, sz, ws, nI R, nI K, nI k, rl, a1, a2, a3, a4, a5, b6, b7, a8)) :
    wpX_eliminate post (nI q, l, sz, ws, nI R, nI K, rk, rl, a1, a2, a3, a4, a5, a6, a7, a8) :=
  nm_e ⟨K + 1, zw_elim_12 (a1 := a1) (a2 := a2) (a3 := a3) (a4 := a4) (a5 := a5) (a8 := a8) hq hR hK H K (nI 0, a6, a7) ⟨Nat.le_refl K, 0, rfl, h6, zb_E_0, zb_same_0⟩⟩
end
end
section
theorem zb_gen_sol {q : Int} {s p : Nat → Int} {L j : Nat} (hp : p 0 = 1) (h : q ∣ zb_dc p L s j) : q ∣ zb_sum (fun c => s (j - (c + 1)) * (- p (c + 1))) L - s j := by
  unfold zb_dc at h
  rw [zb_sum_head] at h
  have e : zb_sum (fun c => s (j - (c + 1)) * (- p (c + 1))) L = (-1) * zb_sum (fun i => p (i + 1) * s (j - (i + 1))) L := by
    rw [← zb_sum_mul]
    refine zb_sum_congr (fun i _ => ?_)
    show s (j - (i + 1)) * (- p (i + 1)) = (-1) * (p (i + 1) * s (j - (i + 1)))
    grind
  rw [e]
  refine zb_de (zb_dm (-1) h) ?_
  show -1 * (p 0 * s (j - 0) + zb_sum (fun i => p (i + 1) * s (j - (i + 1))) L) = _
  rw [hp, Nat.sub_zero]
  grind
section
variable {l sz ws rw cl rk rl : Int32} {a1 a2 a3 a4 a5 a6 a7 a8 : Nat → Int32} {q : Nat}
theorem zw_fr_47 {post : St1 → Prop} {J : Int32 → (Nat → Int32) → (Nat → Int32) → (Nat → Int32) → (Nat → Int32) → (Nat → Int32) → (Nat → Int32) → (Nat → Int32) → (Nat → Int32) → Prop} {j n L : Nat} (hq : zw_q q) (hn : n ≤ 12) (hj : L + j < n) (h2 : ∀ i, i < n → zw_ok q (a2 i))
    (H : ∀ s, (∀ c, c < L → s (j * 14 + c) = a2 (L + j - (c + 1))) → s (j * 14 + L) = a2 (L + j) → (∀ r c, c < 14 → r ≠ j → s (r * 14 + c) = a6 (r * 14 + c)) → J (nI (j + 1)) a1 a2 a3 a4 a5 s a7 a8) :
    ∃ fu, wX_findRegister_47 post J (nI j) (nI q) l sz ws rw (nI L) rk (nI L) fu 1 a1 a2 a3 a4 a5 a6 a7 a8 := by
  refine pk_loop (fun fu i s => wX_findRegister_47 post J (nI j) (nI q) l sz ws rw (nI L) rk (nI L) fu (nI i) a1 a2 a3 a4 a5 s a7 a8) (fun i s => 1 ≤ i ∧ (∀ c, c + 1 < i → s (j * 14 + c) = a2 (L + j - (c + 1))) ∧ ∀ r c, c < 14 → r ≠ j → s (r * 14 + c) = a6 (r * 14 + c)) (L + 1) 1 a6 (by omega) ⟨Nat.le_refl 1, fun c hc => absurd hc (by omega), fun r c _ _ => rfl⟩ ?_ ?_
  · intro fu s h
    obtain ⟨g1, g2, g3⟩ := h
    refine pk_lt L (L + 1) (fun _ => ⟨pk_in (L + j) 64 (by omega) (nI_add L j), zw_ixi (by omega) (by omega), nm_r (e' := upd s (j * 14 + L) (a2 (L + j))) ?_ (nm_r (nI_1 j) (H _ (fun c hc => ?_) pk_us (fun r c hc hr => ?_)))⟩) (fun z => absurd z (by omega))
    · rw [zw_ixc (by omega) (by omega), nI_add, nI_clamp (n := L + j) (by omega), zw_ok_nar hq (h2 (L + j) (by omega))]
    · rw [pk_un (by omega)]
      exact g2 c (by omega)
    · rw [pk_un (by omega)]
      exact g3 r c hc hr
  · intro fu i s hi h hw
    obtain ⟨g1, g2, g3⟩ := h
    have e1 : nI L + nI j - nI i = nI (L + j - i) := by rw [nI_add, pk_sub (by omega)]
    have e2 : nI j * 14 + nI i - 1 = nI (j * 14 + i - 1) := by
      rw [zw_ix]
      exact pk_sub (b := 1) (by omega)
    refine pk_lt L i (fun z => absurd z (by omega)) (fun _ => ⟨pk_in (L + j - i) 64 (by omega) e1, pk_in (j * 14 + i - 1) 196 (by omega) e2, nm_r (e' := upd s (j * 14 + (i - 1)) (a2 (L + j - i))) ?_ (nm_r (nI_1 i) (hw _ ⟨by omega, fun c hc => ?_, fun r c hc hr => ?_⟩))⟩)
    · rw [e1, e2, nI_clamp (n := L + j - i) (by omega), nI_clamp (n := j * 14 + i - 1) (by omega), zw_ok_nar hq (h2 (L + j - i) (by omega)), show j * 14 + i - 1 = j * 14 + (i - 1) by omega]
    · by_cases e : c = i - 1
      · rw [e, pk_us, show i - 1 + 1 = i by omega]
      · rw [pk_un (by omega)]
        exact g2 c (by omega)
    · rw [pk_un (by omega)]
      exact g3 r c hc hr
theorem zw_fr_124 {post : St1 → Prop} {R K : Nat} (hq : zw_q q) (hR : R < 14) (hK : K < 13) (h6 : zw_cok q R K a6) (hE : ∀ c, c < K → zw_s a7 c = -1 ∨ ∃ r : Nat, zw_s a7 c = r ∧ r < R)
    (H : ∀ s, (∀ c, c < K → zw_ok q (s (c + 1))) → (∀ c, c < K → zw_s a7 c = -1 → s (c + 1) = 0) → (∀ c (r : Nat), c < K → zw_s a7 c = r → s (c + 1) = a6 (r * 14 + K)) → post (nI q, l, sz, ws, rw, nI K, rk, rl, a1, a2, a3, a4, a5, a6, a7, s)) :
    ∃ fu, wX_findRegister_124 post (nI q) l sz ws rw (nI K) rk rl fu 0 a1 a2 a3 a4 a5 a6 a7 a8 := by
  refine pk_loop (fun fu i s => wX_findRegister_124 post (nI q) l sz ws rw (nI K) rk rl fu (nI i) a1 a2 a3 a4 a5 a6 a7 s) (fun i s => ∀ c, c < i → zw_ok q (s (c + 1)) ∧ (zw_s a7 c = -1 → s (c + 1) = 0) ∧ ∀ r : Nat, zw_s a7 c = r → s (c + 1) = a6 (r * 14 + K)) K 0 a8 (by omega) (fun c hc => absurd hc (by omega)) ?_ ?_
  · intro fu s h
    exact pk_le K K (fun _ => H s (fun c hc => (h c hc).1) (fun c hc => (h c hc).2.1) (fun c r hc => (h c hc).2.2 r)) (fun z => absurd z (by omega))
  · intro fu i s hi h hw
    refine pk_le K i (fun z => absurd z (by omega)) (fun _ => ⟨pk_in i 14 (by omega), nm_r (e' := a7 i) (by rw [nI_clamp (n := i) (by omega)]) ?_⟩)
    have eix : (nI i + 1).toNatClampNeg = i + 1 := pk_cl (i + 1) (nI_1 i)
    rcases hE i hi with z | ⟨r, z, hr⟩
    · have e : a7 i = -1 := Int32.toInt_inj.mp (show (a7 i).toInt = (-1 : Int32).toInt from z)
      rw [e]
      refine br_f (by decide) ⟨pk_in (i + 1) 14 (by omega) (nI_1 i), nm_r (e' := upd s (i + 1) 0) (by rw [eix]) (nm_r (nI_1 i) (hw _ (fun c hc => ?_)))⟩
      by_cases ec : c = i
      · rw [ec, pk_us]
        refine ⟨zw_ok_0 hq, fun _ => rfl, fun r' z' => ?_⟩
        omega
      · rw [pk_un (by omega)]
        exact h c (by omega)
    · have e : a7 i = nI r := Int32.toInt_inj.mp (by rw [nI_toInt (by omega)]; exact z)
      rw [e]
      have o := h6 r K hr (Nat.le_refl K)
      refine br_t (nI_pos' (by omega)) ⟨zw_ixi (by omega) (by omega), pk_in (i + 1) 14 (by omega) (nI_1 i), nm_r (e' := upd s (i + 1) (a6 (r * 14 + K))) (by rw [eix, zw_ixc (by omega) (by omega), zw_ok_nar hq o]) (nm_r (nI_1 i) (hw _ (fun c hc => ?_)))⟩
      by_cases ec : c = i
      · rw [ec, pk_us]
        refine ⟨o, fun z' => ?_, fun r' z' => ?_⟩
        · omega
        · have er : r' = r := by omega
          rw [er]
      · rw [pk_un (by omega)]
        exact h c (by omega)
theorem zw_fr_37 {post : St1 → Prop} {n L : Nat} (hq : zw_q q) (hn : n ≤ 12) (h2 : ∀ i, i < n → zw_ok q (a2 i)) (hL : zb_lc (q : Int) (zw_s a2) n L)
    (H : ∀ k b6 b7 b8, (∀ c, c < L → zw_ok q (b8 (c + 1))) → (∀ j, L ≤ j → j < n → (q : Int) ∣ zb_sum (fun i => zw_s b8 (i + 1) * zw_s a2 (j - (i + 1))) L - zw_s a2 j) → post (nI q, l, sz, nI n, nI (n - L), nI L, nI k, nI L, a1, a2, a3, a4, a5, b6, b7, b8)) :
    ∃ fu, wX_findRegister_37 post (nI q) l sz (nI n) (nI (n - L)) (nI L) rk (nI L) fu 0 a1 a2 a3 a4 a5 a6 a7 a8 := by
  have hLn : L ≤ n := hL.1
  refine pk_loop (fun fu i s => wX_findRegister_37 post (nI q) l sz (nI n) (nI (n - L)) (nI L) rk (nI L) fu (nI i) a1 a2 a3 a4 a5 s a7 a8) (fun i s => ∀ r, r < i → (∀ c, c < L → s (r * 14 + c) = a2 (L + r - (c + 1))) ∧ s (r * 14 + L) = a2 (L + r)) (n - L) 0 a6 (by omega) (fun r hr => absurd hr (by omega)) ?_ ?_
  · intro fu s h
    have ok : zw_cok q (n - L) L s := fun r c hr hc => by
      by_cases e : c = L
      · rw [e, (h r hr).2]
        exact h2 _ (by omega)
      · rw [(h r hr).1 c (by omega)]
        exact h2 _ (by omega)
    refine pk_le (n - L) (n - L) (fun _ => zw_eliminate hq (by omega) (by omega) ok (fun k b6 b7 ok6 E S => ?_)) (fun z => absurd z (by omega))
    refine zw_fr_124 hq (R := n - L) (by omega) (by omega) ok6 (fun c hc => ?_) (fun b8 g1 g2 g3 => H k b6 b7 b8 g1 (fun j j1 j2 => ?_))
    · rcases E.2.1 c (by omega) hc with z | ⟨r, z1, z2, _⟩
      · exact Or.inl z
      · exact Or.inr ⟨r, z1, Nat.lt_of_lt_of_le z2 E.1⟩
    · obtain ⟨_, ⟨p, p1, p2⟩, _⟩ := hL
      have s0 : zb_sol (q : Int) (n - L) L (zw_m s) (fun c => - p (c + 1)) := fun r hr => by
        have t := zb_gen_sol p1 (p2 (L + r) (by omega) (by omega))
        have e1 : zb_sum (fun c => zw_m s r c * (- p (c + 1))) L = zb_sum (fun c => zw_s a2 (L + r - (c + 1)) * (- p (c + 1))) L := zb_sum_congr (fun c hc => by
          show (s (r * 14 + c)).toInt * (- p (c + 1)) = (a2 (L + r - (c + 1))).toInt * (- p (c + 1))
          rw [(h r hr).1 c hc])
        have e2 : zw_m s r L = zw_s a2 (L + r) := by
          show (s (r * 14 + L)).toInt = (a2 (L + r)).toInt
          rw [(h r hr).2]
        show (q : Int) ∣ zb_sum (fun c => zw_m s r c * (- p (c + 1))) L - zw_m s r L
        rw [e1, e2]
        exact t
      have s1 := (S _).mp s0
      have s2 : zb_sol (q : Int) (n - L) L (zw_m b6) (fun c => zw_s b8 (c + 1)) := zb_E_end E s1 (fun c hc z => by
          show (b8 (c + 1)).toInt = 0
          rw [g2 c hc z]
          rfl) (fun c r hc z => by
          show (b8 (c + 1)).toInt = (b6 (r * 14 + L)).toInt
          rw [g3 c r hc z])
      have s3 := (S _).mpr s2 (j - L) (by omega)
      have hr := h (j - L) (by omega)
      have ej : L + (j - L) = j := by omega
      rw [ej] at hr
      have e1 : zb_sum (fun c => zw_m s (j - L) c * zw_s b8 (c + 1)) L = zb_sum (fun i => zw_s b8 (i + 1) * zw_s a2 (j - (i + 1))) L := zb_sum_congr (fun c hc => by
        show (s ((j - L) * 14 + c)).toInt * zw_s b8 (c + 1) = zw_s b8 (c + 1) * (a2 (j - (c + 1))).toInt
        rw [hr.1 c hc, Int.mul_comm])
      have e2 : zw_m s (j - L) L = zw_s a2 j := by
        show (s ((j - L) * 14 + L)).toInt = (a2 j).toInt
        rw [hr.2]
      rw [← e1, ← e2]
      exact s3
  · intro fu i s hi h hw
    refine pk_le (n - L) i (fun z => absurd z (by omega)) (fun _ => zw_fr_47 hq hn (by omega) h2 (fun s' g1 g2 g3 => hw s' (fun r hr => ?_)))
    by_cases e : r = i
    · rw [e]
      exact ⟨g1, g2⟩
    · refine ⟨fun c hc => ?_, ?_⟩
      · rw [g3 r c (by omega) e]
        exact (h r (by omega)).1 c hc
      · rw [g3 r L (by omega) e]
        exact (h r (by omega)).2
theorem zw_findRegister {post : St1 → Prop} {n : Nat} (hq : zw_q q) (hn : n ≤ 12) (h1 : ∀ i, i < n → zw_ok q (a1 i))
    (H : ∀ L k b2 b3 b4 b5 b6 b7 b8, zb_lc (q : Int) (zw_s a1) n L → (∀ j, j < n → b2 j = a1 j) → (∀ c, c < L → zw_ok q (b8 (c + 1))) → (∀ j, L ≤ j → j < n → (q : Int) ∣ zb_sum (fun i => zw_s b8 (i + 1) * zw_s a1 (j - (i + 1))) L - zw_s a1 j) → post (nI q, l, sz, nI n, nI (n - L), nI L, nI k, nI L, a1, b2, b3, b4, b5, b6, b7, b8)) :
    wpX_findRegister post (nI q, l, sz, ws, rw, cl, rk, rl, a1, a2, a3, a4, a5, a6, a7, a8) (nI n) := by
  unfold wpX_findRegister
  refine zw_take (x := 0) (y := n) hq (Nat.zero_le n) hn h1 (fun b2 hb2 => ?_)
  have hb : ∀ j, j < n → b2 j = a1 j := fun j hj => by
    have t := hb2 j (by omega)
    rw [Nat.zero_add] at t
    exact t
  have hs : ∀ j, j < n → zw_s b2 j = zw_s a1 j := fun j hj => by
    show (b2 j).toInt = (a1 j).toInt
    rw [hb j hj]
  have h2 : ∀ i, i < n → zw_ok q (b2 i) := fun i hi => by
    rw [hb i hi]
    exact h1 i hi
  refine zw_shortest (m := n) hq (by omega) h2 (fun L b3 b4 b5 hL => ?_)
  refine nm_r (e' := nI (n - L)) (pk_sub hL.1) (zw_fr_37 hq hn h2 hL (fun k b6 b7 b8 g1 g2 => H L k b2 b3 b4 b5 b6 b7 b8 (zb_lc_congr hs hL) hb g1 (fun j j1 j2 => ?_)))
  have t := g2 j j1 j2
  have e : zb_sum (fun i => zw_s b8 (i + 1) * zw_s b2 (j - (i + 1))) L = zb_sum (fun i => zw_s b8 (i + 1) * zw_s a1 (j - (i + 1))) L := zb_sum_congr (fun i hi => by
    show zw_s b8 (i + 1) * zw_s b2 (j - (i + 1)) = zw_s b8 (i + 1) * zw_s a1 (j - (i + 1))
    rw [hs (j - (i + 1)) (by omega)])
  rw [e, hs j j2] at t
  exact t
theorem zw_step {post : St1 → Prop} {n L : Nat} (hq : zw_q q) (hn : n ≤ 12) (hL : L ≤ n) (h2 : ∀ i, i < n → zw_ok q (a2 i)) (h8 : ∀ c, c < L → zw_ok q (a8 (c + 1)))
    (H : ∀ p, p < q → (q : Int) ∣ zb_sum (fun i => zw_s a8 (i + 1) * zw_s a2 (n - (i + 1))) L - (p : Int) → post (nI q, l, sz, nI (n + 1), rw, cl, rk, nI L, a1, upd a2 n (nI p), a3, a4, a5, a6, a7, a8)) :
    wpX_step post (nI q, l, sz, nI n, rw, cl, rk, nI L, a1, a2, a3, a4, a5, a6, a7, a8) := by
  have hq2 := zw_q2 hq
  unfold wpX_step
  refine pk_loop (fun fu i x => wX_step_4 post (nI q) l sz (nI n) rw cl rk (nI L) a1 a2 a3 a4 a5 a6 a7 a8 fu x (nI (i + 1))) (fun i x => ∃ S : Nat, x = nI S ∧ S ≤ 25 * i ∧ (S : Int) = zb_sum (fun i => zw_s a8 (i + 1) * zw_s a2 (n - (i + 1))) i) L 0 0 (by omega) ⟨0, rfl, by omega, rfl⟩ ?_ ?_
  · intro fu x h
    obtain ⟨S, hx, hS, hs⟩ := h
    have hl : S % q < q := Nat.mod_lt _ (by omega)
    refine pk_lt L (L + 1) (fun _ => ⟨nI_ne0 (by omega) (by omega), pk_in n 64 (by omega), nm_r (e' := upd a2 n (nI (S % q))) ?_ (nm_r (nI_1 n) (H (S % q) hl ?_))⟩) (fun z => absurd z (by omega))
    · rw [nI_clamp (n := n) (by omega), hx, pk_rem (by omega) (by omega) (by omega), zw_b8 _ (by omega)]
    · rw [← hs]
      exact zw_mod S q
  · intro fu i x hi h hw
    obtain ⟨S, hx, hS, hs⟩ := h
    have o8 := zw_ok_n hq (h8 i hi)
    have o2 := zw_ok_n hq (h2 (n - (i + 1)) (by omega))
    have hm : zw_n a8 (i + 1) * zw_n a2 (n - (i + 1)) ≤ 25 := Nat.le_trans (zw_mul_le o8.1 o2.1) (zw_qq hq)
    refine pk_lt L (i + 1) (fun z => absurd z (by omega)) (fun _ => ⟨pk_in (i + 1) 14 (by omega), pk_in (n - (i + 1)) 64 (by omega) (pk_sub (by omega)), nm_r (e' := nI (S + zw_n a8 (i + 1) * zw_n a2 (n - (i + 1)))) ?_ (nm_r (nI_1 (i + 1)) (hw _ ⟨_, rfl, by omega, ?_⟩))⟩)
    · rw [nI_clamp (n := i + 1) (by omega), pk_sub (by omega), nI_clamp (n := n - (i + 1)) (by omega), hx, ← nI_add, ← pk_mul, ← o8.2.1, ← o2.2.1]
    · rw [zb_sum_s, ← hs, o8.2.2, o2.2.2, Int.natCast_add, Int.natCast_mul]
end
end
section
section
variable {l sz ws rw cl rk rl : Int32} {a1 a2 a3 a4 a5 a6 a7 a8 : Nat → Int32} {q : Nat}
theorem zw_predict {post : Int32 → St1 → Prop} {n : Nat} (hq : zw_q q) (hn : n ≤ 12) (h1 : ∀ i, i < n → zw_ok q (a1 i))
    (H : ∀ L p w r c k g b2 b3 b4 b5 b6 b7 b8, p < q → zb_lc (q : Int) (zw_s a1) n L → (∀ L', zb_lc (q : Int) (zw_s (upd a1 n (nI p))) (n + 1) L' → L' = L) → post (nI p) (nI q, l, nI n, w, r, c, k, g, a1, b2, b3, b4, b5, b6, b7, b8)) :
    wpX_predict post (nI q, l, nI n, ws, rw, cl, rk, rl, a1, a2, a3, a4, a5, a6, a7, a8) 0 := by
  have hq2 := zw_q2 hq
  unfold wpX_predict
  refine pk_lt 0 0 (fun z => absurd z (by omega)) (fun _ => pk_le 0 40 (fun _ => ?_) (fun z => absurd z (by omega)))
  refine zw_findRegister hq hn h1 (fun L k b2 b3 b4 b5 b6 b7 b8 hL hb g1 g2 => ?_)
  have h2 : ∀ i, i < n → zw_ok q (b2 i) := fun i hi => by
    rw [hb i hi]
    exact h1 i hi
  refine ⟨2, pk_lt 0 0 (fun z => absurd z (by omega)) (fun _ => zw_step hq hn hL.1 h2 g1 (fun p hp hd => nm_r (nI_1 0) (pk_lt 0 1 (fun _ => ⟨pk_in n 64 (by omega) (nI_pred n), ?_⟩) (fun z => absurd z (by omega)))))⟩
  have e : upd b2 n (nI p) (nI (n + 1) - 1).toNatClampNeg = nI p := by rw [nI_pred, nI_clamp (by omega), pk_us]
  rw [e]
  refine H L p _ _ _ _ _ _ _ _ _ _ _ _ hp hL (fun L' hL' => ?_)
  have su : ∀ i, i < n → zw_s a1 i = zw_s (upd a1 n (nI p)) i := fun i hi => by
    show (a1 i).toInt = (upd a1 n (nI p) i).toInt
    rw [pk_un (by omega)]
  refine zb_predict (x := zw_s b8) hL g2 su ?_ hL'
  have e1 : zb_sum (fun i => zw_s b8 (i + 1) * zw_s (upd a1 n (nI p)) (n - (i + 1))) L = zb_sum (fun i => zw_s b8 (i + 1) * zw_s b2 (n - (i + 1))) L := zb_sum_congr (fun i hi => by
    have hLn := hL.1
    show zw_s b8 (i + 1) * zw_s (upd a1 n (nI p)) (n - (i + 1)) = zw_s b8 (i + 1) * (b2 (n - (i + 1))).toInt
    rw [← su (n - (i + 1)) (by omega), hb (n - (i + 1)) (by omega)]
    rfl)
  have e2 : zw_s (upd a1 n (nI p)) n = (p : Int) := by
    show (upd a1 n (nI p) n).toInt = (p : Int)
    rw [pk_us, nI_toInt (by omega)]
  rw [e1, e2]
  exact hd
theorem zw_holdsUntil {post : Int32 → St1 → Prop} {n : Nat} (hq : zw_q q) (hn : n ≤ 12) (h1 : ∀ i, i < n → zw_ok q (a1 i))
    (H : ∀ w r c k g b2 b3 b4 b5 b6 b7 b8, post (nI n) (nI q, l, nI n, w, r, c, k, g, a1, b2, b3, b4, b5, b6, b7, b8)) :
    wpX_holdsUntil post (nI q, l, nI n, ws, rw, cl, rk, rl, a1, a2, a3, a4, a5, a6, a7, a8) (nI n) := by
  unfold wpX_holdsUntil
  refine pk_lt n 0 (fun z => absurd z (by omega)) (fun _ => pk_le n n (fun _ => ?_) (fun z => absurd z (by omega)))
  refine zw_findRegister hq hn h1 (fun L k b2 b3 b4 b5 b6 b7 b8 hL hb g1 g2 => ?_)
  exact ⟨1, pk_le n n (fun _ => H _ _ _ _ _ _ _ _ _ _ _ _) (fun z => absurd z (by omega))⟩
theorem zw_isSymbol {post : Int32 → Prop} {p : Nat} {u : Int32} (hq : zw_q q) (hp : p < q) (H : post 1) : wpX_isSymbol post (nI q, l, u, ws, rw, cl, rk, rl, a1, a2, a3, a4, a5, a6, a7, a8) (nI p) := by
  have hq2 := zw_q2 hq
  unfold wpX_isSymbol
  exact pk_lt p 0 (fun z => absurd z (by omega)) (fun _ => pk_le q p (fun z => absurd z (by omega)) (fun _ => H))
theorem zw_complexityWith {post : Int32 → St1 → Prop} {n p : Nat} (hq : zw_q q) (hn : n ≤ 12) (h1 : ∀ i, i < n → zw_ok q (a1 i)) (hp : p < q)
    (H : ∀ L w b2 b3 b4 b5, zb_lc (q : Int) (zw_s (upd a1 n (nI p))) (n + 1) L → post (nI L) (nI q, l, nI n, w, rw, cl, rk, rl, a1, b2, b3, b4, b5, a6, a7, a8)) :
    wpX_complexityWith post (nI q, l, nI n, ws, rw, cl, rk, rl, a1, a2, a3, a4, a5, a6, a7, a8) (nI p) := by
  have hq2 := zw_q2 hq
  unfold wpX_complexityWith
  refine zw_isSymbol hq hp (br_f (by decide) ?_)
  refine zw_take (x := 0) (y := n) hq (Nat.zero_le n) hn h1 (fun b2 hb2 => ?_)
  have hb : ∀ j, j < n → b2 j = a1 j := fun j hj => by
    have t := hb2 j (by omega)
    rw [Nat.zero_add] at t
    exact t
  have hu : ∀ j, j < n + 1 → upd b2 n (nI p) j = upd a1 n (nI p) j := fun j hj => by
    by_cases e : j = n
    · rw [e, pk_us, pk_us]
    · rw [pk_un e, pk_un e]
      exact hb j (by omega)
  refine ⟨pk_in n 64 (by omega), nm_r (e' := upd b2 n (nI p)) ?_ (nm_r (nI_1 n) (zw_shortest (m := n + 1) hq (by omega) (fun i hi => ?_) (fun L b3 b4 b5 hL => H L _ _ b3 b4 b5 (zb_lc_congr (fun j hj => ?_) hL))))⟩
  · rw [show n - 0 = n from rfl, nI_clamp (n := n) (by omega), zw_b8 p (by omega)]
  · rw [hu i hi]
    by_cases e : i = n
    · rw [e, pk_us]
      exact ⟨p, hp, rfl⟩
    · rw [pk_un e]
      exact h1 i (by omega)
  · show (upd b2 n (nI p) j).toInt = (upd a1 n (nI p) j).toInt
    rw [hu j hj]
/-- the two laws -/
theorem zw_profile {post : Int32 → St1 → Prop} {n : Nat} (hq : zw_q q) (hn : n ≤ 12) (h1 : ∀ i, i < n → zw_ok q (a1 i))
    (H : ∀ w b2 b3 b4 b5, post 1 (nI q, l, nI n, w, rw, cl, rk, rl, a1, b2, b3, b4, b5, a6, a7, a8)) :
    wpL_profile post (nI q, l, nI n, ws, rw, cl, rk, rl, a1, a2, a3, a4, a5, a6, a7, a8) (nI n) := by
  unfold wpL_profile
  refine pk_loop (fun fu i (s : Int32 × (Nat → Int32) × (Nat → Int32) × (Nat → Int32) × (Nat → Int32)) => wL_profile_2 post (nI n) fu (nI i) (nI q) l (nI n) s.1 rw cl rk rl a1 s.2.1 s.2.2.1 s.2.2.2.1 s.2.2.2.2 a6 a7 a8) (fun _ _ => True) n 0 (ws, a2, a3, a4, a5) (by omega) trivial ?_ ?_
  · intro fu s _
    exact pk_le n n (fun _ => H s.1 s.2.1 s.2.2.1 s.2.2.2.1 s.2.2.2.2) (fun z => absurd z (by omega))
  · intro fu i s hi _ hw
    refine pk_le n i (fun z => absurd z (by omega)) (fun _ => zw_complexity (x := 0) (y := i) hq (Nat.zero_le i) (by omega) hn h1 (fun c w b2 b3 b4 b5 hc => ?_))
    rw [nI_1 i]
    refine zw_complexity (x := 0) (y := i + 1) hq (Nat.zero_le _) (by omega) hn h1 (fun d w' c2 c3 c4 c5 hd => ?_)
    have hs : (fun j => zw_s a1 (0 + j)) = zw_s a1 := by
      funext j
      rw [Nat.zero_add]
    rw [hs] at hc hd
    have hci : c ≤ i := hc.1
    have hdi : d ≤ i + 1 := hd.1
    have e1 : nI (i + 1) - nI c = nI (i + 1 - c) := pk_sub (by omega)
    have hp : d = c ∨ 2 * c ≤ i ∧ d = i + 1 - c := zb_profile (zw_unit hq) (zw_q1 hq) hc hd
    have fin : ∀ z0 : Nat, z0 < 1000 → (d = c ∨ d = z0) → wL_profile_42 post (wL_profile_2 post (nI n) fu) (nI n) (nI i) (nI c) (nI d) (nI z0) (nI q) l (nI n) w' rw cl rk rl a1 c2 c3 c4 c5 a6 a7 a8 := fun z0 hz h => by
      unfold wL_profile_42
      refine pk_eq d c (fun _ => nm_r (nI_1 i) (hw (w', c2, c3, c4, c5) trivial)) (fun e => pk_eq d z0 (fun _ => nm_r (nI_1 i) (hw (w', c2, c3, c4, c5) trivial)) (fun e' => absurd h (by omega)))
    rw [e1]
    exact pk_le c (i + 1 - c) (fun _ => fin (i + 1 - c) (by omega) (by omega)) (fun _ => fin c (by omega) (by omega))
theorem zw_parts {post : Int32 → St1 → Prop} {n : Nat} (hq : zw_q q) (hn : n ≤ 12) (h1 : ∀ i, i < n → zw_ok q (a1 i))
    (H : ∀ w b2 b3 b4 b5, post 1 (nI q, l, nI n, w, rw, cl, rk, rl, a1, b2, b3, b4, b5, a6, a7, a8)) :
    wpL_parts post (nI q, l, nI n, ws, rw, cl, rk, rl, a1, a2, a3, a4, a5, a6, a7, a8) (nI n) := by
  unfold wpL_parts
  refine zw_complexity (x := 0) (y := n) hq (Nat.zero_le n) (by omega) hn h1 (fun A w b2 b3 b4 b5 hA => ?_)
  have hs : (fun j => zw_s a1 (0 + j)) = zw_s a1 := by
    funext j
    rw [Nat.zero_add]
  rw [hs] at hA
  have hAn : A ≤ n := hA.1
  refine pk_loop (fun fu i (s : Int32 × (Nat → Int32) × (Nat → Int32) × (Nat → Int32) × (Nat → Int32)) => wL_parts_9 post (nI n) (nI A) fu (nI i) (nI q) l (nI n) s.1 rw cl rk rl a1 s.2.1 s.2.2.1 s.2.2.2.1 s.2.2.2.2 a6 a7 a8) (fun _ _ => True) (n + 1) 0 (w, b2, b3, b4, b5) (by omega) trivial ?_ ?_
  · intro fu s _
    exact pk_lt n (n + 1) (fun _ => H s.1 s.2.1 s.2.2.1 s.2.2.2.1 s.2.2.2.2) (fun z => absurd z (by omega))
  · intro fu i s hi _ hw
    refine pk_lt n i (fun z => absurd z (by omega)) (fun _ => ?_)
    refine pk_loop (fun fu' j (s : Int32 × (Nat → Int32) × (Nat → Int32) × (Nat → Int32) × (Nat → Int32)) => wL_parts_17 post (wL_parts_9 post (nI n) (nI A) fu) (nI n) (nI A) (nI i) fu' (nI j) (nI q) l (nI n) s.1 rw cl rk rl a1 s.2.1 s.2.2.1 s.2.2.2.1 s.2.2.2.2 a6 a7 a8) (fun j _ => i ≤ j) (n + 1) i s (by omega) (Nat.le_refl i) ?_ ?_
    · intro fu' s' _
      exact pk_lt n (n + 1) (fun _ => nm_r (nI_1 i) (hw s' trivial)) (fun z => absurd z (by omega))
    · intro fu' j s' hj hij hw'
      refine pk_lt n j (fun z => absurd z (by omega)) (fun _ => zw_complexity (x := i) (y := j) hq hij (by omega) hn h1 (fun c w' c2 c3 c4 c5 hc => ?_))
      have hp := zb_parts hA hc (by omega)
      refine pk_lt c 0 (fun z => absurd z (by omega)) (fun _ => pk_lt A c (fun z => absurd z (by omega)) (fun _ => ?_))
      exact pk_le c (j - i) (fun _ => nm_r (nI_1 j) (hw' (w', c2, c3, c4, c5) (by omega))) (fun z => absurd z (by omega)) rfl (pk_sub hij)
end
end
section
section
variable {l sz ws rw cl rk rl : Int32} {a1 a2 a3 a4 a5 a6 a7 a8 : Nat → Int32} {q : Nat}
theorem zw_length {post : Int32 → Prop} {u : Int32} (H : post u) : wpX_length post (nI q, l, u, ws, rw, cl, rk, rl, a1, a2, a3, a4, a5, a6, a7, a8) := H
theorem zw_law_160 {post : Int32 → Prop} {N : Nat} {xs : Nat → Int32} {J : Int32 → Int32 → Int32 → Int32 → Int32 → Int32 → Int32 → Int32 → Int32 → (Nat → Int32) → (Nat → Int32) → (Nat → Int32) → (Nat → Int32) → (Nat → Int32) → (Nat → Int32) → (Nat → Int32) → (Nat → Int32) → Prop} {x3 : Int32} {kc ks k n : Nat} (hq : zw_q q) (hn : n ≤ 12) (h1 : ∀ i, i < n → zw_ok q (a1 i))
    (HJ : ∀ w r c k' g b2 b3 b4 b5 b6 b7 b8, J (nI (k + 2)) (nI q) l (nI n) w r c k' g a1 b2 b3 b4 b5 b6 b7 b8) :
    wL_law_160 post N xs J x3 (nI k) kc ks (nI q) l (nI n) ws rw cl rk rl a1 a2 a3 a4 a5 a6 a7 a8 := by
  unfold wL_law_160
  refine zw_length ?_
  refine zw_predict hq hn h1 (fun L p w r c k' g b2 b3 b4 b5 b6 b7 b8 hp hL hpred => ?_)
  refine zw_holdsUntil hq hn h1 (fun w r c k' g b2 b3 b4 b5 b6 b7 b8 => ?_)
  refine pk_eq n n (fun _ => zw_complexityWith hq hn h1 hp (fun L1 w b2 b3 b4 b5 hL1 => ?_)) (fun z => absurd rfl z)
  refine zw_complexity (x := 0) (y := n) hq (Nat.zero_le n) (Nat.le_refl n) hn h1 (fun L2 w b2 b3 b4 b5 hL2 => ?_)
  have hs : (fun j => zw_s a1 (0 + j)) = zw_s a1 := by
    funext j
    rw [Nat.zero_add]
  rw [hs] at hL2
  have e : L1 = L2 := (hpred L1 hL1).trans (zb_lc_eq hL hL2)
  have b1 := hL1.1
  have b2' := hL2.1
  refine pk_eq L1 L2 (fun _ => nm_r (e' := nI (k + 2)) (nI_add k 2) (HJ _ _ _ _ _ _ _ _ _ _ _ _)) (fun z => absurd e z)
theorem zw_law_35 {post : Int32 → Prop} {N : Nat} {xs : Nat → Int32} {kc ks lim : Nat} (hp : post 1) (hq : zw_q q) (hN : N ≤ 260) (hlim : lim ≤ 12) : ∀ (m k n : Nat) (ws rw cl rk rl : Int32) (a1 a2 a3 a4 a5 a6 a7 a8 : Nat → Int32), N ≤ k + m → k ≤ 300 → n ≤ lim → (∀ i, i < n → zw_ok q (a1 i)) → wL_law_35 post N xs (nI q) kc ks (m + 1) (nI k) (nI q) (nI lim) (nI n) ws rw cl rk rl a1 a2 a3 a4 a5 a6 a7 a8 := by
  have hq2 := zw_q2 hq
  intro m
  induction m with
  | zero =>
    intro k n ws rw cl rk rl a1 a2 a3 a4 a5 a6 a7 a8 hk hk2 hn h1
    exact pk_le N (k + 1) (fun _ => zw_length (zw_profile hq (by omega) h1 (fun w b2 b3 b4 b5 => br_f (by decide) (zw_parts hq (by omega) h1 (fun w b2 b3 b4 b5 => br_f (by decide) hp))))) (fun z => absurd z (by omega)) rfl (nI_1 k)
  | succ m ih =>
    intro k n ws rw cl rk rl a1 a2 a3 a4 a5 a6 a7 a8 hk hk2 hn h1
    refine pk_le N (k + 1) (fun _ => zw_length (zw_profile hq (by omega) h1 (fun w b2 b3 b4 b5 => br_f (by decide) (zw_parts hq (by omega) h1 (fun w b2 b3 b4 b5 => br_f (by decide) hp))))) (fun hlt => ?_) rfl (nI_1 k)
    have T : ∀ (n : Nat) (ws rw cl rk rl : Int32) (a1 a2 a3 a4 a5 a6 a7 a8 : Nat → Int32), n ≤ lim → (∀ i, i < n → zw_ok q (a1 i)) → wL_law_160 post N xs (wL_law_35 post N xs (nI q) kc ks (m + 1)) (nI q) (nI k) kc ks (nI q) (nI lim) (nI n) ws rw cl rk rl a1 a2 a3 a4 a5 a6 a7 a8 := fun n ws rw cl rk rl a1 a2 a3 a4 a5 a6 a7 a8 hn h1 =>
      zw_law_160 hq (by omega) h1 (fun w r c k' g b2 b3 b4 b5 b6 b7 b8 => ih (k + 2) n w r c k' g a1 b2 b3 b4 b5 b6 b7 b8 (by omega) (by omega) hn h1)
    have U : ∀ x5 : Int32, wL_law_127 post N xs (wL_law_35 post N xs (nI q) kc ks (m + 1)) (nI q) (nI k) x5 kc ks (nI q) (nI lim) (nI n) ws rw cl rk rl a1 a2 a3 a4 a5 a6 a7 a8 := fun x5 => by
      unfold wL_law_127
      refine br_c (fun _ => ⟨pk_in (k + 1) N (by omega) (nI_1 k), br_c (fun _ => ?_) (fun _ => T n ws rw cl rk rl a1 a2 a3 a4 a5 a6 a7 a8 hn h1)⟩) (fun _ => ?_)
      · exact T 0 ws rw cl rk rl a1 a2 a3 a4 a5 a6 a7 a8 (by omega) (fun i hi => absurd hi (by omega))
      · refine pk_eq n 0 (fun _ => T n ws rw cl rk rl a1 a2 a3 a4 a5 a6 a7 a8 hn h1) (fun e => nm_r (e' := nI (n - 1)) (pk_sub (b := 1) (by omega)) ⟨pk_in (n - 1) 12 (by omega), T (n - 1) ws rw cl rk rl a1 a2 a3 a4 a5 a6 a7 a8 (by omega) (fun i hi => h1 i (by omega))⟩)
    refine ⟨pk_in k N (by omega), nm_e ⟨pk_in (k + 1) N (by omega) (nI_1 k), nI_ne0 (by omega) (by omega), ?_⟩⟩
    obtain ⟨v, hv, ev⟩ := pk_andE (xs (nI k + 1).toNatClampNeg) (m := 65535) 16 (by decide)
    have hvq : v % q < q := Nat.mod_lt _ (by omega)
    refine nm_r (e' := nI (v % q)) (by rw [ev, pk_rem (by omega) (by omega) (by omega)]) (zw_length ?_)
    have hb8 : (nI (v % q)).toInt8.toInt32 = nI (v % q) := zw_b8 _ (by omega)
    refine br_c (fun _ => br_c (fun _ => U _) (fun _ => pk_le n 0 (fun _ => U _) (fun hn0 => ⟨pk_in (k + 1) N (by omega) (nI_1 k), nI_ne0 hn0 (by omega), ?_⟩))) (fun _ => ?_)
    · obtain ⟨w, hw, ew⟩ := pk_andE (xs (nI k + 1).toNatClampNeg >>> ((16 : Int32) &&& 31)) (m := 255) 8 (by decide)
      have hwn : w % n < n := Nat.mod_lt _ hn0
      rw [ew, pk_rem (by omega) hn0 (by omega)]
      refine pk_lt (w % n) 0 (fun z => absurd z (by omega)) (fun _ => pk_le n (w % n) (fun z => absurd z (by omega)) (fun _ => ?_))
      refine zw_isSymbol hq hvq (br_f (by decide) ⟨pk_in (w % n) 12 (by omega), nm_r (e' := upd a1 (w % n) (nI (v % q))) (by rw [nI_clamp (n := w % n) (by omega), hb8]) (T n ws rw cl rk rl _ a2 a3 a4 a5 a6 a7 a8 hn (fun i hi => ?_))⟩)
      by_cases e : i = w % n
      · rw [e, pk_us]
        exact ⟨_, hvq, rfl⟩
      · rw [pk_un e]
        exact h1 i hi
    · unfold wpX_append
      refine zw_isSymbol hq hvq ?_
      refine (br_f (by decide) (pk_lt n lim (fun hnl => ⟨pk_in n 12 (by omega), nm_r (e' := upd a1 n (nI (v % q))) (by rw [nI_clamp (n := n) (by omega), hb8]) (nm_r (nI_1 n) (T (n + 1) ws rw cl rk rl _ a2 a3 a4 a5 a6 a7 a8 (by omega) (fun i hi => ?_)))⟩) (fun _ => T n ws rw cl rk rl a1 a2 a3 a4 a5 a6 a7 a8 hn h1)))
      by_cases e : i = n
      · rw [e, pk_us]
        exact ⟨_, hvq, rfl⟩
      · rw [pk_un e]
        exact h1 i (by omega)
end
theorem zw_law_17 {post : Int32 → Prop} {N : Nat} {xs : Nat → Int32} {z0 : Int32} (hp : post 1) (hN : N ≤ 260) : wL_law_17 post N xs z0 0 0 := by
  have go : ∀ (q lim : Nat), zw_q q → lim ≤ 12 → ∃ fu, wL_law_35 post N xs (nI q) (0 + 1 + 8) (0 + 16 + 396) fu 1 (nI q) (nI lim) (nI 0) 0 0 0 0 0 (fun _ => 0) (fun _ => 0) (fun _ => 0) (fun _ => 0) (fun _ => 0) (fun _ => 0) (fun _ => 0) (fun _ => 0) := fun q lim hq hl =>
    ⟨N + 1, zw_law_35 hp hq hN hl N 1 0 0 0 0 0 0 _ _ _ _ _ _ _ _ (by omega) (by omega) (by omega) (fun i hi => absurd hi (by omega))⟩
  unfold wL_law_17
  refine ⟨by omega, by omega, 8, 396, by omega, by omega, ?_⟩
  unfold wpX_init
  refine ⟨by omega, by omega, by omega, by omega, by omega, by omega, by omega, by omega, by omega, by omega, by omega, by omega, by omega, by omega, by omega, by omega, br_c (fun _ => br_c (fun _ => ?_) (fun _ => ?_)) (fun _ => ?_)⟩
  · exact go 3 7 (Or.inr (Or.inl rfl)) (by omega)
  · exact go 5 5 (Or.inr (Or.inr rfl)) (by omega)
  · exact go 2 12 (Or.inl rfl) (by omega)
theorem i_vc (xs : Nat → Int32) (L : Nat) (hL : L ≤ 260) : wpL_law (fun r => r = 1) L xs :=
  pk_le L 0 (fun _ => zw_law_17 rfl hL) (fun h => ⟨pk_in 0 L h, by decide, zw_law_17 rfl hL⟩)
end
