section
/-! THE PLAIN LAW: numbers alone, no program in sight -/
/-- the six primes -/
def cd_P (p : Nat) : Prop := p = 2 ∨ p = 3 ∨ p = 5 ∨ p = 7 ∨ p = 11 ∨ p = 13
theorem cd_P.two {p : Nat} (h : cd_P p) : 2 ≤ p := by
  rcases h with h | h | h | h | h | h <;> omega
theorem cd_P.le {p : Nat} (h : cd_P p) : p ≤ 13 := by
  rcases h with h | h | h | h | h | h <;> omega
theorem cd_P.pos {p : Nat} (h : cd_P p) : 0 < p := by
  have := h.two
  omega
def cd_pn : Nat → Nat
  | 0 => 2
  | 1 => 3
  | 2 => 5
  | 3 => 7
  | 4 => 11
  | _ => 13
theorem cd_pn_P (i : Nat) : cd_P (cd_pn i) := by
  unfold cd_P
  match i with
  | 0 => exact Or.inl rfl
  | 1 => exact Or.inr (Or.inl rfl)
  | 2 => exact Or.inr (Or.inr (Or.inl rfl))
  | 3 => exact Or.inr (Or.inr (Or.inr (Or.inl rfl)))
  | 4 => exact Or.inr (Or.inr (Or.inr (Or.inr (Or.inl rfl))))
  | n + 5 => exact Or.inr (Or.inr (Or.inr (Or.inr (Or.inr rfl))))
/-- congruences -/
theorem cd_mm {a b c d p : Nat} (h : a % p = b % p) (h2 : c % p = d % p) : (a * c) % p = (b * d) % p := by
  rw [Nat.mul_mod, h, h2, ← Nat.mul_mod]
theorem cd_aa {a b c d p : Nat} (h : a % p = b % p) (h2 : c % p = d % p) : (a + c) % p = (b + d) % p := by
  rw [Nat.add_mod, h, h2, ← Nat.add_mod]
theorem cd_1 {p : Nat} (h : cd_P p) : 1 % p = 1 := Nat.mod_eq_of_lt (by have := h.two; omega)
/-- Pascal's numbers -/
def cd_bin : Nat → Nat → Nat
  | _, 0 => 1
  | 0, _ + 1 => 0
  | n + 1, k + 1 => cd_bin n k + cd_bin n (k + 1)
theorem cd_bin_0 (n : Nat) : cd_bin n 0 = 1 := by cases n <;> simp [cd_bin]
theorem cd_bin_z (k : Nat) : cd_bin 0 (k + 1) = 0 := by simp [cd_bin]
theorem cd_bin_s (n k : Nat) : cd_bin (n + 1) (k + 1) = cd_bin n k + cd_bin n (k + 1) := by
  first | rfl | simp [cd_bin]
theorem cd_bin_gt : ∀ (n k : Nat), n < k → cd_bin n k = 0 := by
  intro n
  induction n with
  | zero =>
    intro k h
    obtain ⟨j, rfl⟩ : ∃ j, k = j + 1 := ⟨k - 1, by omega⟩
    exact cd_bin_z j
  | succ n ih =>
    intro k h
    obtain ⟨j, rfl⟩ : ∃ j, k = j + 1 := ⟨k - 1, by omega⟩
    have h1 := ih j (by omega)
    have h2 := ih (j + 1) (by omega)
    rw [cd_bin_s]
    omega
theorem cd_bin_self : ∀ (n : Nat), cd_bin n n = 1 := by
  intro n
  induction n with
  | zero => exact cd_bin_0 0
  | succ n ih =>
    have h2 := cd_bin_gt n (n + 1) (by omega)
    rw [cd_bin_s]
    omega
/-- products modulo p -/
def cd_fc (p : Nat) : Nat → Nat
  | 0 => 1
  | k + 1 => cd_fc p k * (k + 1) % p
theorem cd_fc_lt {p : Nat} (h : cd_P p) (k : Nat) : cd_fc p k < p := by
  have h2 := h.two
  cases k with
  | zero => show 1 < p; omega
  | succ k => exact Nat.mod_lt _ (by omega)
theorem cd_fc_k {p k : Nat} (h : 1 ≤ k) : cd_fc p k = cd_fc p (k - 1) * k % p := by
  obtain ⟨j, rfl⟩ : ∃ j, k = j + 1 := ⟨k - 1, by omega⟩
  rfl
/-- what a program decides of the six primes -/
theorem cd_dvd {p : Nat} (h : cd_P p) : ∀ b, b < p → 0 < b → cd_bin p b % p = 0 := by
  rcases h with rfl | rfl | rfl | rfl | rfl | rfl <;> decide +kernel
theorem cd_pr {p : Nat} (h : cd_P p) : ∀ a, a < p → ∀ b, b < p → a * b % p = 0 → a = 0 ∨ b = 0 := by
  rcases h with rfl | rfl | rfl | rfl | rfl | rfl <;> decide +kernel
theorem cd_bnz {p : Nat} (h : cd_P p) : ∀ a, a < p → ∀ b, b < p → b ≤ a → cd_bin a b % p ≠ 0 := by
  rcases h with rfl | rfl | rfl | rfl | rfl | rfl <;> decide +kernel
theorem cd_fac {p : Nat} (h : cd_P p) : ∀ a, a < p → ∀ b, b < p → b ≤ a → cd_bin a b * (cd_fc p b * cd_fc p (a - b)) % p = cd_fc p a := by
  rcases h with rfl | rfl | rfl | rfl | rfl | rfl <;> decide +kernel
theorem cd_inv {p : Nat} (h : cd_P p) : ∀ k, k < p → ∃ x, x < p ∧ x * cd_fc p k % p = 1 := by
  rcases h with rfl | rfl | rfl | rfl | rfl | rfl <;> decide +kernel
theorem cd_wil {p : Nat} (h : cd_P p) : cd_fc p (p - 1) = p - 1 := by
  rcases h with rfl | rfl | rfl | rfl | rfl | rfl <;> decide +kernel
theorem cd_neg {p : Nat} (h : cd_P p) : (p - 1) * (p - 1) % p = 1 := by
  rcases h with rfl | rfl | rfl | rfl | rfl | rfl <;> decide +kernel
/-- the last digit, and the rest, one further on -/
theorem cd_dm1 {p n : Nat} (h : n % p + 1 < p) : (n + 1) % p = n % p + 1 ∧ (n + 1) / p = n / p := by
  have hp : 0 < p := by omega
  have e := Nat.div_add_mod n p
  have e2 : n + 1 = p * (n / p) + (n % p + 1) := by omega
  constructor
  · rw [e2, Nat.mul_add_mod]
    exact Nat.mod_eq_of_lt h
  · rw [e2, Nat.mul_add_div hp, Nat.div_eq_of_lt h, Nat.add_zero]
theorem cd_dm2 {p n : Nat} (hp : 0 < p) (h : n % p + 1 = p) : (n + 1) % p = 0 ∧ (n + 1) / p = n / p + 1 := by
  have e := Nat.div_add_mod n p
  have e2 : n + 1 = p * (n / p) + p := by omega
  constructor
  · rw [e2, Nat.mul_add_mod, Nat.mod_self]
  · rw [e2, Nat.mul_add_div hp, Nat.div_self hp]
theorem cd_at {p K b : Nat} (h : b < p) : (p * K + b) % p = b ∧ (p * K + b) / p = K := by
  have hp : 0 < p := by omega
  constructor
  · rw [Nat.mul_add_mod]
    exact Nat.mod_eq_of_lt h
  · rw [Nat.mul_add_div hp, Nat.div_eq_of_lt h, Nat.add_zero]
/-- LUCAS -/
theorem cd_lucas {p : Nat} (hp : cd_P p) : ∀ (n k : Nat), cd_bin n k % p = cd_bin (n / p) (k / p) * cd_bin (n % p) (k % p) % p := by
  have hp0 := hp.pos
  intro n
  induction n with
  | zero =>
    intro k
    cases k with
    | zero => simp [cd_bin_0]
    | succ k =>
      have e := Nat.div_add_mod (k + 1) p
      rw [cd_bin_z, Nat.zero_div, Nat.zero_mod]
      rcases Nat.eq_zero_or_pos ((k + 1) % p) with h | h
      · rcases Nat.eq_zero_or_pos ((k + 1) / p) with h2 | h2
        · rw [h, h2, Nat.mul_zero] at e
          omega
        · rw [cd_bin_gt 0 _ h2, Nat.zero_mul, Nat.zero_mod]
      · rw [cd_bin_gt 0 _ h, Nat.mul_zero, Nat.zero_mod]
  | succ n ih =>
    intro k
    cases k with
    | zero => simp [cd_bin_0]
    | succ k =>
      have ha := Nat.mod_lt n hp0
      have hb := Nat.mod_lt k hp0
      rw [cd_bin_s, cd_aa (ih k) (ih (k + 1))]
      rcases Nat.lt_or_ge (n % p + 1) p with a1 | a1
      · obtain ⟨e1, e2⟩ := cd_dm1 a1
        rcases Nat.lt_or_ge (k % p + 1) p with b1 | b1
        · obtain ⟨e3, e4⟩ := cd_dm1 b1
          rw [e1, e2, e3, e4, cd_bin_s, Nat.mul_add]
        · obtain ⟨e3, e4⟩ := cd_dm2 hp0 (show k % p + 1 = p by omega)
          rw [e1, e2, e3, e4, cd_bin_gt (n % p) (k % p) (by omega), cd_bin_0, cd_bin_0, Nat.mul_zero, Nat.zero_add]
      · have a2 : n % p + 1 = p := by omega
        obtain ⟨e1, e2⟩ := cd_dm2 hp0 a2
        rcases Nat.lt_or_ge (k % p + 1) p with b1 | b1
        · obtain ⟨e3, e4⟩ := cd_dm1 b1
          have hz : cd_bin (n % p) (k % p) + cd_bin (n % p) (k % p + 1) = cd_bin p (k % p + 1) := by
            rw [← cd_bin_s, a2]
          have hd := cd_dvd hp (k % p + 1) b1 (by omega)
          rw [e1, e2, e3, e4, ← Nat.mul_add, hz, cd_bin_z, Nat.mul_zero, Nat.mul_mod, hd, Nat.mul_zero]
        · obtain ⟨e3, e4⟩ := cd_dm2 hp0 (show k % p + 1 = p by omega)
          have hk : n % p = k % p := by omega
          rw [e1, e2, e3, e4, hk, cd_bin_self, cd_bin_0, cd_bin_0, cd_bin_s]
          simp only [Nat.mul_one]
/-- a digit's choice out of products and what undoes them -/
theorem cd_digit {p a b u v : Nat} (hp : cd_P p) (ha : a < p) (hb : b ≤ a) (hu : u * cd_fc p b % p = 1) (hv : v * cd_fc p (a - b) % p = 1) : (cd_fc p a * u * v) % p = cd_bin a b % p := by
  have h1 := cd_1 hp
  have h0 : cd_fc p a % p = (cd_bin a b * (cd_fc p b * cd_fc p (a - b))) % p := by
    rw [cd_fac hp a ha b (by omega) hb]
    exact Nat.mod_eq_of_lt (cd_fc_lt hp a)
  have e1 : (cd_fc p a * u * v) % p = (cd_bin a b * (cd_fc p b * cd_fc p (a - b)) * u * v) % p := cd_mm (cd_mm h0 rfl) rfl
  have e2 : cd_bin a b * (cd_fc p b * cd_fc p (a - b)) * u * v = cd_bin a b * ((u * cd_fc p b) * (v * cd_fc p (a - b))) := by ac_rfl
  have e3 : (cd_bin a b * ((u * cd_fc p b) * (v * cd_fc p (a - b)))) % p = (cd_bin a b * (1 * 1)) % p := cd_mm rfl (cd_mm (by rw [hu, h1]) (by rw [hv, h1]))
  rw [e1, e2, e3]
  simp only [Nat.mul_one]
/-- one turn of ChooseDesk.chosen -/
theorem cd_turn {p x y r u v : Nat} (hp : cd_P p) (hb : y % p ≤ x % p) (hu : u * cd_fc p (y % p) % p = 1) (hv : v * cd_fc p (x % p - y % p) % p = 1) : (r * cd_fc p (x % p) * u * v % p) * cd_bin (x / p) (y / p) % p = r * cd_bin x y % p := by
  have hd := cd_digit hp (Nat.mod_lt x hp.pos) hb hu hv
  have e1 : (r * cd_fc p (x % p) * u * v % p) * cd_bin (x / p) (y / p) % p = (r * cd_fc p (x % p) * u * v) * cd_bin (x / p) (y / p) % p := cd_mm (Nat.mod_mod _ _) rfl
  have e2 : (r * cd_fc p (x % p) * u * v) * cd_bin (x / p) (y / p) = r * (cd_bin (x / p) (y / p) * (cd_fc p (x % p) * u * v)) := by ac_rfl
  have e3 : (cd_bin (x / p) (y / p) * (cd_fc p (x % p) * u * v)) % p = cd_bin x y % p := by
    rw [cd_lucas hp x y]
    exact cd_mm rfl hd
  rw [e1, e2]
  exact cd_mm rfl e3
/-- a digit of k above n's: none -/
theorem cd_none {p x y : Nat} (hp : cd_P p) (h : x % p < y % p) : cd_bin x y % p = 0 := by
  rw [cd_lucas hp, cd_bin_gt _ _ h, Nat.mul_zero, Nat.zero_mod]
/-- how many of row m are not 0 modulo p -/
def cd_nz (p m i : Nat) : Nat := if cd_bin m i % p = 0 then 0 else 1
def cd_cnt (p m : Nat) : Nat → Nat
  | 0 => 0
  | n + 1 => cd_cnt p m n + cd_nz p m n
theorem cd_cnt_s (p m n : Nat) : cd_cnt p m (n + 1) = cd_cnt p m n + cd_nz p m n := rfl
def cd_left (p m : Nat) : Nat := cd_cnt p m (m + 1)
theorem cd_left_0 {p : Nat} (hp : cd_P p) : cd_left p 0 = 1 := by
  simp [cd_left, cd_cnt, cd_nz, cd_bin_0, cd_1 hp]
theorem cd_cnt_in {p : Nat} (hp : cd_P p) (x K : Nat) : ∀ b, b ≤ p → cd_cnt p x (p * K + b) = cd_cnt p x (p * K) + (if cd_bin (x / p) K % p = 0 then 0 else min b (x % p + 1)) := by
  have hp0 := hp.pos
  have ha := Nat.mod_lt x hp0
  intro b
  induction b with
  | zero =>
    intro _
    simp
  | succ b ih =>
    intro hb
    have hb' : b < p := by omega
    obtain ⟨e1, e2⟩ := cd_at (K := K) hb'
    have hl := cd_lucas hp x (p * K + b)
    rw [e1, e2] at hl
    have hc : cd_cnt p x (p * K + (b + 1)) = cd_cnt p x (p * K + b) + cd_nz p x (p * K + b) := rfl
    rw [hc, ih (by omega)]
    by_cases hz : cd_bin (x / p) K % p = 0
    · have h0 : cd_bin x (p * K + b) % p = 0 := by
        rw [hl, Nat.mul_mod, hz, Nat.zero_mul, Nat.zero_mod]
      have hn : cd_nz p x (p * K + b) = 0 := if_pos h0
      simp only [hn, if_pos hz, Nat.add_zero]
    · rw [if_neg hz, if_neg hz]
      rcases Nat.lt_or_ge (x % p) b with h | h
      · have h0 : cd_bin x (p * K + b) % p = 0 := by
          rw [hl, cd_bin_gt _ _ h, Nat.mul_zero, Nat.zero_mod]
        have hn : cd_nz p x (p * K + b) = 0 := if_pos h0
        rw [hn]
        omega
      · have h0 : cd_bin x (p * K + b) % p ≠ 0 := by
          intro q
          rw [hl, Nat.mul_mod] at q
          rcases cd_pr hp _ (Nat.mod_lt _ hp0) _ (Nat.mod_lt _ hp0) q with q | q
          · exact hz q
          · exact cd_bnz hp _ ha b hb' h q
        have hn : cd_nz p x (p * K + b) = 1 := if_neg h0
        rw [hn]
        omega
theorem cd_cnt_out {p : Nat} (hp : cd_P p) (x : Nat) : ∀ K, cd_cnt p x (p * K) = (x % p + 1) * cd_cnt p (x / p) K := by
  have ha := Nat.mod_lt x hp.pos
  intro K
  induction K with
  | zero => rfl
  | succ K ih =>
    have h := cd_cnt_in hp x K p (Nat.le_refl p)
    have e : min p (x % p + 1) = x % p + 1 := by omega
    have e0 : p * (K + 1) = p * K + p := Nat.mul_succ p K
    rw [e0, h, ih, cd_cnt_s, Nat.mul_add, e]
    unfold cd_nz
    by_cases hz : cd_bin (x / p) K % p = 0 <;> simp [hz]
theorem cd_cnt_tail (p x : Nat) : ∀ d, cd_cnt p x (x + 1 + d) = cd_cnt p x (x + 1) := by
  intro d
  induction d with
  | zero => rfl
  | succ d ih =>
    have hc : cd_cnt p x (x + 1 + (d + 1)) = cd_cnt p x (x + 1 + d) + cd_nz p x (x + 1 + d) := rfl
    have hz : cd_nz p x (x + 1 + d) = 0 := if_pos (by rw [cd_bin_gt x (x + 1 + d) (by omega), Nat.zero_mod])
    rw [hc, hz, ih, Nat.add_zero]
theorem cd_left_s {p : Nat} (hp : cd_P p) (x : Nat) : cd_left p x = (x % p + 1) * cd_left p (x / p) := by
  have ha := Nat.mod_lt x hp.pos
  have e := Nat.div_add_mod x p
  have h := cd_cnt_out hp x (x / p + 1)
  have hle : x + 1 ≤ p * (x / p + 1) := by
    have e9 : p * (x / p + 1) = p * (x / p) + p := Nat.mul_succ p (x / p)
    rw [e9]
    omega
  have ht := cd_cnt_tail p x (p * (x / p + 1) - (x + 1))
  rw [Nat.add_sub_of_le hle] at ht
  unfold cd_left
  rw [← ht, h]
/-- how often p divides v -/
def cd_vp (p v : Nat) : Nat := if h : 2 ≤ p ∧ 0 < v ∧ v % p = 0 then cd_vp p (v / p) + 1 else 0
termination_by v
decreasing_by exact Nat.div_lt_self h.2.1 h.1
theorem cd_vp_y {p v : Nat} (hp : 2 ≤ p) (hv : 0 < v) (h : v % p = 0) : cd_vp p v = cd_vp p (v / p) + 1 := by
  rw [cd_vp, dif_pos ⟨hp, hv, h⟩]
theorem cd_vp_n {p v : Nat} (h : v % p ≠ 0) : cd_vp p v = 0 := by
  rw [cd_vp, dif_neg (fun q => h q.2.2)]
/-- how often p divides the product of 1 .. n (Legendre) -/
def cd_leg (p n : Nat) : Nat := if h : 2 ≤ p ∧ 0 < n then n / p + cd_leg p (n / p) else 0
termination_by n
decreasing_by exact Nat.div_lt_self h.2 h.1
theorem cd_leg_0 (p : Nat) : cd_leg p 0 = 0 := by
  rw [cd_leg, dif_neg (fun q => Nat.lt_irrefl 0 q.2)]
theorem cd_leg_s {p : Nat} (hp : 2 ≤ p) (n : Nat) : cd_leg p n = n / p + cd_leg p (n / p) := by
  rcases Nat.eq_zero_or_pos n with h | h
  · subst h
    rw [Nat.zero_div, cd_leg_0]
  · rw [cd_leg, dif_pos ⟨hp, h⟩]
theorem cd_legendre {p : Nat} (hp : 2 ≤ p) : ∀ (m n : Nat), n ≤ m → cd_leg p (n + 1) = cd_leg p n + cd_vp p (n + 1) := by
  intro m
  induction m with
  | zero =>
    intro n hn
    have e : n = 0 := by omega
    subst e
    have h1 : (0 + 1) % p = 1 := Nat.mod_eq_of_lt (by omega)
    have h2 : (0 + 1) / p = 0 := Nat.div_eq_of_lt (by omega)
    rw [cd_leg_s hp (0 + 1), h2, cd_leg_0, cd_vp_n (p := p) (v := 0 + 1) (by rw [h1]; decide)]
  | succ m ih =>
    intro n hn
    have hr := Nat.mod_lt n (show 0 < p by omega)
    rcases Nat.lt_or_ge (n % p + 1) p with a1 | a1
    · obtain ⟨e1, e2⟩ := cd_dm1 a1
      rw [cd_leg_s hp (n + 1), cd_leg_s hp n, e2, cd_vp_n (p := p) (v := n + 1) (by rw [e1]; omega), Nat.add_zero]
    · obtain ⟨e1, e2⟩ := cd_dm2 (show 0 < p by omega) (show n % p + 1 = p by omega)
      have hlt : n / p ≤ m := by
        rcases Nat.eq_zero_or_pos n with h | h
        · subst h
          rw [Nat.zero_div]
          omega
        · have := Nat.div_lt_self h (show 1 < p by omega)
          omega
      have h := ih (n / p) hlt
      rw [cd_leg_s hp (n + 1), cd_leg_s hp n, cd_vp_y hp (by omega) e1, e2, h]
      omega
theorem cd_leg_1 {p : Nat} (hp : 2 ≤ p) (n : Nat) : cd_leg p (n + 1) = cd_leg p n + cd_vp p (n + 1) := cd_legendre hp n n (Nat.le_refl n)
/-- KUMMER: one column of the addition -/
theorem cd_col {p x y c c' : Nat} (hp : 0 < p) (h : (x % p + y % p + c < p ∧ c' = 0) ∨ (p ≤ x % p + y % p + c ∧ c' = 1 ∧ c ≤ 1)) : (x + y + c) / p = x / p + y / p + c' := by
  have e1 := Nat.div_add_mod x p
  have e2 := Nat.div_add_mod y p
  have r1 := Nat.mod_lt x hp
  have r2 := Nat.mod_lt y hp
  rcases h with ⟨h, rfl⟩ | ⟨h, rfl, hc⟩
  · have e : x + y + c = p * (x / p + y / p) + (x % p + y % p + c) := by
      rw [Nat.mul_add]
      omega
    rw [e, Nat.mul_add_div hp, Nat.div_eq_of_lt h]
  · have e : x + y + c = p * (x / p + y / p + 1) + (x % p + y % p + c - p) := by
      rw [Nat.mul_add, Nat.mul_add, Nat.mul_one]
      omega
    rw [e, Nat.mul_add_div hp, Nat.div_eq_of_lt (show x % p + y % p + c - p < p by omega), Nat.add_zero]
theorem cd_kummer {p x y c c' k T : Nat} (hp : 2 ≤ p) (hc : (x + y + c) / p = x / p + y / p + c') (h : k + cd_leg p (x + y + c) = T + cd_leg p x + cd_leg p y) : (k + c') + cd_leg p (x / p + y / p + c') = T + cd_leg p (x / p) + cd_leg p (y / p) := by
  have h1 := cd_leg_s hp (x + y + c)
  have h2 := cd_leg_s hp x
  have h3 := cd_leg_s hp y
  rw [hc] at h1
  omega
/-- what is left of v when p is divided out, modulo p -/
def cd_up (p v : Nat) : Nat := if h : 2 ≤ p ∧ 0 < v ∧ v % p = 0 then cd_up p (v / p) else v % p
termination_by v
decreasing_by exact Nat.div_lt_self h.2.1 h.1
theorem cd_up_y {p v : Nat} (hp : 2 ≤ p) (hv : 0 < v) (h : v % p = 0) : cd_up p v = cd_up p (v / p) := by
  rw [cd_up, dif_pos ⟨hp, hv, h⟩]
theorem cd_up_n {p v : Nat} (h : v % p ≠ 0) : cd_up p v = v % p := by
  rw [cd_up, dif_neg (fun q => h q.2.2)]
/-- their product -/
def cd_ls (p : Nat) : Nat → Nat
  | 0 => 1
  | n + 1 => cd_ls p n * cd_up p (n + 1) % p
theorem cd_ls_s (p n : Nat) : cd_ls p (n + 1) = cd_ls p n * cd_up p (n + 1) % p := rfl
theorem cd_ls_lt {p : Nat} (h : cd_P p) (k : Nat) : cd_ls p k < p := by
  have h2 := h.two
  cases k with
  | zero => show 1 < p; omega
  | succ k => exact Nat.mod_lt _ (by omega)
def cd_sg (p o : Nat) : Nat := if o = 0 then 1 else p - 1
theorem cd_sg_0 (p : Nat) : cd_sg p 0 = 1 := rfl
theorem cd_sg_1 (p : Nat) : cd_sg p 1 = p - 1 := rfl
/-- WILSON: by the last digit and the multiples of p -/
theorem cd_wilson {p : Nat} (hp : cd_P p) : ∀ n, cd_ls p n % p = (cd_fc p (n % p) * cd_sg p (n / p % 2) * cd_ls p (n / p)) % p := by
  have hp0 := hp.pos
  have hp2 := hp.two
  intro n
  induction n with
  | zero =>
    simp [cd_ls, cd_fc, cd_sg]
  | succ n ih =>
    have hr := Nat.mod_lt n hp0
    have h1 : cd_ls p (n + 1) % p = (cd_fc p (n % p) * cd_sg p (n / p % 2) * cd_ls p (n / p)) * cd_up p (n + 1) % p := by
      rw [cd_ls_s, Nat.mod_mod]
      exact cd_mm ih rfl
    rw [h1]
    rcases Nat.lt_or_ge (n % p + 1) p with a1 | a1
    · obtain ⟨e1, e2⟩ := cd_dm1 a1
      rw [cd_up_n (p := p) (v := n + 1) (by rw [e1]; omega), e1, e2]
      have e3 : cd_fc p (n % p + 1) = cd_fc p (n % p) * (n % p + 1) % p := rfl
      have e4 : cd_fc p (n % p) * cd_sg p (n / p % 2) * cd_ls p (n / p) * (n % p + 1) = (cd_fc p (n % p) * (n % p + 1)) * cd_sg p (n / p % 2) * cd_ls p (n / p) := by ac_rfl
      rw [e4, e3]
      exact cd_mm (cd_mm (Nat.mod_mod _ _).symm rfl) rfl
    · have a2 : n % p = p - 1 := by omega
      obtain ⟨e1, e2⟩ := cd_dm2 hp0 (show n % p + 1 = p by omega)
      rw [cd_up_y hp2 (by omega) e1, e1, e2, a2, cd_wil hp]
      have e3 : cd_ls p (n / p + 1) = cd_ls p (n / p) * cd_up p (n / p + 1) % p := rfl
      have e5 : ((p - 1) * cd_sg p (n / p % 2)) % p = cd_sg p ((n / p + 1) % 2) % p := by
        rcases Nat.mod_two_eq_zero_or_one (n / p) with h | h
        · have h2 : (n / p + 1) % 2 = 1 := by omega
          rw [h, h2, cd_sg_0, cd_sg_1, Nat.mul_one]
        · have h2 : (n / p + 1) % 2 = 0 := by omega
          rw [h, h2, cd_sg_0, cd_sg_1, cd_neg hp, cd_1 hp]
      have e6 : (p - 1) * cd_sg p (n / p % 2) * cd_ls p (n / p) * cd_up p (n / p + 1) = ((p - 1) * cd_sg p (n / p % 2)) * (cd_ls p (n / p) * cd_up p (n / p + 1)) := by ac_rfl
      have e7 : cd_fc p 0 = 1 := rfl
      rw [e6, e3, e7, Nat.one_mul]
      exact cd_mm e5 (Nat.mod_mod _ _).symm
/-- one turn of ChooseDesk.last -/
theorem cd_lturn {p x r o o' : Nat} (hp : cd_P p) (ho : (x / p % 2 = 0 ∧ o' = o) ∨ (x / p % 2 = 1 ∧ o < 2 ∧ o' = 1 - o)) : (r * cd_fc p (x % p) % p) * cd_sg p o' * cd_ls p (x / p) % p = r * cd_sg p o * cd_ls p x % p := by
  have h := cd_wilson hp x
  have e1 : (r * cd_sg p o * cd_ls p x) % p = (r * cd_sg p o * (cd_fc p (x % p) * cd_sg p (x / p % 2) * cd_ls p (x / p))) % p := cd_mm rfl h
  have e2 : r * cd_sg p o * (cd_fc p (x % p) * cd_sg p (x / p % 2) * cd_ls p (x / p)) = (r * cd_fc p (x % p)) * (cd_sg p o * cd_sg p (x / p % 2)) * cd_ls p (x / p) := by ac_rfl
  have e3 : (cd_sg p o * cd_sg p (x / p % 2)) % p = cd_sg p o' % p := by
    rcases ho with ⟨h1, rfl⟩ | ⟨h1, h2, rfl⟩
    · rw [h1, cd_sg_0, Nat.mul_one]
    · rw [h1, cd_sg_1]
      rcases (show o = 0 ∨ o = 1 by omega) with rfl | rfl
      · rw [cd_sg_0, Nat.one_mul]
        rfl
      · rw [cd_sg_1, cd_neg hp]
        show 1 = 1 % p
        rw [cd_1 hp]
  rw [e1, e2]
  exact cd_mm (cd_mm (Nat.mod_mod _ _) e3.symm) rfl
end
section
-- ===== PART A: goes FIRST, ahead of the names: the tables' words, and 'selects' of the private methods out of them =====
/-- a private method of a class that the tables say can be made, by its rows of tables_1 -/
def lw_okq (q : MethodName × Nat) : Prop := (q.1.cls ≠ "java/lang/invoke/MethodHandle" ∧ q.1.cls ≠ "java/lang/invoke/VarHandle") ∧ Cond.instantiable q.1.cls q.2 ∈ tables_1 ∧ Cond.privateMethod q.1 ∈ tables_1 ∧ Cond.instanceMethod q.1 ∈ tables_1
set_option maxRecDepth 100000
theorem lw_p0 : lw_okq (⟨"ChooseDesk", "reckon", "()V"⟩, 3) := ⟨⟨by decide +kernel, by decide +kernel⟩, List.mem_of_getElem? (i := 4) rfl, List.mem_of_getElem? (i := 12) rfl, List.mem_of_getElem? (i := 13) rfl⟩
theorem lw_p1 : lw_okq (⟨"ChooseDesk", "chosen", "(II)I"⟩, 3) := ⟨⟨by decide +kernel, by decide +kernel⟩, List.mem_of_getElem? (i := 4) rfl, List.mem_of_getElem? (i := 38) rfl, List.mem_of_getElem? (i := 39) rfl⟩
theorem lw_p2 : lw_okq (⟨"ChooseDeskModel", "rowOf", "(I)V"⟩, 4) := ⟨⟨by decide +kernel, by decide +kernel⟩, List.mem_of_getElem? (i := 62) rfl, List.mem_of_getElem? (i := 90) rfl, List.mem_of_getElem? (i := 91) rfl⟩
theorem lw_p3 : lw_okq (⟨"ChooseDeskModel", "power", "(I)I"⟩, 4) := ⟨⟨by decide +kernel, by decide +kernel⟩, List.mem_of_getElem? (i := 62) rfl, List.mem_of_getElem? (i := 102) rfl, List.mem_of_getElem? (i := 103) rfl⟩
def lw_privs_1 : List (MethodName × Nat) := [(⟨"ChooseDesk", "reckon", "()V"⟩, 3), (⟨"ChooseDesk", "chosen", "(II)I"⟩, 3), (⟨"ChooseDeskModel", "rowOf", "(I)V"⟩, 4), (⟨"ChooseDeskModel", "power", "(I)I"⟩, 4)]
theorem lw_r1 : ∀ q ∈ lw_privs_1, lw_okq q := List.forall_mem_cons.mpr ⟨lw_p0, List.forall_mem_cons.mpr ⟨lw_p1, List.forall_mem_cons.mpr ⟨lw_p2, List.forall_mem_cons.mpr ⟨lw_p3, fun _ h => absurd h List.not_mem_nil⟩⟩⟩⟩
def lw_privs : List (MethodName × Nat) := lw_privs_1
def lw_tbl : List Cond := k2_sels lw_privs ++ tables_1
theorem lw_privs_ok : ∀ q ∈ lw_privs, lw_okq q := lw_r1
-- ===== ONE list of words for every method: the tables' words that hold all through a run =====
def lw_all : List Cond := lw_tbl.filter goodWord
/-- a word of the tables by its place: claim/WORDS.tsv -/
theorem lw_w {w : Cond} (i : Nat) (h : lw_tbl[i]? = some w) (g : goodWord w = true) : w ∈ lw_all := List.mem_filter.mpr ⟨List.mem_of_getElem? h, g⟩
theorem lw_all_tbl {w : Cond} (h : w ∈ lw_all) : w ∈ lw_tbl := (List.mem_filter.mp h).1
theorem lw_self : GoodIn lw_all lw_all := fun w h => ⟨h, good_of_word (List.mem_filter.mp h).2⟩
/-- a class's field words, by their places -/
theorem lw_in (ws : List Cond) (ps : List Nat) (hp : ws = ps.filterMap (fun i => lw_tbl[i]?)) (hg : ws.all goodWord = true) : ∀ w ∈ ws, w ∈ lw_all := by
  intro w h
  have h1 := List.all_eq_true.mp hg w h
  rw [hp] at h
  obtain ⟨i, -, hi⟩ := List.mem_filterMap.mp h
  exact lw_w i hi h1
/-- the words of a contract for the method y with code b, L locals, answer r -/
abbrev ws_ (y : MethodName) (b : ByteArray) (L : Nat) (r : Option FieldType) : List Cond := Cond.code y b L r :: lw_all
theorem lw_meth {y : MethodName} {b : ByteArray} {L : Nat} {r : Option FieldType} (h : Cond.code y b L r ∈ lw_all) : GoodIn lw_all (ws_ y b L r) := by
  intro w hw
  rcases List.mem_cons.mp hw with e | e
  · rw [e]
    exact lw_self _ h
  · exact lw_self _ e
theorem lw_app {a c : List Cond} (ha : ∀ w ∈ a, w ∈ lw_all) (hc : GoodIn lw_all c) : GoodIn lw_all (a ++ c) := by
  intro w hw
  rcases List.mem_append.mp hw with e | e
  · exact lw_self w (ha w e)
  · exact hc w e
/-- what a call through an object asks: cwV n hts (lw_V ..) -/
theorem lw_V {own : String} {idx : Nat} {C : String} {y : MethodName} {b : ByteArray} {L : Nat} {r : Option FieldType} (h1 : Cond.methodLink own idx y ∈ lw_all) (h2 : Cond.instanceMethod y ∈ lw_all) (h3 : Cond.selects C y y ∈ lw_all) (h4 : Cond.initialized C ∈ lw_all) (h5 : Cond.code y b L r ∈ lw_all) : GoodIn lw_all (wsV own idx C y (ws_ y b L r)) := by
  refine lw_app ?_ (lw_meth h5)
  intro w hw
  simp only [List.mem_cons, List.not_mem_nil, or_false] at hw
  rcases hw with e | e | e | e
  · rw [e]; exact h1
  · rw [e]; exact h2
  · rw [e]; exact h3
  · rw [e]; exact h4
/-- what a static call asks: va_cwS n hts (lw_S ..) -/
theorem lw_S {own : String} {idx : Nat} {y : MethodName} {b : ByteArray} {L : Nat} {r : Option FieldType} (h1 : Cond.methodLink own idx y ∈ lw_all) (h2 : Cond.static y ∈ lw_all) (h3 : Cond.initialized y.cls ∈ lw_all) (h4 : Cond.code y b L r ∈ lw_all) : GoodIn lw_all (va_wsS own idx y (ws_ y b L r)) := by
  refine lw_app ?_ (lw_meth h4)
  intro w hw
  simp only [List.mem_cons, List.not_mem_nil, or_false] at hw
  rcases hw with e | e | e
  · rw [e]; exact h1
  · rw [e]; exact h2
  · rw [e]; exact h3
/-- the words of a contract for a method WITH HANDLERS (hh: its table) -/
abbrev wsW_ (y : MethodName) (b : ByteArray) (L : Nat) (r : Option FieldType) (hh : List (Nat × Nat × Nat × Nat)) : List Cond := Cond.codeWith y b L r hh :: lw_all
theorem lw_methW {y : MethodName} {b : ByteArray} {L : Nat} {r : Option FieldType} {hh : List (Nat × Nat × Nat × Nat)} (h : Cond.codeWith y b L r hh ∈ lw_all) : GoodIn lw_all (wsW_ y b L r hh) := by
  intro w hw
  rcases List.mem_cons.mp hw with e | e
  · rw [e]
    exact lw_self _ h
  · exact lw_self _ e
/-- any list of words by their places (lw_in), good -/
theorem lw_good {ws : List Cond} (h : ∀ w ∈ ws, w ∈ lw_all) : GoodIn lw_all ws := fun w hw => lw_self w (h w hw)
/-- what a call of a method with handlers asks: vx_cwVW n hts (lw_VW ..), vx_cwSW n hts (lw_SW ..) -/
theorem lw_VW {own : String} {idx : Nat} {C : String} {y : MethodName} {b : ByteArray} {L : Nat} {r : Option FieldType} {hh : List (Nat × Nat × Nat × Nat)} (h1 : Cond.methodLink own idx y ∈ lw_all) (h2 : Cond.instanceMethod y ∈ lw_all) (h3 : Cond.selects C y y ∈ lw_all) (h4 : Cond.initialized C ∈ lw_all) (h5 : Cond.codeWith y b L r hh ∈ lw_all) : GoodIn lw_all (wsV own idx C y (wsW_ y b L r hh)) := by
  refine lw_app ?_ (lw_methW h5)
  intro w hw
  simp only [List.mem_cons, List.not_mem_nil, or_false] at hw
  rcases hw with e | e | e | e
  · rw [e]; exact h1
  · rw [e]; exact h2
  · rw [e]; exact h3
  · rw [e]; exact h4
theorem lw_SW {own : String} {idx : Nat} {y : MethodName} {b : ByteArray} {L : Nat} {r : Option FieldType} {hh : List (Nat × Nat × Nat × Nat)} (h1 : Cond.methodLink own idx y ∈ lw_all) (h2 : Cond.static y ∈ lw_all) (h3 : Cond.initialized y.cls ∈ lw_all) (h4 : Cond.codeWith y b L r hh ∈ lw_all) : GoodIn lw_all (va_wsS own idx y (wsW_ y b L r hh)) := by
  refine lw_app ?_ (lw_methW h4)
  intro w hw
  simp only [List.mem_cons, List.not_mem_nil, or_false] at hw
  rcases hw with e | e | e
  · rw [e]; exact h1
  · rw [e]; exact h2
  · rw [e]; exact h3
/-- a word by its place in its run of the tables -/
theorem lw_at {r : List Cond} (hr : ∀ w ∈ r, w ∈ lw_tbl) {w : Cond} (i : Nat) (h : r[i]? = some w) : w ∈ lw_tbl := hr w (List.mem_of_getElem? h)
theorem lw_g {w : Cond} (h : w ∈ lw_tbl) (g : goodWord w = true) : w ∈ lw_all := List.mem_filter.mpr ⟨h, g⟩
theorem lw_ms : ∀ w ∈ k2_sels lw_privs, w ∈ lw_tbl := fun w h => show w ∈ k2_sels lw_privs ++ tables_1 from List.mem_append_left _ h
theorem lw_m0 : ∀ w ∈ tables_1, w ∈ lw_tbl := fun w h => show w ∈ k2_sels lw_privs ++ tables_1 from List.mem_append_right (k2_sels lw_privs) h
theorem qs0 : (Cond.selects "ChooseDesk" ⟨"ChooseDesk", "reckon", "()V"⟩ ⟨"ChooseDesk", "reckon", "()V"⟩) ∈ lw_all := lw_g (lw_at lw_ms 0 rfl) rfl
theorem qs1 : (Cond.selects "ChooseDesk" ⟨"ChooseDesk", "chosen", "(II)I"⟩ ⟨"ChooseDesk", "chosen", "(II)I"⟩) ∈ lw_all := lw_g (lw_at lw_ms 1 rfl) rfl
theorem qs2 : (Cond.selects "ChooseDeskModel" ⟨"ChooseDeskModel", "rowOf", "(I)V"⟩ ⟨"ChooseDeskModel", "rowOf", "(I)V"⟩) ∈ lw_all := lw_g (lw_at lw_ms 2 rfl) rfl
theorem qs3 : (Cond.selects "ChooseDeskModel" ⟨"ChooseDeskModel", "power", "(I)I"⟩ ⟨"ChooseDeskModel", "power", "(I)I"⟩) ∈ lw_all := lw_g (lw_at lw_ms 3 rfl) rfl
end
section
/-! java/lang/Object -/
set_option maxRecDepth 100000
def RJ0 : String := "java/lang/Object"
abbrev cJ0_init : ByteArray := object_method_1_code
def yJ0_init : MethodName := ⟨RJ0, "<init>", "()V"⟩
theorem dJ0_init_0 : decode cJ0_init 0 = .ok (.return_, 1) := by decide +kernel
theorem q13 : (Jvm.Cond.instanceMethod ({ cls := "java/lang/Object", name := "<init>", desc := "()V" } : Jvm.MethodName)) ∈ lw_all := lw_g (lw_at lw_m0 9 rfl) rfl
theorem q14 : (Jvm.Cond.code ({ cls := "java/lang/Object", name := "<init>", desc := "()V" } : Jvm.MethodName) object_method_1_code (1 : Nat) (Option.none : Option Jvm.ClassFile.FieldType)) ∈ lw_all := lw_g (lw_at lw_m0 10 rfl) rfl
theorem q29 : (Jvm.Cond.arrayClass Jvm.ClassFile.FieldType.int) ∈ lw_all := lw_g (lw_at lw_m0 25 rfl) rfl
set_option maxRecDepth 100000
/-! ChooseDesk -/
set_option maxRecDepth 100000
def RX0 : String := "ChooseDesk"
def TX0 : u_T := fun k => match k with
  | 0 => ("ChooseDesk", "p", "I", false)
  | 1 => ("ChooseDesk", "product", "[I", true)
  | _ => ("ChooseDesk", "undone", "[I", true)
def tyX0 : Nat → FieldType := fun k => match k with
  | 0 => .int
  | 1 => .array .int
  | _ => .array .int
abbrev wsX00 : List Cond := u_ws RX0 TX0 3
theorem nmX0 : ∀ a, a < 3 → ∀ b, b < 3 → a ≠ b → (TX0 a).2.1 ≠ (TX0 b).2.1 := by decide +kernel
theorem tyX0_ok : ∀ k, k < 3 → parseFieldDescriptor (TX0 k).2.2.1 = some (tyX0 k) := by decide +kernel
abbrev cX0_init : ByteArray := prog_1_method_1_code
def yX0_init : MethodName := ⟨RX0, "<init>", "()V"⟩
theorem dX0_init_0 : decode cX0_init 0 = .ok (.aload_n 0, 1) := by decide +kernel
theorem dX0_init_1 : decode cX0_init 1 = .ok (.invokespecial 1, 3) := by decide +kernel
theorem dX0_init_4 : decode cX0_init 4 = .ok (.aload_n 0, 1) := by decide +kernel
theorem dX0_init_5 : decode cX0_init 5 = .ok (.iconst 2, 1) := by decide +kernel
theorem dX0_init_6 : decode cX0_init 6 = .ok (.putfield 7, 3) := by decide +kernel
theorem dX0_init_9 : decode cX0_init 9 = .ok (.aload_n 0, 1) := by decide +kernel
theorem dX0_init_10 : decode cX0_init 10 = .ok (.bipush 13, 2) := by decide +kernel
theorem dX0_init_12 : decode cX0_init 12 = .ok (.newarray .int, 2) := by decide +kernel
theorem dX0_init_14 : decode cX0_init 14 = .ok (.putfield 13, 3) := by decide +kernel
theorem dX0_init_17 : decode cX0_init 17 = .ok (.aload_n 0, 1) := by decide +kernel
theorem dX0_init_18 : decode cX0_init 18 = .ok (.bipush 13, 2) := by decide +kernel
theorem dX0_init_20 : decode cX0_init 20 = .ok (.newarray .int, 2) := by decide +kernel
theorem dX0_init_22 : decode cX0_init 22 = .ok (.putfield 17, 3) := by decide +kernel
theorem dX0_init_25 : decode cX0_init 25 = .ok (.aload_n 0, 1) := by decide +kernel
theorem dX0_init_26 : decode cX0_init 26 = .ok (.invokevirtual 20, 3) := by decide +kernel
theorem dX0_init_29 : decode cX0_init 29 = .ok (.return_, 1) := by decide +kernel
abbrev cX0_reckon : ByteArray := prog_1_method_2_code
def yX0_reckon : MethodName := ⟨RX0, "reckon", "()V"⟩
theorem dX0_reckon_0 : decode cX0_reckon 0 = .ok (.aload_n 0, 1) := by decide +kernel
theorem dX0_reckon_1 : decode cX0_reckon 1 = .ok (.getfield 13, 3) := by decide +kernel
theorem dX0_reckon_4 : decode cX0_reckon 4 = .ok (.iconst 0, 1) := by decide +kernel
theorem dX0_reckon_5 : decode cX0_reckon 5 = .ok (.iconst 1, 1) := by decide +kernel
theorem dX0_reckon_6 : decode cX0_reckon 6 = .ok (.iastore, 1) := by decide +kernel
theorem dX0_reckon_7 : decode cX0_reckon 7 = .ok (.iconst 1, 1) := by decide +kernel
theorem dX0_reckon_8 : decode cX0_reckon 8 = .ok (.istore_n 1, 1) := by decide +kernel
theorem dX0_reckon_9 : decode cX0_reckon 9 = .ok (.iload_n 1, 1) := by decide +kernel
theorem dX0_reckon_10 : decode cX0_reckon 10 = .ok (.aload_n 0, 1) := by decide +kernel
theorem dX0_reckon_11 : decode cX0_reckon 11 = .ok (.getfield 7, 3) := by decide +kernel
theorem dX0_reckon_14 : decode cX0_reckon 14 = .ok (.if_icmp .ge 30, 3) := by decide +kernel
theorem dX0_reckon_17 : decode cX0_reckon 17 = .ok (.aload_n 0, 1) := by decide +kernel
theorem dX0_reckon_18 : decode cX0_reckon 18 = .ok (.getfield 13, 3) := by decide +kernel
theorem dX0_reckon_21 : decode cX0_reckon 21 = .ok (.iload_n 1, 1) := by decide +kernel
theorem dX0_reckon_22 : decode cX0_reckon 22 = .ok (.aload_n 0, 1) := by decide +kernel
theorem dX0_reckon_23 : decode cX0_reckon 23 = .ok (.getfield 13, 3) := by decide +kernel
theorem dX0_reckon_26 : decode cX0_reckon 26 = .ok (.iload_n 1, 1) := by decide +kernel
theorem dX0_reckon_27 : decode cX0_reckon 27 = .ok (.iconst 1, 1) := by decide +kernel
theorem dX0_reckon_28 : decode cX0_reckon 28 = .ok (.isub, 1) := by decide +kernel
theorem dX0_reckon_29 : decode cX0_reckon 29 = .ok (.iaload, 1) := by decide +kernel
theorem dX0_reckon_30 : decode cX0_reckon 30 = .ok (.iload_n 1, 1) := by decide +kernel
theorem dX0_reckon_31 : decode cX0_reckon 31 = .ok (.imul, 1) := by decide +kernel
theorem dX0_reckon_32 : decode cX0_reckon 32 = .ok (.aload_n 0, 1) := by decide +kernel
theorem dX0_reckon_33 : decode cX0_reckon 33 = .ok (.getfield 7, 3) := by decide +kernel
theorem dX0_reckon_36 : decode cX0_reckon 36 = .ok (.irem, 1) := by decide +kernel
theorem dX0_reckon_37 : decode cX0_reckon 37 = .ok (.iastore, 1) := by decide +kernel
theorem dX0_reckon_38 : decode cX0_reckon 38 = .ok (.iinc 1 1, 3) := by decide +kernel
theorem dX0_reckon_41 : decode cX0_reckon 41 = .ok (.goto (-32), 3) := by decide +kernel
theorem dX0_reckon_44 : decode cX0_reckon 44 = .ok (.iconst 0, 1) := by decide +kernel
theorem dX0_reckon_45 : decode cX0_reckon 45 = .ok (.istore_n 1, 1) := by decide +kernel
theorem dX0_reckon_46 : decode cX0_reckon 46 = .ok (.iload_n 1, 1) := by decide +kernel
theorem dX0_reckon_47 : decode cX0_reckon 47 = .ok (.aload_n 0, 1) := by decide +kernel
theorem dX0_reckon_48 : decode cX0_reckon 48 = .ok (.getfield 7, 3) := by decide +kernel
theorem dX0_reckon_51 : decode cX0_reckon 51 = .ok (.if_icmp .ge 41, 3) := by decide +kernel
theorem dX0_reckon_54 : decode cX0_reckon 54 = .ok (.iconst 1, 1) := by decide +kernel
theorem dX0_reckon_55 : decode cX0_reckon 55 = .ok (.istore_n 2, 1) := by decide +kernel
theorem dX0_reckon_56 : decode cX0_reckon 56 = .ok (.iload_n 2, 1) := by decide +kernel
theorem dX0_reckon_57 : decode cX0_reckon 57 = .ok (.aload_n 0, 1) := by decide +kernel
theorem dX0_reckon_58 : decode cX0_reckon 58 = .ok (.getfield 13, 3) := by decide +kernel
theorem dX0_reckon_61 : decode cX0_reckon 61 = .ok (.iload_n 1, 1) := by decide +kernel
theorem dX0_reckon_62 : decode cX0_reckon 62 = .ok (.iaload, 1) := by decide +kernel
theorem dX0_reckon_63 : decode cX0_reckon 63 = .ok (.imul, 1) := by decide +kernel
theorem dX0_reckon_64 : decode cX0_reckon 64 = .ok (.aload_n 0, 1) := by decide +kernel
theorem dX0_reckon_65 : decode cX0_reckon 65 = .ok (.getfield 7, 3) := by decide +kernel
theorem dX0_reckon_68 : decode cX0_reckon 68 = .ok (.irem, 1) := by decide +kernel
theorem dX0_reckon_69 : decode cX0_reckon 69 = .ok (.iconst 1, 1) := by decide +kernel
theorem dX0_reckon_70 : decode cX0_reckon 70 = .ok (.if_icmp .eq 9, 3) := by decide +kernel
theorem dX0_reckon_73 : decode cX0_reckon 73 = .ok (.iinc 2 1, 3) := by decide +kernel
theorem dX0_reckon_76 : decode cX0_reckon 76 = .ok (.goto (-20), 3) := by decide +kernel
theorem dX0_reckon_79 : decode cX0_reckon 79 = .ok (.aload_n 0, 1) := by decide +kernel
theorem dX0_reckon_80 : decode cX0_reckon 80 = .ok (.getfield 17, 3) := by decide +kernel
theorem dX0_reckon_83 : decode cX0_reckon 83 = .ok (.iload_n 1, 1) := by decide +kernel
theorem dX0_reckon_84 : decode cX0_reckon 84 = .ok (.iload_n 2, 1) := by decide +kernel
theorem dX0_reckon_85 : decode cX0_reckon 85 = .ok (.iastore, 1) := by decide +kernel
theorem dX0_reckon_86 : decode cX0_reckon 86 = .ok (.iinc 1 1, 3) := by decide +kernel
theorem dX0_reckon_89 : decode cX0_reckon 89 = .ok (.goto (-43), 3) := by decide +kernel
theorem dX0_reckon_92 : decode cX0_reckon 92 = .ok (.return_, 1) := by decide +kernel
abbrev cX0_prime : ByteArray := prog_1_method_3_code
def yX0_prime : MethodName := ⟨RX0, "prime", "(I)V"⟩
theorem dX0_prime_0 : decode cX0_prime 0 = .ok (.aload_n 0, 1) := by decide +kernel
theorem dX0_prime_1 : decode cX0_prime 1 = .ok (.getstatic 23, 3) := by decide +kernel
theorem dX0_prime_4 : decode cX0_prime 4 = .ok (.iload_n 1, 1) := by decide +kernel
theorem dX0_prime_5 : decode cX0_prime 5 = .ok (.ldc 26, 2) := by decide +kernel
theorem dX0_prime_7 : decode cX0_prime 7 = .ok (.iand, 1) := by decide +kernel
theorem dX0_prime_8 : decode cX0_prime 8 = .ok (.bipush 6, 2) := by decide +kernel
theorem dX0_prime_10 : decode cX0_prime 10 = .ok (.irem, 1) := by decide +kernel
theorem dX0_prime_11 : decode cX0_prime 11 = .ok (.iaload, 1) := by decide +kernel
theorem dX0_prime_12 : decode cX0_prime 12 = .ok (.putfield 7, 3) := by decide +kernel
theorem dX0_prime_15 : decode cX0_prime 15 = .ok (.aload_n 0, 1) := by decide +kernel
theorem dX0_prime_16 : decode cX0_prime 16 = .ok (.invokevirtual 20, 3) := by decide +kernel
theorem dX0_prime_19 : decode cX0_prime 19 = .ok (.return_, 1) := by decide +kernel
abbrev cX0_choose : ByteArray := prog_1_method_5_code
def yX0_choose : MethodName := ⟨RX0, "choose", "(II)I"⟩
theorem dX0_choose_0 : decode cX0_choose 0 = .ok (.aload_n 0, 1) := by decide +kernel
theorem dX0_choose_1 : decode cX0_choose 1 = .ok (.iload_n 1, 1) := by decide +kernel
theorem dX0_choose_2 : decode cX0_choose 2 = .ok (.sipush 255, 3) := by decide +kernel
theorem dX0_choose_5 : decode cX0_choose 5 = .ok (.iand, 1) := by decide +kernel
theorem dX0_choose_6 : decode cX0_choose 6 = .ok (.iload_n 2, 1) := by decide +kernel
theorem dX0_choose_7 : decode cX0_choose 7 = .ok (.sipush 255, 3) := by decide +kernel
theorem dX0_choose_10 : decode cX0_choose 10 = .ok (.iand, 1) := by decide +kernel
theorem dX0_choose_11 : decode cX0_choose 11 = .ok (.invokevirtual 27, 3) := by decide +kernel
theorem dX0_choose_14 : decode cX0_choose 14 = .ok (.ireturn, 1) := by decide +kernel
abbrev cX0_chosen : ByteArray := prog_1_method_4_code
def yX0_chosen : MethodName := ⟨RX0, "chosen", "(II)I"⟩
theorem dX0_chosen_0 : decode cX0_chosen 0 = .ok (.iload_n 1, 1) := by decide +kernel
theorem dX0_chosen_1 : decode cX0_chosen 1 = .ok (.istore_n 3, 1) := by decide +kernel
theorem dX0_chosen_2 : decode cX0_chosen 2 = .ok (.iload_n 2, 1) := by decide +kernel
theorem dX0_chosen_3 : decode cX0_chosen 3 = .ok (.istore 4, 2) := by decide +kernel
theorem dX0_chosen_5 : decode cX0_chosen 5 = .ok (.iconst 1, 1) := by decide +kernel
theorem dX0_chosen_6 : decode cX0_chosen 6 = .ok (.istore 5, 2) := by decide +kernel
theorem dX0_chosen_8 : decode cX0_chosen 8 = .ok (.iload 4, 2) := by decide +kernel
theorem dX0_chosen_10 : decode cX0_chosen 10 = .ok (.ifCond .le 84, 3) := by decide +kernel
theorem dX0_chosen_13 : decode cX0_chosen 13 = .ok (.iload_n 3, 1) := by decide +kernel
theorem dX0_chosen_14 : decode cX0_chosen 14 = .ok (.aload_n 0, 1) := by decide +kernel
theorem dX0_chosen_15 : decode cX0_chosen 15 = .ok (.getfield 7, 3) := by decide +kernel
theorem dX0_chosen_18 : decode cX0_chosen 18 = .ok (.irem, 1) := by decide +kernel
theorem dX0_chosen_19 : decode cX0_chosen 19 = .ok (.istore 6, 2) := by decide +kernel
theorem dX0_chosen_21 : decode cX0_chosen 21 = .ok (.iload 4, 2) := by decide +kernel
theorem dX0_chosen_23 : decode cX0_chosen 23 = .ok (.aload_n 0, 1) := by decide +kernel
theorem dX0_chosen_24 : decode cX0_chosen 24 = .ok (.getfield 7, 3) := by decide +kernel
theorem dX0_chosen_27 : decode cX0_chosen 27 = .ok (.irem, 1) := by decide +kernel
theorem dX0_chosen_28 : decode cX0_chosen 28 = .ok (.istore 7, 2) := by decide +kernel
theorem dX0_chosen_30 : decode cX0_chosen 30 = .ok (.iload 7, 2) := by decide +kernel
theorem dX0_chosen_32 : decode cX0_chosen 32 = .ok (.iload 6, 2) := by decide +kernel
theorem dX0_chosen_34 : decode cX0_chosen 34 = .ok (.if_icmp .le 5, 3) := by decide +kernel
theorem dX0_chosen_37 : decode cX0_chosen 37 = .ok (.iconst 0, 1) := by decide +kernel
theorem dX0_chosen_38 : decode cX0_chosen 38 = .ok (.ireturn, 1) := by decide +kernel
theorem dX0_chosen_39 : decode cX0_chosen 39 = .ok (.iload 5, 2) := by decide +kernel
theorem dX0_chosen_41 : decode cX0_chosen 41 = .ok (.aload_n 0, 1) := by decide +kernel
theorem dX0_chosen_42 : decode cX0_chosen 42 = .ok (.getfield 13, 3) := by decide +kernel
theorem dX0_chosen_45 : decode cX0_chosen 45 = .ok (.iload 6, 2) := by decide +kernel
theorem dX0_chosen_47 : decode cX0_chosen 47 = .ok (.iaload, 1) := by decide +kernel
theorem dX0_chosen_48 : decode cX0_chosen 48 = .ok (.imul, 1) := by decide +kernel
theorem dX0_chosen_49 : decode cX0_chosen 49 = .ok (.aload_n 0, 1) := by decide +kernel
theorem dX0_chosen_50 : decode cX0_chosen 50 = .ok (.getfield 17, 3) := by decide +kernel
theorem dX0_chosen_53 : decode cX0_chosen 53 = .ok (.iload 7, 2) := by decide +kernel
theorem dX0_chosen_55 : decode cX0_chosen 55 = .ok (.iaload, 1) := by decide +kernel
theorem dX0_chosen_56 : decode cX0_chosen 56 = .ok (.imul, 1) := by decide +kernel
theorem dX0_chosen_57 : decode cX0_chosen 57 = .ok (.aload_n 0, 1) := by decide +kernel
theorem dX0_chosen_58 : decode cX0_chosen 58 = .ok (.getfield 17, 3) := by decide +kernel
theorem dX0_chosen_61 : decode cX0_chosen 61 = .ok (.iload 6, 2) := by decide +kernel
theorem dX0_chosen_63 : decode cX0_chosen 63 = .ok (.iload 7, 2) := by decide +kernel
theorem dX0_chosen_65 : decode cX0_chosen 65 = .ok (.isub, 1) := by decide +kernel
theorem dX0_chosen_66 : decode cX0_chosen 66 = .ok (.iaload, 1) := by decide +kernel
theorem dX0_chosen_67 : decode cX0_chosen 67 = .ok (.imul, 1) := by decide +kernel
theorem dX0_chosen_68 : decode cX0_chosen 68 = .ok (.aload_n 0, 1) := by decide +kernel
theorem dX0_chosen_69 : decode cX0_chosen 69 = .ok (.getfield 7, 3) := by decide +kernel
theorem dX0_chosen_72 : decode cX0_chosen 72 = .ok (.irem, 1) := by decide +kernel
theorem dX0_chosen_73 : decode cX0_chosen 73 = .ok (.istore 5, 2) := by decide +kernel
theorem dX0_chosen_75 : decode cX0_chosen 75 = .ok (.iload_n 3, 1) := by decide +kernel
theorem dX0_chosen_76 : decode cX0_chosen 76 = .ok (.aload_n 0, 1) := by decide +kernel
theorem dX0_chosen_77 : decode cX0_chosen 77 = .ok (.getfield 7, 3) := by decide +kernel
theorem dX0_chosen_80 : decode cX0_chosen 80 = .ok (.idiv, 1) := by decide +kernel
theorem dX0_chosen_81 : decode cX0_chosen 81 = .ok (.istore_n 3, 1) := by decide +kernel
theorem dX0_chosen_82 : decode cX0_chosen 82 = .ok (.iload 4, 2) := by decide +kernel
theorem dX0_chosen_84 : decode cX0_chosen 84 = .ok (.aload_n 0, 1) := by decide +kernel
theorem dX0_chosen_85 : decode cX0_chosen 85 = .ok (.getfield 7, 3) := by decide +kernel
theorem dX0_chosen_88 : decode cX0_chosen 88 = .ok (.idiv, 1) := by decide +kernel
theorem dX0_chosen_89 : decode cX0_chosen 89 = .ok (.istore 4, 2) := by decide +kernel
theorem dX0_chosen_91 : decode cX0_chosen 91 = .ok (.goto (-83), 3) := by decide +kernel
theorem dX0_chosen_94 : decode cX0_chosen 94 = .ok (.iload 5, 2) := by decide +kernel
theorem dX0_chosen_96 : decode cX0_chosen 96 = .ok (.ireturn, 1) := by decide +kernel
abbrev cX0_left : ByteArray := prog_1_method_6_code
def yX0_left : MethodName := ⟨RX0, "left", "(I)I"⟩
theorem dX0_left_0 : decode cX0_left 0 = .ok (.iconst 1, 1) := by decide +kernel
theorem dX0_left_1 : decode cX0_left 1 = .ok (.istore_n 2, 1) := by decide +kernel
theorem dX0_left_2 : decode cX0_left 2 = .ok (.iload_n 1, 1) := by decide +kernel
theorem dX0_left_3 : decode cX0_left 3 = .ok (.sipush 255, 3) := by decide +kernel
theorem dX0_left_6 : decode cX0_left 6 = .ok (.iand, 1) := by decide +kernel
theorem dX0_left_7 : decode cX0_left 7 = .ok (.istore_n 3, 1) := by decide +kernel
theorem dX0_left_8 : decode cX0_left 8 = .ok (.iload_n 3, 1) := by decide +kernel
theorem dX0_left_9 : decode cX0_left 9 = .ok (.ifCond .le 24, 3) := by decide +kernel
theorem dX0_left_12 : decode cX0_left 12 = .ok (.iload_n 2, 1) := by decide +kernel
theorem dX0_left_13 : decode cX0_left 13 = .ok (.iload_n 3, 1) := by decide +kernel
theorem dX0_left_14 : decode cX0_left 14 = .ok (.aload_n 0, 1) := by decide +kernel
theorem dX0_left_15 : decode cX0_left 15 = .ok (.getfield 7, 3) := by decide +kernel
theorem dX0_left_18 : decode cX0_left 18 = .ok (.irem, 1) := by decide +kernel
theorem dX0_left_19 : decode cX0_left 19 = .ok (.iconst 1, 1) := by decide +kernel
theorem dX0_left_20 : decode cX0_left 20 = .ok (.iadd, 1) := by decide +kernel
theorem dX0_left_21 : decode cX0_left 21 = .ok (.imul, 1) := by decide +kernel
theorem dX0_left_22 : decode cX0_left 22 = .ok (.istore_n 2, 1) := by decide +kernel
theorem dX0_left_23 : decode cX0_left 23 = .ok (.iload_n 3, 1) := by decide +kernel
theorem dX0_left_24 : decode cX0_left 24 = .ok (.aload_n 0, 1) := by decide +kernel
theorem dX0_left_25 : decode cX0_left 25 = .ok (.getfield 7, 3) := by decide +kernel
theorem dX0_left_28 : decode cX0_left 28 = .ok (.idiv, 1) := by decide +kernel
theorem dX0_left_29 : decode cX0_left 29 = .ok (.istore_n 3, 1) := by decide +kernel
theorem dX0_left_30 : decode cX0_left 30 = .ok (.goto (-22), 3) := by decide +kernel
theorem dX0_left_33 : decode cX0_left 33 = .ok (.iload_n 2, 1) := by decide +kernel
theorem dX0_left_34 : decode cX0_left 34 = .ok (.ireturn, 1) := by decide +kernel
abbrev cX0_often : ByteArray := prog_1_method_7_code
def yX0_often : MethodName := ⟨RX0, "often", "(II)I"⟩
theorem dX0_often_0 : decode cX0_often 0 = .ok (.iload_n 2, 1) := by decide +kernel
theorem dX0_often_1 : decode cX0_often 1 = .ok (.sipush 255, 3) := by decide +kernel
theorem dX0_often_4 : decode cX0_often 4 = .ok (.iand, 1) := by decide +kernel
theorem dX0_often_5 : decode cX0_often 5 = .ok (.istore_n 3, 1) := by decide +kernel
theorem dX0_often_6 : decode cX0_often 6 = .ok (.iload_n 1, 1) := by decide +kernel
theorem dX0_often_7 : decode cX0_often 7 = .ok (.sipush 255, 3) := by decide +kernel
theorem dX0_often_10 : decode cX0_often 10 = .ok (.iand, 1) := by decide +kernel
theorem dX0_often_11 : decode cX0_often 11 = .ok (.iload_n 3, 1) := by decide +kernel
theorem dX0_often_12 : decode cX0_often 12 = .ok (.isub, 1) := by decide +kernel
theorem dX0_often_13 : decode cX0_often 13 = .ok (.istore 4, 2) := by decide +kernel
theorem dX0_often_15 : decode cX0_often 15 = .ok (.iload 4, 2) := by decide +kernel
theorem dX0_often_17 : decode cX0_often 17 = .ok (.ifCond .ge 5, 3) := by decide +kernel
theorem dX0_often_20 : decode cX0_often 20 = .ok (.iconst (-1), 1) := by decide +kernel
theorem dX0_often_21 : decode cX0_often 21 = .ok (.ireturn, 1) := by decide +kernel
theorem dX0_often_22 : decode cX0_often 22 = .ok (.iconst 0, 1) := by decide +kernel
theorem dX0_often_23 : decode cX0_often 23 = .ok (.istore 5, 2) := by decide +kernel
theorem dX0_often_25 : decode cX0_often 25 = .ok (.iconst 0, 1) := by decide +kernel
theorem dX0_often_26 : decode cX0_often 26 = .ok (.istore 6, 2) := by decide +kernel
theorem dX0_often_28 : decode cX0_often 28 = .ok (.iload_n 3, 1) := by decide +kernel
theorem dX0_often_29 : decode cX0_often 29 = .ok (.iload 4, 2) := by decide +kernel
theorem dX0_often_31 : decode cX0_often 31 = .ok (.iadd, 1) := by decide +kernel
theorem dX0_often_32 : decode cX0_often 32 = .ok (.iload 6, 2) := by decide +kernel
theorem dX0_often_34 : decode cX0_often 34 = .ok (.iadd, 1) := by decide +kernel
theorem dX0_often_35 : decode cX0_often 35 = .ok (.ifCond .le 60, 3) := by decide +kernel
theorem dX0_often_38 : decode cX0_often 38 = .ok (.iload_n 3, 1) := by decide +kernel
theorem dX0_often_39 : decode cX0_often 39 = .ok (.aload_n 0, 1) := by decide +kernel
theorem dX0_often_40 : decode cX0_often 40 = .ok (.getfield 7, 3) := by decide +kernel
theorem dX0_often_43 : decode cX0_often 43 = .ok (.irem, 1) := by decide +kernel
theorem dX0_often_44 : decode cX0_often 44 = .ok (.iload 4, 2) := by decide +kernel
theorem dX0_often_46 : decode cX0_often 46 = .ok (.aload_n 0, 1) := by decide +kernel
theorem dX0_often_47 : decode cX0_often 47 = .ok (.getfield 7, 3) := by decide +kernel
theorem dX0_often_50 : decode cX0_often 50 = .ok (.irem, 1) := by decide +kernel
theorem dX0_often_51 : decode cX0_often 51 = .ok (.iadd, 1) := by decide +kernel
theorem dX0_often_52 : decode cX0_often 52 = .ok (.iload 6, 2) := by decide +kernel
theorem dX0_often_54 : decode cX0_often 54 = .ok (.iadd, 1) := by decide +kernel
theorem dX0_often_55 : decode cX0_often 55 = .ok (.aload_n 0, 1) := by decide +kernel
theorem dX0_often_56 : decode cX0_often 56 = .ok (.getfield 7, 3) := by decide +kernel
theorem dX0_often_59 : decode cX0_often 59 = .ok (.if_icmp .lt 7, 3) := by decide +kernel
theorem dX0_often_62 : decode cX0_often 62 = .ok (.iconst 1, 1) := by decide +kernel
theorem dX0_often_63 : decode cX0_often 63 = .ok (.goto 4, 3) := by decide +kernel
theorem dX0_often_66 : decode cX0_often 66 = .ok (.iconst 0, 1) := by decide +kernel
theorem dX0_often_67 : decode cX0_often 67 = .ok (.istore 6, 2) := by decide +kernel
theorem dX0_often_69 : decode cX0_often 69 = .ok (.iload 5, 2) := by decide +kernel
theorem dX0_often_71 : decode cX0_often 71 = .ok (.iload 6, 2) := by decide +kernel
theorem dX0_often_73 : decode cX0_often 73 = .ok (.iadd, 1) := by decide +kernel
theorem dX0_often_74 : decode cX0_often 74 = .ok (.istore 5, 2) := by decide +kernel
theorem dX0_often_76 : decode cX0_often 76 = .ok (.iload_n 3, 1) := by decide +kernel
theorem dX0_often_77 : decode cX0_often 77 = .ok (.aload_n 0, 1) := by decide +kernel
theorem dX0_often_78 : decode cX0_often 78 = .ok (.getfield 7, 3) := by decide +kernel
theorem dX0_often_81 : decode cX0_often 81 = .ok (.idiv, 1) := by decide +kernel
theorem dX0_often_82 : decode cX0_often 82 = .ok (.istore_n 3, 1) := by decide +kernel
theorem dX0_often_83 : decode cX0_often 83 = .ok (.iload 4, 2) := by decide +kernel
theorem dX0_often_85 : decode cX0_often 85 = .ok (.aload_n 0, 1) := by decide +kernel
theorem dX0_often_86 : decode cX0_often 86 = .ok (.getfield 7, 3) := by decide +kernel
theorem dX0_often_89 : decode cX0_often 89 = .ok (.idiv, 1) := by decide +kernel
theorem dX0_often_90 : decode cX0_often 90 = .ok (.istore 4, 2) := by decide +kernel
theorem dX0_often_92 : decode cX0_often 92 = .ok (.goto (-64), 3) := by decide +kernel
theorem dX0_often_95 : decode cX0_often 95 = .ok (.iload 5, 2) := by decide +kernel
theorem dX0_often_97 : decode cX0_often 97 = .ok (.ireturn, 1) := by decide +kernel
abbrev cX0_product : ByteArray := prog_1_method_8_code
def yX0_product : MethodName := ⟨RX0, "product", "(I)I"⟩
theorem dX0_product_0 : decode cX0_product 0 = .ok (.iconst 0, 1) := by decide +kernel
theorem dX0_product_1 : decode cX0_product 1 = .ok (.istore_n 2, 1) := by decide +kernel
theorem dX0_product_2 : decode cX0_product 2 = .ok (.iload_n 1, 1) := by decide +kernel
theorem dX0_product_3 : decode cX0_product 3 = .ok (.sipush 255, 3) := by decide +kernel
theorem dX0_product_6 : decode cX0_product 6 = .ok (.iand, 1) := by decide +kernel
theorem dX0_product_7 : decode cX0_product 7 = .ok (.aload_n 0, 1) := by decide +kernel
theorem dX0_product_8 : decode cX0_product 8 = .ok (.getfield 7, 3) := by decide +kernel
theorem dX0_product_11 : decode cX0_product 11 = .ok (.idiv, 1) := by decide +kernel
theorem dX0_product_12 : decode cX0_product 12 = .ok (.istore_n 3, 1) := by decide +kernel
theorem dX0_product_13 : decode cX0_product 13 = .ok (.iload_n 3, 1) := by decide +kernel
theorem dX0_product_14 : decode cX0_product 14 = .ok (.ifCond .le 17, 3) := by decide +kernel
theorem dX0_product_17 : decode cX0_product 17 = .ok (.iload_n 2, 1) := by decide +kernel
theorem dX0_product_18 : decode cX0_product 18 = .ok (.iload_n 3, 1) := by decide +kernel
theorem dX0_product_19 : decode cX0_product 19 = .ok (.iadd, 1) := by decide +kernel
theorem dX0_product_20 : decode cX0_product 20 = .ok (.istore_n 2, 1) := by decide +kernel
theorem dX0_product_21 : decode cX0_product 21 = .ok (.iload_n 3, 1) := by decide +kernel
theorem dX0_product_22 : decode cX0_product 22 = .ok (.aload_n 0, 1) := by decide +kernel
theorem dX0_product_23 : decode cX0_product 23 = .ok (.getfield 7, 3) := by decide +kernel
theorem dX0_product_26 : decode cX0_product 26 = .ok (.idiv, 1) := by decide +kernel
theorem dX0_product_27 : decode cX0_product 27 = .ok (.istore_n 3, 1) := by decide +kernel
theorem dX0_product_28 : decode cX0_product 28 = .ok (.goto (-15), 3) := by decide +kernel
theorem dX0_product_31 : decode cX0_product 31 = .ok (.iload_n 2, 1) := by decide +kernel
theorem dX0_product_32 : decode cX0_product 32 = .ok (.ireturn, 1) := by decide +kernel
abbrev cX0_last : ByteArray := prog_1_method_9_code
def yX0_last : MethodName := ⟨RX0, "last", "(I)I"⟩
theorem dX0_last_0 : decode cX0_last 0 = .ok (.iconst 1, 1) := by decide +kernel
theorem dX0_last_1 : decode cX0_last 1 = .ok (.istore_n 2, 1) := by decide +kernel
theorem dX0_last_2 : decode cX0_last 2 = .ok (.iconst 0, 1) := by decide +kernel
theorem dX0_last_3 : decode cX0_last 3 = .ok (.istore_n 3, 1) := by decide +kernel
theorem dX0_last_4 : decode cX0_last 4 = .ok (.iload_n 1, 1) := by decide +kernel
theorem dX0_last_5 : decode cX0_last 5 = .ok (.sipush 255, 3) := by decide +kernel
theorem dX0_last_8 : decode cX0_last 8 = .ok (.iand, 1) := by decide +kernel
theorem dX0_last_9 : decode cX0_last 9 = .ok (.istore 4, 2) := by decide +kernel
theorem dX0_last_11 : decode cX0_last 11 = .ok (.iload 4, 2) := by decide +kernel
theorem dX0_last_13 : decode cX0_last 13 = .ok (.ifCond .le 56, 3) := by decide +kernel
theorem dX0_last_16 : decode cX0_last 16 = .ok (.iload_n 2, 1) := by decide +kernel
theorem dX0_last_17 : decode cX0_last 17 = .ok (.aload_n 0, 1) := by decide +kernel
theorem dX0_last_18 : decode cX0_last 18 = .ok (.getfield 13, 3) := by decide +kernel
theorem dX0_last_21 : decode cX0_last 21 = .ok (.iload 4, 2) := by decide +kernel
theorem dX0_last_23 : decode cX0_last 23 = .ok (.aload_n 0, 1) := by decide +kernel
theorem dX0_last_24 : decode cX0_last 24 = .ok (.getfield 7, 3) := by decide +kernel
theorem dX0_last_27 : decode cX0_last 27 = .ok (.irem, 1) := by decide +kernel
theorem dX0_last_28 : decode cX0_last 28 = .ok (.iaload, 1) := by decide +kernel
theorem dX0_last_29 : decode cX0_last 29 = .ok (.imul, 1) := by decide +kernel
theorem dX0_last_30 : decode cX0_last 30 = .ok (.aload_n 0, 1) := by decide +kernel
theorem dX0_last_31 : decode cX0_last 31 = .ok (.getfield 7, 3) := by decide +kernel
theorem dX0_last_34 : decode cX0_last 34 = .ok (.irem, 1) := by decide +kernel
theorem dX0_last_35 : decode cX0_last 35 = .ok (.istore_n 2, 1) := by decide +kernel
theorem dX0_last_36 : decode cX0_last 36 = .ok (.iload_n 3, 1) := by decide +kernel
theorem dX0_last_37 : decode cX0_last 37 = .ok (.iload 4, 2) := by decide +kernel
theorem dX0_last_39 : decode cX0_last 39 = .ok (.aload_n 0, 1) := by decide +kernel
theorem dX0_last_40 : decode cX0_last 40 = .ok (.getfield 7, 3) := by decide +kernel
theorem dX0_last_43 : decode cX0_last 43 = .ok (.idiv, 1) := by decide +kernel
theorem dX0_last_44 : decode cX0_last 44 = .ok (.iconst 1, 1) := by decide +kernel
theorem dX0_last_45 : decode cX0_last 45 = .ok (.iand, 1) := by decide +kernel
theorem dX0_last_46 : decode cX0_last 46 = .ok (.iconst 1, 1) := by decide +kernel
theorem dX0_last_47 : decode cX0_last 47 = .ok (.if_icmp .ne 7, 3) := by decide +kernel
theorem dX0_last_50 : decode cX0_last 50 = .ok (.iconst 1, 1) := by decide +kernel
theorem dX0_last_51 : decode cX0_last 51 = .ok (.goto 4, 3) := by decide +kernel
theorem dX0_last_54 : decode cX0_last 54 = .ok (.iconst 0, 1) := by decide +kernel
theorem dX0_last_55 : decode cX0_last 55 = .ok (.ixor, 1) := by decide +kernel
theorem dX0_last_56 : decode cX0_last 56 = .ok (.istore_n 3, 1) := by decide +kernel
theorem dX0_last_57 : decode cX0_last 57 = .ok (.iload 4, 2) := by decide +kernel
theorem dX0_last_59 : decode cX0_last 59 = .ok (.aload_n 0, 1) := by decide +kernel
theorem dX0_last_60 : decode cX0_last 60 = .ok (.getfield 7, 3) := by decide +kernel
theorem dX0_last_63 : decode cX0_last 63 = .ok (.idiv, 1) := by decide +kernel
theorem dX0_last_64 : decode cX0_last 64 = .ok (.istore 4, 2) := by decide +kernel
theorem dX0_last_66 : decode cX0_last 66 = .ok (.goto (-55), 3) := by decide +kernel
theorem dX0_last_69 : decode cX0_last 69 = .ok (.iload_n 3, 1) := by decide +kernel
theorem dX0_last_70 : decode cX0_last 70 = .ok (.ifCond .eq 19, 3) := by decide +kernel
theorem dX0_last_73 : decode cX0_last 73 = .ok (.iload_n 2, 1) := by decide +kernel
theorem dX0_last_74 : decode cX0_last 74 = .ok (.aload_n 0, 1) := by decide +kernel
theorem dX0_last_75 : decode cX0_last 75 = .ok (.getfield 7, 3) := by decide +kernel
theorem dX0_last_78 : decode cX0_last 78 = .ok (.iconst 1, 1) := by decide +kernel
theorem dX0_last_79 : decode cX0_last 79 = .ok (.isub, 1) := by decide +kernel
theorem dX0_last_80 : decode cX0_last 80 = .ok (.imul, 1) := by decide +kernel
theorem dX0_last_81 : decode cX0_last 81 = .ok (.aload_n 0, 1) := by decide +kernel
theorem dX0_last_82 : decode cX0_last 82 = .ok (.getfield 7, 3) := by decide +kernel
theorem dX0_last_85 : decode cX0_last 85 = .ok (.irem, 1) := by decide +kernel
theorem dX0_last_86 : decode cX0_last 86 = .ok (.goto 4, 3) := by decide +kernel
theorem dX0_last_89 : decode cX0_last 89 = .ok (.iload_n 2, 1) := by decide +kernel
theorem dX0_last_90 : decode cX0_last 90 = .ok (.ireturn, 1) := by decide +kernel
abbrev cX0_many : ByteArray := prog_1_method_10_code
def yX0_many : MethodName := ⟨RX0, "many", "(III)I"⟩
theorem dX0_many_0 : decode cX0_many 0 = .ok (.iload_n 1, 1) := by decide +kernel
theorem dX0_many_1 : decode cX0_many 1 = .ok (.bipush 63, 2) := by decide +kernel
theorem dX0_many_3 : decode cX0_many 3 = .ok (.iand, 1) := by decide +kernel
theorem dX0_many_4 : decode cX0_many 4 = .ok (.istore 4, 2) := by decide +kernel
theorem dX0_many_6 : decode cX0_many 6 = .ok (.iload_n 2, 1) := by decide +kernel
theorem dX0_many_7 : decode cX0_many 7 = .ok (.bipush 63, 2) := by decide +kernel
theorem dX0_many_9 : decode cX0_many 9 = .ok (.iand, 1) := by decide +kernel
theorem dX0_many_10 : decode cX0_many 10 = .ok (.istore 5, 2) := by decide +kernel
theorem dX0_many_12 : decode cX0_many 12 = .ok (.iload_n 3, 1) := by decide +kernel
theorem dX0_many_13 : decode cX0_many 13 = .ok (.bipush 63, 2) := by decide +kernel
theorem dX0_many_15 : decode cX0_many 15 = .ok (.iand, 1) := by decide +kernel
theorem dX0_many_16 : decode cX0_many 16 = .ok (.istore 6, 2) := by decide +kernel
theorem dX0_many_18 : decode cX0_many 18 = .ok (.iload 5, 2) := by decide +kernel
theorem dX0_many_20 : decode cX0_many 20 = .ok (.iload 6, 2) := by decide +kernel
theorem dX0_many_22 : decode cX0_many 22 = .ok (.iadd, 1) := by decide +kernel
theorem dX0_many_23 : decode cX0_many 23 = .ok (.iload 4, 2) := by decide +kernel
theorem dX0_many_25 : decode cX0_many 25 = .ok (.if_icmp .le 5, 3) := by decide +kernel
theorem dX0_many_28 : decode cX0_many 28 = .ok (.iconst 0, 1) := by decide +kernel
theorem dX0_many_29 : decode cX0_many 29 = .ok (.ireturn, 1) := by decide +kernel
theorem dX0_many_30 : decode cX0_many 30 = .ok (.aload_n 0, 1) := by decide +kernel
theorem dX0_many_31 : decode cX0_many 31 = .ok (.iload 4, 2) := by decide +kernel
theorem dX0_many_33 : decode cX0_many 33 = .ok (.iload 5, 2) := by decide +kernel
theorem dX0_many_35 : decode cX0_many 35 = .ok (.invokevirtual 27, 3) := by decide +kernel
theorem dX0_many_38 : decode cX0_many 38 = .ok (.aload_n 0, 1) := by decide +kernel
theorem dX0_many_39 : decode cX0_many 39 = .ok (.iload 4, 2) := by decide +kernel
theorem dX0_many_41 : decode cX0_many 41 = .ok (.iload 5, 2) := by decide +kernel
theorem dX0_many_43 : decode cX0_many 43 = .ok (.isub, 1) := by decide +kernel
theorem dX0_many_44 : decode cX0_many 44 = .ok (.iload 6, 2) := by decide +kernel
theorem dX0_many_46 : decode cX0_many 46 = .ok (.invokevirtual 27, 3) := by decide +kernel
theorem dX0_many_49 : decode cX0_many 49 = .ok (.imul, 1) := by decide +kernel
theorem dX0_many_50 : decode cX0_many 50 = .ok (.aload_n 0, 1) := by decide +kernel
theorem dX0_many_51 : decode cX0_many 51 = .ok (.getfield 7, 3) := by decide +kernel
theorem dX0_many_54 : decode cX0_many 54 = .ok (.irem, 1) := by decide +kernel
theorem dX0_many_55 : decode cX0_many 55 = .ok (.ireturn, 1) := by decide +kernel
theorem q5 : (Jvm.Cond.initialized "ChooseDesk") ∈ lw_all := lw_g (lw_at lw_m0 1 rfl) rfl
theorem q8 : (Jvm.Cond.instantiable "ChooseDesk" (3 : Nat)) ∈ lw_all := lw_g (lw_at lw_m0 4 rfl) rfl
theorem q10 : (Jvm.Cond.instanceMethod ({ cls := "ChooseDesk", name := "<init>", desc := "()V" } : Jvm.MethodName)) ∈ lw_all := lw_g (lw_at lw_m0 6 rfl) rfl
theorem q11 : (Jvm.Cond.code ({ cls := "ChooseDesk", name := "<init>", desc := "()V" } : Jvm.MethodName) prog_1_method_1_code (1 : Nat) (Option.none : Option Jvm.ClassFile.FieldType)) ∈ lw_all := lw_g (lw_at lw_m0 7 rfl) rfl
theorem q12 : (Jvm.Cond.methodLink "ChooseDesk" (1 : Nat) ({ cls := "java/lang/Object", name := "<init>", desc := "()V" } : Jvm.MethodName)) ∈ lw_all := lw_g (lw_at lw_m0 8 rfl) rfl
theorem q15 : (Jvm.Cond.methodLink "ChooseDesk" (20 : Nat) ({ cls := "ChooseDesk", name := "reckon", desc := "()V" } : Jvm.MethodName)) ∈ lw_all := lw_g (lw_at lw_m0 11 rfl) rfl
theorem q16 : (Jvm.Cond.privateMethod ({ cls := "ChooseDesk", name := "reckon", desc := "()V" } : Jvm.MethodName)) ∈ lw_tbl := lw_at lw_m0 12 rfl
theorem q17 : (Jvm.Cond.instanceMethod ({ cls := "ChooseDesk", name := "reckon", desc := "()V" } : Jvm.MethodName)) ∈ lw_all := lw_g (lw_at lw_m0 13 rfl) rfl
theorem q18 : (Jvm.Cond.code ({ cls := "ChooseDesk", name := "reckon", desc := "()V" } : Jvm.MethodName) prog_1_method_2_code (3 : Nat) (Option.none : Option Jvm.ClassFile.FieldType)) ∈ lw_all := lw_g (lw_at lw_m0 14 rfl) rfl
theorem q19 : (Jvm.Cond.fieldLink "ChooseDesk" (7 : Nat) "ChooseDesk" "p" "I") ∈ lw_all := lw_g (lw_at lw_m0 15 rfl) rfl
theorem q20 : (Jvm.Cond.fieldLink "ChooseDesk" (13 : Nat) "ChooseDesk" "product" "[I") ∈ lw_all := lw_g (lw_at lw_m0 16 rfl) rfl
theorem q21 : (Jvm.Cond.fieldLink "ChooseDesk" (17 : Nat) "ChooseDesk" "undone" "[I") ∈ lw_all := lw_g (lw_at lw_m0 17 rfl) rfl
theorem q22 : (Jvm.Cond.lays "ChooseDesk" "ChooseDesk" "p" "I") ∈ lw_all := lw_g (lw_at lw_m0 18 rfl) rfl
theorem q23 : (Jvm.Cond.soleField "ChooseDesk" "p") ∈ lw_all := lw_g (lw_at lw_m0 19 rfl) rfl
theorem q24 : (Jvm.Cond.laysFinal "ChooseDesk" "ChooseDesk" "product" "[I") ∈ lw_all := lw_g (lw_at lw_m0 20 rfl) rfl
theorem q25 : (Jvm.Cond.soleField "ChooseDesk" "product") ∈ lw_all := lw_g (lw_at lw_m0 21 rfl) rfl
theorem q26 : (Jvm.Cond.laysFinal "ChooseDesk" "ChooseDesk" "undone" "[I") ∈ lw_all := lw_g (lw_at lw_m0 22 rfl) rfl
theorem q27 : (Jvm.Cond.soleField "ChooseDesk" "undone") ∈ lw_all := lw_g (lw_at lw_m0 23 rfl) rfl
theorem q28 : (Jvm.Cond.superclass "ChooseDesk" "java/lang/Object") ∈ lw_all := lw_g (lw_at lw_m0 24 rfl) rfl
theorem q31 : (Jvm.Cond.instanceMethod ({ cls := "ChooseDesk", name := "prime", desc := "(I)V" } : Jvm.MethodName)) ∈ lw_all := lw_g (lw_at lw_m0 27 rfl) rfl
theorem q32 : (Jvm.Cond.selects "ChooseDesk" ({ cls := "ChooseDesk", name := "prime", desc := "(I)V" } : Jvm.MethodName) ({ cls := "ChooseDesk", name := "prime", desc := "(I)V" } : Jvm.MethodName)) ∈ lw_all := lw_g (lw_at lw_m0 28 rfl) rfl
theorem q33 : (Jvm.Cond.code ({ cls := "ChooseDesk", name := "prime", desc := "(I)V" } : Jvm.MethodName) prog_1_method_3_code (2 : Nat) (Option.none : Option Jvm.ClassFile.FieldType)) ∈ lw_all := lw_g (lw_at lw_m0 29 rfl) rfl
theorem q34 : (Jvm.Cond.fieldLink "ChooseDesk" (23 : Nat) "ChooseDesk" "PRIMES" "[I") ∈ lw_all := lw_g (lw_at lw_m0 30 rfl) rfl
theorem q35 : (Jvm.Cond.laysStatic "ChooseDesk" "PRIMES" "[I") ∈ lw_tbl := lw_at lw_m0 31 rfl
theorem q36 : (Jvm.Cond.constant "ChooseDesk" (26 : Nat) (2147483647 : Int32)) ∈ lw_all := lw_g (lw_at lw_m0 32 rfl) rfl
theorem q38 : (Jvm.Cond.instanceMethod ({ cls := "ChooseDesk", name := "choose", desc := "(II)I" } : Jvm.MethodName)) ∈ lw_all := lw_g (lw_at lw_m0 34 rfl) rfl
theorem q39 : (Jvm.Cond.selects "ChooseDesk" ({ cls := "ChooseDesk", name := "choose", desc := "(II)I" } : Jvm.MethodName) ({ cls := "ChooseDesk", name := "choose", desc := "(II)I" } : Jvm.MethodName)) ∈ lw_all := lw_g (lw_at lw_m0 35 rfl) rfl
theorem q40 : (Jvm.Cond.code ({ cls := "ChooseDesk", name := "choose", desc := "(II)I" } : Jvm.MethodName) prog_1_method_5_code (3 : Nat) (Option.some Jvm.ClassFile.FieldType.int)) ∈ lw_all := lw_g (lw_at lw_m0 36 rfl) rfl
theorem q41 : (Jvm.Cond.methodLink "ChooseDesk" (27 : Nat) ({ cls := "ChooseDesk", name := "chosen", desc := "(II)I" } : Jvm.MethodName)) ∈ lw_all := lw_g (lw_at lw_m0 37 rfl) rfl
theorem q42 : (Jvm.Cond.privateMethod ({ cls := "ChooseDesk", name := "chosen", desc := "(II)I" } : Jvm.MethodName)) ∈ lw_tbl := lw_at lw_m0 38 rfl
theorem q43 : (Jvm.Cond.instanceMethod ({ cls := "ChooseDesk", name := "chosen", desc := "(II)I" } : Jvm.MethodName)) ∈ lw_all := lw_g (lw_at lw_m0 39 rfl) rfl
theorem q44 : (Jvm.Cond.code ({ cls := "ChooseDesk", name := "chosen", desc := "(II)I" } : Jvm.MethodName) prog_1_method_4_code (8 : Nat) (Option.some Jvm.ClassFile.FieldType.int)) ∈ lw_all := lw_g (lw_at lw_m0 40 rfl) rfl
theorem q46 : (Jvm.Cond.instanceMethod ({ cls := "ChooseDesk", name := "left", desc := "(I)I" } : Jvm.MethodName)) ∈ lw_all := lw_g (lw_at lw_m0 42 rfl) rfl
theorem q47 : (Jvm.Cond.selects "ChooseDesk" ({ cls := "ChooseDesk", name := "left", desc := "(I)I" } : Jvm.MethodName) ({ cls := "ChooseDesk", name := "left", desc := "(I)I" } : Jvm.MethodName)) ∈ lw_all := lw_g (lw_at lw_m0 43 rfl) rfl
theorem q48 : (Jvm.Cond.code ({ cls := "ChooseDesk", name := "left", desc := "(I)I" } : Jvm.MethodName) prog_1_method_6_code (4 : Nat) (Option.some Jvm.ClassFile.FieldType.int)) ∈ lw_all := lw_g (lw_at lw_m0 44 rfl) rfl
theorem q50 : (Jvm.Cond.instanceMethod ({ cls := "ChooseDesk", name := "often", desc := "(II)I" } : Jvm.MethodName)) ∈ lw_all := lw_g (lw_at lw_m0 46 rfl) rfl
theorem q51 : (Jvm.Cond.selects "ChooseDesk" ({ cls := "ChooseDesk", name := "often", desc := "(II)I" } : Jvm.MethodName) ({ cls := "ChooseDesk", name := "often", desc := "(II)I" } : Jvm.MethodName)) ∈ lw_all := lw_g (lw_at lw_m0 47 rfl) rfl
theorem q52 : (Jvm.Cond.code ({ cls := "ChooseDesk", name := "often", desc := "(II)I" } : Jvm.MethodName) prog_1_method_7_code (7 : Nat) (Option.some Jvm.ClassFile.FieldType.int)) ∈ lw_all := lw_g (lw_at lw_m0 48 rfl) rfl
theorem q54 : (Jvm.Cond.instanceMethod ({ cls := "ChooseDesk", name := "product", desc := "(I)I" } : Jvm.MethodName)) ∈ lw_all := lw_g (lw_at lw_m0 50 rfl) rfl
theorem q55 : (Jvm.Cond.selects "ChooseDesk" ({ cls := "ChooseDesk", name := "product", desc := "(I)I" } : Jvm.MethodName) ({ cls := "ChooseDesk", name := "product", desc := "(I)I" } : Jvm.MethodName)) ∈ lw_all := lw_g (lw_at lw_m0 51 rfl) rfl
theorem q56 : (Jvm.Cond.code ({ cls := "ChooseDesk", name := "product", desc := "(I)I" } : Jvm.MethodName) prog_1_method_8_code (4 : Nat) (Option.some Jvm.ClassFile.FieldType.int)) ∈ lw_all := lw_g (lw_at lw_m0 52 rfl) rfl
theorem q58 : (Jvm.Cond.instanceMethod ({ cls := "ChooseDesk", name := "last", desc := "(I)I" } : Jvm.MethodName)) ∈ lw_all := lw_g (lw_at lw_m0 54 rfl) rfl
theorem q59 : (Jvm.Cond.selects "ChooseDesk" ({ cls := "ChooseDesk", name := "last", desc := "(I)I" } : Jvm.MethodName) ({ cls := "ChooseDesk", name := "last", desc := "(I)I" } : Jvm.MethodName)) ∈ lw_all := lw_g (lw_at lw_m0 55 rfl) rfl
theorem q60 : (Jvm.Cond.code ({ cls := "ChooseDesk", name := "last", desc := "(I)I" } : Jvm.MethodName) prog_1_method_9_code (5 : Nat) (Option.some Jvm.ClassFile.FieldType.int)) ∈ lw_all := lw_g (lw_at lw_m0 56 rfl) rfl
theorem q62 : (Jvm.Cond.instanceMethod ({ cls := "ChooseDesk", name := "many", desc := "(III)I" } : Jvm.MethodName)) ∈ lw_all := lw_g (lw_at lw_m0 58 rfl) rfl
theorem q63 : (Jvm.Cond.selects "ChooseDesk" ({ cls := "ChooseDesk", name := "many", desc := "(III)I" } : Jvm.MethodName) ({ cls := "ChooseDesk", name := "many", desc := "(III)I" } : Jvm.MethodName)) ∈ lw_all := lw_g (lw_at lw_m0 59 rfl) rfl
theorem q64 : (Jvm.Cond.code ({ cls := "ChooseDesk", name := "many", desc := "(III)I" } : Jvm.MethodName) prog_1_method_10_code (7 : Nat) (Option.some Jvm.ClassFile.FieldType.int)) ∈ lw_all := lw_g (lw_at lw_m0 60 rfl) rfl
theorem in_X0 : ∀ w ∈ wsX00, w ∈ lw_all := lw_in wsX00 [22, 24, 26] (by decide +kernel) (by decide +kernel)
end
section
/-! ChooseDeskModel -/
set_option maxRecDepth 100000
def RX1 : String := "ChooseDeskModel"
def TX1 : u_T := fun k => match k with
  | 0 => ("ChooseDeskModel", "primes", "[I", true)
  | 1 => ("ChooseDeskModel", "p", "I", false)
  | 2 => ("ChooseDeskModel", "row", "[I", true)
  | _ => ("ChooseDeskModel", "digit", "[I", true)
def tyX1 : Nat → FieldType := fun k => match k with
  | 0 => .array .int
  | 1 => .int
  | 2 => .array .int
  | _ => .array .int
abbrev wsX10 : List Cond := u_ws RX1 TX1 4
theorem nmX1 : ∀ a, a < 4 → ∀ b, b < 4 → a ≠ b → (TX1 a).2.1 ≠ (TX1 b).2.1 := by decide +kernel
theorem tyX1_ok : ∀ k, k < 4 → parseFieldDescriptor (TX1 k).2.2.1 = some (tyX1 k) := by decide +kernel
abbrev cX1_init : ByteArray := prog_3_method_1_code
def yX1_init : MethodName := ⟨RX1, "<init>", "()V"⟩
theorem dX1_init_0 : decode cX1_init 0 = .ok (.aload_n 0, 1) := by decide +kernel
theorem dX1_init_1 : decode cX1_init 1 = .ok (.invokespecial 1, 3) := by decide +kernel
theorem dX1_init_4 : decode cX1_init 4 = .ok (.aload_n 0, 1) := by decide +kernel
theorem dX1_init_5 : decode cX1_init 5 = .ok (.bipush 6, 2) := by decide +kernel
theorem dX1_init_7 : decode cX1_init 7 = .ok (.newarray .int, 2) := by decide +kernel
theorem dX1_init_9 : decode cX1_init 9 = .ok (.dup, 1) := by decide +kernel
theorem dX1_init_10 : decode cX1_init 10 = .ok (.iconst 0, 1) := by decide +kernel
theorem dX1_init_11 : decode cX1_init 11 = .ok (.iconst 2, 1) := by decide +kernel
theorem dX1_init_12 : decode cX1_init 12 = .ok (.iastore, 1) := by decide +kernel
theorem dX1_init_13 : decode cX1_init 13 = .ok (.dup, 1) := by decide +kernel
theorem dX1_init_14 : decode cX1_init 14 = .ok (.iconst 1, 1) := by decide +kernel
theorem dX1_init_15 : decode cX1_init 15 = .ok (.iconst 3, 1) := by decide +kernel
theorem dX1_init_16 : decode cX1_init 16 = .ok (.iastore, 1) := by decide +kernel
theorem dX1_init_17 : decode cX1_init 17 = .ok (.dup, 1) := by decide +kernel
theorem dX1_init_18 : decode cX1_init 18 = .ok (.iconst 2, 1) := by decide +kernel
theorem dX1_init_19 : decode cX1_init 19 = .ok (.iconst 5, 1) := by decide +kernel
theorem dX1_init_20 : decode cX1_init 20 = .ok (.iastore, 1) := by decide +kernel
theorem dX1_init_21 : decode cX1_init 21 = .ok (.dup, 1) := by decide +kernel
theorem dX1_init_22 : decode cX1_init 22 = .ok (.iconst 3, 1) := by decide +kernel
theorem dX1_init_23 : decode cX1_init 23 = .ok (.bipush 7, 2) := by decide +kernel
theorem dX1_init_25 : decode cX1_init 25 = .ok (.iastore, 1) := by decide +kernel
theorem dX1_init_26 : decode cX1_init 26 = .ok (.dup, 1) := by decide +kernel
theorem dX1_init_27 : decode cX1_init 27 = .ok (.iconst 4, 1) := by decide +kernel
theorem dX1_init_28 : decode cX1_init 28 = .ok (.bipush 11, 2) := by decide +kernel
theorem dX1_init_30 : decode cX1_init 30 = .ok (.iastore, 1) := by decide +kernel
theorem dX1_init_31 : decode cX1_init 31 = .ok (.dup, 1) := by decide +kernel
theorem dX1_init_32 : decode cX1_init 32 = .ok (.iconst 5, 1) := by decide +kernel
theorem dX1_init_33 : decode cX1_init 33 = .ok (.bipush 13, 2) := by decide +kernel
theorem dX1_init_35 : decode cX1_init 35 = .ok (.iastore, 1) := by decide +kernel
theorem dX1_init_36 : decode cX1_init 36 = .ok (.putfield 7, 3) := by decide +kernel
theorem dX1_init_39 : decode cX1_init 39 = .ok (.aload_n 0, 1) := by decide +kernel
theorem dX1_init_40 : decode cX1_init 40 = .ok (.iconst 2, 1) := by decide +kernel
theorem dX1_init_41 : decode cX1_init 41 = .ok (.putfield 13, 3) := by decide +kernel
theorem dX1_init_44 : decode cX1_init 44 = .ok (.aload_n 0, 1) := by decide +kernel
theorem dX1_init_45 : decode cX1_init 45 = .ok (.sipush 256, 3) := by decide +kernel
theorem dX1_init_48 : decode cX1_init 48 = .ok (.newarray .int, 2) := by decide +kernel
theorem dX1_init_50 : decode cX1_init 50 = .ok (.putfield 17, 3) := by decide +kernel
theorem dX1_init_53 : decode cX1_init 53 = .ok (.aload_n 0, 1) := by decide +kernel
theorem dX1_init_54 : decode cX1_init 54 = .ok (.bipush 64, 2) := by decide +kernel
theorem dX1_init_56 : decode cX1_init 56 = .ok (.newarray .int, 2) := by decide +kernel
theorem dX1_init_58 : decode cX1_init 58 = .ok (.putfield 20, 3) := by decide +kernel
theorem dX1_init_61 : decode cX1_init 61 = .ok (.return_, 1) := by decide +kernel
abbrev cX1_prime : ByteArray := prog_3_method_2_code
def yX1_prime : MethodName := ⟨RX1, "prime", "(I)V"⟩
theorem dX1_prime_0 : decode cX1_prime 0 = .ok (.aload_n 0, 1) := by decide +kernel
theorem dX1_prime_1 : decode cX1_prime 1 = .ok (.aload_n 0, 1) := by decide +kernel
theorem dX1_prime_2 : decode cX1_prime 2 = .ok (.getfield 7, 3) := by decide +kernel
theorem dX1_prime_5 : decode cX1_prime 5 = .ok (.iload_n 1, 1) := by decide +kernel
theorem dX1_prime_6 : decode cX1_prime 6 = .ok (.ldc 23, 2) := by decide +kernel
theorem dX1_prime_8 : decode cX1_prime 8 = .ok (.iand, 1) := by decide +kernel
theorem dX1_prime_9 : decode cX1_prime 9 = .ok (.bipush 6, 2) := by decide +kernel
theorem dX1_prime_11 : decode cX1_prime 11 = .ok (.irem, 1) := by decide +kernel
theorem dX1_prime_12 : decode cX1_prime 12 = .ok (.iaload, 1) := by decide +kernel
theorem dX1_prime_13 : decode cX1_prime 13 = .ok (.putfield 13, 3) := by decide +kernel
theorem dX1_prime_16 : decode cX1_prime 16 = .ok (.return_, 1) := by decide +kernel
abbrev cX1_choose : ByteArray := prog_3_method_4_code
def yX1_choose : MethodName := ⟨RX1, "choose", "(II)I"⟩
theorem dX1_choose_0 : decode cX1_choose 0 = .ok (.iload_n 1, 1) := by decide +kernel
theorem dX1_choose_1 : decode cX1_choose 1 = .ok (.sipush 255, 3) := by decide +kernel
theorem dX1_choose_4 : decode cX1_choose 4 = .ok (.iand, 1) := by decide +kernel
theorem dX1_choose_5 : decode cX1_choose 5 = .ok (.istore_n 3, 1) := by decide +kernel
theorem dX1_choose_6 : decode cX1_choose 6 = .ok (.iload_n 2, 1) := by decide +kernel
theorem dX1_choose_7 : decode cX1_choose 7 = .ok (.sipush 255, 3) := by decide +kernel
theorem dX1_choose_10 : decode cX1_choose 10 = .ok (.iand, 1) := by decide +kernel
theorem dX1_choose_11 : decode cX1_choose 11 = .ok (.istore 4, 2) := by decide +kernel
theorem dX1_choose_13 : decode cX1_choose 13 = .ok (.iload 4, 2) := by decide +kernel
theorem dX1_choose_15 : decode cX1_choose 15 = .ok (.iload_n 3, 1) := by decide +kernel
theorem dX1_choose_16 : decode cX1_choose 16 = .ok (.if_icmp .le 5, 3) := by decide +kernel
theorem dX1_choose_19 : decode cX1_choose 19 = .ok (.iconst 0, 1) := by decide +kernel
theorem dX1_choose_20 : decode cX1_choose 20 = .ok (.ireturn, 1) := by decide +kernel
theorem dX1_choose_21 : decode cX1_choose 21 = .ok (.aload_n 0, 1) := by decide +kernel
theorem dX1_choose_22 : decode cX1_choose 22 = .ok (.iload_n 3, 1) := by decide +kernel
theorem dX1_choose_23 : decode cX1_choose 23 = .ok (.invokevirtual 24, 3) := by decide +kernel
theorem dX1_choose_26 : decode cX1_choose 26 = .ok (.aload_n 0, 1) := by decide +kernel
theorem dX1_choose_27 : decode cX1_choose 27 = .ok (.getfield 17, 3) := by decide +kernel
theorem dX1_choose_30 : decode cX1_choose 30 = .ok (.iload 4, 2) := by decide +kernel
theorem dX1_choose_32 : decode cX1_choose 32 = .ok (.iaload, 1) := by decide +kernel
theorem dX1_choose_33 : decode cX1_choose 33 = .ok (.ireturn, 1) := by decide +kernel
abbrev cX1_rowOf : ByteArray := prog_3_method_3_code
def yX1_rowOf : MethodName := ⟨RX1, "rowOf", "(I)V"⟩
theorem dX1_rowOf_0 : decode cX1_rowOf 0 = .ok (.iconst 0, 1) := by decide +kernel
theorem dX1_rowOf_1 : decode cX1_rowOf 1 = .ok (.istore_n 2, 1) := by decide +kernel
theorem dX1_rowOf_2 : decode cX1_rowOf 2 = .ok (.iload_n 2, 1) := by decide +kernel
theorem dX1_rowOf_3 : decode cX1_rowOf 3 = .ok (.sipush 256, 3) := by decide +kernel
theorem dX1_rowOf_6 : decode cX1_rowOf 6 = .ok (.if_icmp .ge 24, 3) := by decide +kernel
theorem dX1_rowOf_9 : decode cX1_rowOf 9 = .ok (.aload_n 0, 1) := by decide +kernel
theorem dX1_rowOf_10 : decode cX1_rowOf 10 = .ok (.getfield 17, 3) := by decide +kernel
theorem dX1_rowOf_13 : decode cX1_rowOf 13 = .ok (.iload_n 2, 1) := by decide +kernel
theorem dX1_rowOf_14 : decode cX1_rowOf 14 = .ok (.iload_n 2, 1) := by decide +kernel
theorem dX1_rowOf_15 : decode cX1_rowOf 15 = .ok (.ifCond .ne 7, 3) := by decide +kernel
theorem dX1_rowOf_18 : decode cX1_rowOf 18 = .ok (.iconst 1, 1) := by decide +kernel
theorem dX1_rowOf_19 : decode cX1_rowOf 19 = .ok (.goto 4, 3) := by decide +kernel
theorem dX1_rowOf_22 : decode cX1_rowOf 22 = .ok (.iconst 0, 1) := by decide +kernel
theorem dX1_rowOf_23 : decode cX1_rowOf 23 = .ok (.iastore, 1) := by decide +kernel
theorem dX1_rowOf_24 : decode cX1_rowOf 24 = .ok (.iinc 2 1, 3) := by decide +kernel
theorem dX1_rowOf_27 : decode cX1_rowOf 27 = .ok (.goto (-25), 3) := by decide +kernel
theorem dX1_rowOf_30 : decode cX1_rowOf 30 = .ok (.iconst 1, 1) := by decide +kernel
theorem dX1_rowOf_31 : decode cX1_rowOf 31 = .ok (.istore_n 2, 1) := by decide +kernel
theorem dX1_rowOf_32 : decode cX1_rowOf 32 = .ok (.iload_n 2, 1) := by decide +kernel
theorem dX1_rowOf_33 : decode cX1_rowOf 33 = .ok (.iload_n 1, 1) := by decide +kernel
theorem dX1_rowOf_34 : decode cX1_rowOf 34 = .ok (.if_icmp .gt 47, 3) := by decide +kernel
theorem dX1_rowOf_37 : decode cX1_rowOf 37 = .ok (.iload_n 2, 1) := by decide +kernel
theorem dX1_rowOf_38 : decode cX1_rowOf 38 = .ok (.istore_n 3, 1) := by decide +kernel
theorem dX1_rowOf_39 : decode cX1_rowOf 39 = .ok (.iload_n 3, 1) := by decide +kernel
theorem dX1_rowOf_40 : decode cX1_rowOf 40 = .ok (.ifCond .le 35, 3) := by decide +kernel
theorem dX1_rowOf_43 : decode cX1_rowOf 43 = .ok (.aload_n 0, 1) := by decide +kernel
theorem dX1_rowOf_44 : decode cX1_rowOf 44 = .ok (.getfield 17, 3) := by decide +kernel
theorem dX1_rowOf_47 : decode cX1_rowOf 47 = .ok (.iload_n 3, 1) := by decide +kernel
theorem dX1_rowOf_48 : decode cX1_rowOf 48 = .ok (.aload_n 0, 1) := by decide +kernel
theorem dX1_rowOf_49 : decode cX1_rowOf 49 = .ok (.getfield 17, 3) := by decide +kernel
theorem dX1_rowOf_52 : decode cX1_rowOf 52 = .ok (.iload_n 3, 1) := by decide +kernel
theorem dX1_rowOf_53 : decode cX1_rowOf 53 = .ok (.iaload, 1) := by decide +kernel
theorem dX1_rowOf_54 : decode cX1_rowOf 54 = .ok (.aload_n 0, 1) := by decide +kernel
theorem dX1_rowOf_55 : decode cX1_rowOf 55 = .ok (.getfield 17, 3) := by decide +kernel
theorem dX1_rowOf_58 : decode cX1_rowOf 58 = .ok (.iload_n 3, 1) := by decide +kernel
theorem dX1_rowOf_59 : decode cX1_rowOf 59 = .ok (.iconst 1, 1) := by decide +kernel
theorem dX1_rowOf_60 : decode cX1_rowOf 60 = .ok (.isub, 1) := by decide +kernel
theorem dX1_rowOf_61 : decode cX1_rowOf 61 = .ok (.iaload, 1) := by decide +kernel
theorem dX1_rowOf_62 : decode cX1_rowOf 62 = .ok (.iadd, 1) := by decide +kernel
theorem dX1_rowOf_63 : decode cX1_rowOf 63 = .ok (.aload_n 0, 1) := by decide +kernel
theorem dX1_rowOf_64 : decode cX1_rowOf 64 = .ok (.getfield 13, 3) := by decide +kernel
theorem dX1_rowOf_67 : decode cX1_rowOf 67 = .ok (.irem, 1) := by decide +kernel
theorem dX1_rowOf_68 : decode cX1_rowOf 68 = .ok (.iastore, 1) := by decide +kernel
theorem dX1_rowOf_69 : decode cX1_rowOf 69 = .ok (.iinc 3 (-1), 3) := by decide +kernel
theorem dX1_rowOf_72 : decode cX1_rowOf 72 = .ok (.goto (-33), 3) := by decide +kernel
theorem dX1_rowOf_75 : decode cX1_rowOf 75 = .ok (.iinc 2 1, 3) := by decide +kernel
theorem dX1_rowOf_78 : decode cX1_rowOf 78 = .ok (.goto (-46), 3) := by decide +kernel
theorem dX1_rowOf_81 : decode cX1_rowOf 81 = .ok (.return_, 1) := by decide +kernel
abbrev cX1_left : ByteArray := prog_3_method_5_code
def yX1_left : MethodName := ⟨RX1, "left", "(I)I"⟩
theorem dX1_left_0 : decode cX1_left 0 = .ok (.iload_n 1, 1) := by decide +kernel
theorem dX1_left_1 : decode cX1_left 1 = .ok (.sipush 255, 3) := by decide +kernel
theorem dX1_left_4 : decode cX1_left 4 = .ok (.iand, 1) := by decide +kernel
theorem dX1_left_5 : decode cX1_left 5 = .ok (.istore_n 2, 1) := by decide +kernel
theorem dX1_left_6 : decode cX1_left 6 = .ok (.iconst 0, 1) := by decide +kernel
theorem dX1_left_7 : decode cX1_left 7 = .ok (.istore_n 3, 1) := by decide +kernel
theorem dX1_left_8 : decode cX1_left 8 = .ok (.aload_n 0, 1) := by decide +kernel
theorem dX1_left_9 : decode cX1_left 9 = .ok (.iload_n 2, 1) := by decide +kernel
theorem dX1_left_10 : decode cX1_left 10 = .ok (.invokevirtual 24, 3) := by decide +kernel
theorem dX1_left_13 : decode cX1_left 13 = .ok (.iconst 0, 1) := by decide +kernel
theorem dX1_left_14 : decode cX1_left 14 = .ok (.istore 4, 2) := by decide +kernel
theorem dX1_left_16 : decode cX1_left 16 = .ok (.iload 4, 2) := by decide +kernel
theorem dX1_left_18 : decode cX1_left 18 = .ok (.iload_n 2, 1) := by decide +kernel
theorem dX1_left_19 : decode cX1_left 19 = .ok (.if_icmp .gt 23, 3) := by decide +kernel
theorem dX1_left_22 : decode cX1_left 22 = .ok (.aload_n 0, 1) := by decide +kernel
theorem dX1_left_23 : decode cX1_left 23 = .ok (.getfield 17, 3) := by decide +kernel
theorem dX1_left_26 : decode cX1_left 26 = .ok (.iload 4, 2) := by decide +kernel
theorem dX1_left_28 : decode cX1_left 28 = .ok (.iaload, 1) := by decide +kernel
theorem dX1_left_29 : decode cX1_left 29 = .ok (.ifCond .eq 7, 3) := by decide +kernel
theorem dX1_left_32 : decode cX1_left 32 = .ok (.iload_n 3, 1) := by decide +kernel
theorem dX1_left_33 : decode cX1_left 33 = .ok (.iconst 1, 1) := by decide +kernel
theorem dX1_left_34 : decode cX1_left 34 = .ok (.iadd, 1) := by decide +kernel
theorem dX1_left_35 : decode cX1_left 35 = .ok (.istore_n 3, 1) := by decide +kernel
theorem dX1_left_36 : decode cX1_left 36 = .ok (.iinc 4 1, 3) := by decide +kernel
theorem dX1_left_39 : decode cX1_left 39 = .ok (.goto (-23), 3) := by decide +kernel
theorem dX1_left_42 : decode cX1_left 42 = .ok (.iload_n 3, 1) := by decide +kernel
theorem dX1_left_43 : decode cX1_left 43 = .ok (.ireturn, 1) := by decide +kernel
abbrev cX1_often : ByteArray := prog_3_method_7_code
def yX1_often : MethodName := ⟨RX1, "often", "(II)I"⟩
theorem dX1_often_0 : decode cX1_often 0 = .ok (.iload_n 1, 1) := by decide +kernel
theorem dX1_often_1 : decode cX1_often 1 = .ok (.sipush 255, 3) := by decide +kernel
theorem dX1_often_4 : decode cX1_often 4 = .ok (.iand, 1) := by decide +kernel
theorem dX1_often_5 : decode cX1_often 5 = .ok (.istore_n 3, 1) := by decide +kernel
theorem dX1_often_6 : decode cX1_often 6 = .ok (.iload_n 2, 1) := by decide +kernel
theorem dX1_often_7 : decode cX1_often 7 = .ok (.sipush 255, 3) := by decide +kernel
theorem dX1_often_10 : decode cX1_often 10 = .ok (.iand, 1) := by decide +kernel
theorem dX1_often_11 : decode cX1_often 11 = .ok (.istore 4, 2) := by decide +kernel
theorem dX1_often_13 : decode cX1_often 13 = .ok (.iload 4, 2) := by decide +kernel
theorem dX1_often_15 : decode cX1_often 15 = .ok (.iload_n 3, 1) := by decide +kernel
theorem dX1_often_16 : decode cX1_often 16 = .ok (.if_icmp .le 5, 3) := by decide +kernel
theorem dX1_often_19 : decode cX1_often 19 = .ok (.iconst (-1), 1) := by decide +kernel
theorem dX1_often_20 : decode cX1_often 20 = .ok (.ireturn, 1) := by decide +kernel
theorem dX1_often_21 : decode cX1_often 21 = .ok (.iconst 0, 1) := by decide +kernel
theorem dX1_often_22 : decode cX1_often 22 = .ok (.istore 5, 2) := by decide +kernel
theorem dX1_often_24 : decode cX1_often 24 = .ok (.iconst 1, 1) := by decide +kernel
theorem dX1_often_25 : decode cX1_often 25 = .ok (.istore 6, 2) := by decide +kernel
theorem dX1_often_27 : decode cX1_often 27 = .ok (.iload 6, 2) := by decide +kernel
theorem dX1_often_29 : decode cX1_often 29 = .ok (.iload 4, 2) := by decide +kernel
theorem dX1_often_31 : decode cX1_often 31 = .ok (.if_icmp .gt 32, 3) := by decide +kernel
theorem dX1_often_34 : decode cX1_often 34 = .ok (.iload 5, 2) := by decide +kernel
theorem dX1_often_36 : decode cX1_often 36 = .ok (.aload_n 0, 1) := by decide +kernel
theorem dX1_often_37 : decode cX1_often 37 = .ok (.iload_n 3, 1) := by decide +kernel
theorem dX1_often_38 : decode cX1_often 38 = .ok (.iload 4, 2) := by decide +kernel
theorem dX1_often_40 : decode cX1_often 40 = .ok (.isub, 1) := by decide +kernel
theorem dX1_often_41 : decode cX1_often 41 = .ok (.iload 6, 2) := by decide +kernel
theorem dX1_often_43 : decode cX1_often 43 = .ok (.iadd, 1) := by decide +kernel
theorem dX1_often_44 : decode cX1_often 44 = .ok (.invokevirtual 28, 3) := by decide +kernel
theorem dX1_often_47 : decode cX1_often 47 = .ok (.iadd, 1) := by decide +kernel
theorem dX1_often_48 : decode cX1_often 48 = .ok (.aload_n 0, 1) := by decide +kernel
theorem dX1_often_49 : decode cX1_often 49 = .ok (.iload 6, 2) := by decide +kernel
theorem dX1_often_51 : decode cX1_often 51 = .ok (.invokevirtual 28, 3) := by decide +kernel
theorem dX1_often_54 : decode cX1_often 54 = .ok (.isub, 1) := by decide +kernel
theorem dX1_often_55 : decode cX1_often 55 = .ok (.istore 5, 2) := by decide +kernel
theorem dX1_often_57 : decode cX1_often 57 = .ok (.iinc 6 1, 3) := by decide +kernel
theorem dX1_often_60 : decode cX1_often 60 = .ok (.goto (-33), 3) := by decide +kernel
theorem dX1_often_63 : decode cX1_often 63 = .ok (.iload 5, 2) := by decide +kernel
theorem dX1_often_65 : decode cX1_often 65 = .ok (.ireturn, 1) := by decide +kernel
abbrev cX1_power : ByteArray := prog_3_method_6_code
def yX1_power : MethodName := ⟨RX1, "power", "(I)I"⟩
theorem dX1_power_0 : decode cX1_power 0 = .ok (.iconst 0, 1) := by decide +kernel
theorem dX1_power_1 : decode cX1_power 1 = .ok (.istore_n 2, 1) := by decide +kernel
theorem dX1_power_2 : decode cX1_power 2 = .ok (.iload_n 1, 1) := by decide +kernel
theorem dX1_power_3 : decode cX1_power 3 = .ok (.istore_n 3, 1) := by decide +kernel
theorem dX1_power_4 : decode cX1_power 4 = .ok (.iload_n 3, 1) := by decide +kernel
theorem dX1_power_5 : decode cX1_power 5 = .ok (.aload_n 0, 1) := by decide +kernel
theorem dX1_power_6 : decode cX1_power 6 = .ok (.getfield 13, 3) := by decide +kernel
theorem dX1_power_9 : decode cX1_power 9 = .ok (.irem, 1) := by decide +kernel
theorem dX1_power_10 : decode cX1_power 10 = .ok (.ifCond .ne 17, 3) := by decide +kernel
theorem dX1_power_13 : decode cX1_power 13 = .ok (.iload_n 3, 1) := by decide +kernel
theorem dX1_power_14 : decode cX1_power 14 = .ok (.aload_n 0, 1) := by decide +kernel
theorem dX1_power_15 : decode cX1_power 15 = .ok (.getfield 13, 3) := by decide +kernel
theorem dX1_power_18 : decode cX1_power 18 = .ok (.idiv, 1) := by decide +kernel
theorem dX1_power_19 : decode cX1_power 19 = .ok (.istore_n 3, 1) := by decide +kernel
theorem dX1_power_20 : decode cX1_power 20 = .ok (.iload_n 2, 1) := by decide +kernel
theorem dX1_power_21 : decode cX1_power 21 = .ok (.iconst 1, 1) := by decide +kernel
theorem dX1_power_22 : decode cX1_power 22 = .ok (.iadd, 1) := by decide +kernel
theorem dX1_power_23 : decode cX1_power 23 = .ok (.istore_n 2, 1) := by decide +kernel
theorem dX1_power_24 : decode cX1_power 24 = .ok (.goto (-20), 3) := by decide +kernel
theorem dX1_power_27 : decode cX1_power 27 = .ok (.iload_n 2, 1) := by decide +kernel
theorem dX1_power_28 : decode cX1_power 28 = .ok (.ireturn, 1) := by decide +kernel
abbrev cX1_product : ByteArray := prog_3_method_8_code
def yX1_product : MethodName := ⟨RX1, "product", "(I)I"⟩
theorem dX1_product_0 : decode cX1_product 0 = .ok (.iload_n 1, 1) := by decide +kernel
theorem dX1_product_1 : decode cX1_product 1 = .ok (.sipush 255, 3) := by decide +kernel
theorem dX1_product_4 : decode cX1_product 4 = .ok (.iand, 1) := by decide +kernel
theorem dX1_product_5 : decode cX1_product 5 = .ok (.istore_n 2, 1) := by decide +kernel
theorem dX1_product_6 : decode cX1_product 6 = .ok (.iconst 0, 1) := by decide +kernel
theorem dX1_product_7 : decode cX1_product 7 = .ok (.istore_n 3, 1) := by decide +kernel
theorem dX1_product_8 : decode cX1_product 8 = .ok (.iconst 1, 1) := by decide +kernel
theorem dX1_product_9 : decode cX1_product 9 = .ok (.istore 4, 2) := by decide +kernel
theorem dX1_product_11 : decode cX1_product 11 = .ok (.iload 4, 2) := by decide +kernel
theorem dX1_product_13 : decode cX1_product 13 = .ok (.iload_n 2, 1) := by decide +kernel
theorem dX1_product_14 : decode cX1_product 14 = .ok (.if_icmp .gt 18, 3) := by decide +kernel
theorem dX1_product_17 : decode cX1_product 17 = .ok (.iload_n 3, 1) := by decide +kernel
theorem dX1_product_18 : decode cX1_product 18 = .ok (.aload_n 0, 1) := by decide +kernel
theorem dX1_product_19 : decode cX1_product 19 = .ok (.iload 4, 2) := by decide +kernel
theorem dX1_product_21 : decode cX1_product 21 = .ok (.invokevirtual 28, 3) := by decide +kernel
theorem dX1_product_24 : decode cX1_product 24 = .ok (.iadd, 1) := by decide +kernel
theorem dX1_product_25 : decode cX1_product 25 = .ok (.istore_n 3, 1) := by decide +kernel
theorem dX1_product_26 : decode cX1_product 26 = .ok (.iinc 4 1, 3) := by decide +kernel
theorem dX1_product_29 : decode cX1_product 29 = .ok (.goto (-18), 3) := by decide +kernel
theorem dX1_product_32 : decode cX1_product 32 = .ok (.iload_n 3, 1) := by decide +kernel
theorem dX1_product_33 : decode cX1_product 33 = .ok (.ireturn, 1) := by decide +kernel
abbrev cX1_last : ByteArray := prog_3_method_9_code
def yX1_last : MethodName := ⟨RX1, "last", "(I)I"⟩
theorem dX1_last_0 : decode cX1_last 0 = .ok (.iload_n 1, 1) := by decide +kernel
theorem dX1_last_1 : decode cX1_last 1 = .ok (.sipush 255, 3) := by decide +kernel
theorem dX1_last_4 : decode cX1_last 4 = .ok (.iand, 1) := by decide +kernel
theorem dX1_last_5 : decode cX1_last 5 = .ok (.istore_n 2, 1) := by decide +kernel
theorem dX1_last_6 : decode cX1_last 6 = .ok (.iconst 1, 1) := by decide +kernel
theorem dX1_last_7 : decode cX1_last 7 = .ok (.istore_n 3, 1) := by decide +kernel
theorem dX1_last_8 : decode cX1_last 8 = .ok (.iconst 1, 1) := by decide +kernel
theorem dX1_last_9 : decode cX1_last 9 = .ok (.istore 4, 2) := by decide +kernel
theorem dX1_last_11 : decode cX1_last 11 = .ok (.iload 4, 2) := by decide +kernel
theorem dX1_last_13 : decode cX1_last 13 = .ok (.iload_n 2, 1) := by decide +kernel
theorem dX1_last_14 : decode cX1_last 14 = .ok (.if_icmp .gt 50, 3) := by decide +kernel
theorem dX1_last_17 : decode cX1_last 17 = .ok (.iload 4, 2) := by decide +kernel
theorem dX1_last_19 : decode cX1_last 19 = .ok (.istore 5, 2) := by decide +kernel
theorem dX1_last_21 : decode cX1_last 21 = .ok (.iload 5, 2) := by decide +kernel
theorem dX1_last_23 : decode cX1_last 23 = .ok (.aload_n 0, 1) := by decide +kernel
theorem dX1_last_24 : decode cX1_last 24 = .ok (.getfield 13, 3) := by decide +kernel
theorem dX1_last_27 : decode cX1_last 27 = .ok (.irem, 1) := by decide +kernel
theorem dX1_last_28 : decode cX1_last 28 = .ok (.ifCond .ne 15, 3) := by decide +kernel
theorem dX1_last_31 : decode cX1_last 31 = .ok (.iload 5, 2) := by decide +kernel
theorem dX1_last_33 : decode cX1_last 33 = .ok (.aload_n 0, 1) := by decide +kernel
theorem dX1_last_34 : decode cX1_last 34 = .ok (.getfield 13, 3) := by decide +kernel
theorem dX1_last_37 : decode cX1_last 37 = .ok (.idiv, 1) := by decide +kernel
theorem dX1_last_38 : decode cX1_last 38 = .ok (.istore 5, 2) := by decide +kernel
theorem dX1_last_40 : decode cX1_last 40 = .ok (.goto (-19), 3) := by decide +kernel
theorem dX1_last_43 : decode cX1_last 43 = .ok (.iload_n 3, 1) := by decide +kernel
theorem dX1_last_44 : decode cX1_last 44 = .ok (.iload 5, 2) := by decide +kernel
theorem dX1_last_46 : decode cX1_last 46 = .ok (.aload_n 0, 1) := by decide +kernel
theorem dX1_last_47 : decode cX1_last 47 = .ok (.getfield 13, 3) := by decide +kernel
theorem dX1_last_50 : decode cX1_last 50 = .ok (.irem, 1) := by decide +kernel
theorem dX1_last_51 : decode cX1_last 51 = .ok (.imul, 1) := by decide +kernel
theorem dX1_last_52 : decode cX1_last 52 = .ok (.aload_n 0, 1) := by decide +kernel
theorem dX1_last_53 : decode cX1_last 53 = .ok (.getfield 13, 3) := by decide +kernel
theorem dX1_last_56 : decode cX1_last 56 = .ok (.irem, 1) := by decide +kernel
theorem dX1_last_57 : decode cX1_last 57 = .ok (.istore_n 3, 1) := by decide +kernel
theorem dX1_last_58 : decode cX1_last 58 = .ok (.iinc 4 1, 3) := by decide +kernel
theorem dX1_last_61 : decode cX1_last 61 = .ok (.goto (-50), 3) := by decide +kernel
theorem dX1_last_64 : decode cX1_last 64 = .ok (.iload_n 3, 1) := by decide +kernel
theorem dX1_last_65 : decode cX1_last 65 = .ok (.ireturn, 1) := by decide +kernel
abbrev cX1_many : ByteArray := prog_3_method_10_code
def yX1_many : MethodName := ⟨RX1, "many", "(III)I"⟩
theorem dX1_many_0 : decode cX1_many 0 = .ok (.iload_n 1, 1) := by decide +kernel
theorem dX1_many_1 : decode cX1_many 1 = .ok (.bipush 63, 2) := by decide +kernel
theorem dX1_many_3 : decode cX1_many 3 = .ok (.iand, 1) := by decide +kernel
theorem dX1_many_4 : decode cX1_many 4 = .ok (.istore 4, 2) := by decide +kernel
theorem dX1_many_6 : decode cX1_many 6 = .ok (.iload_n 2, 1) := by decide +kernel
theorem dX1_many_7 : decode cX1_many 7 = .ok (.bipush 63, 2) := by decide +kernel
theorem dX1_many_9 : decode cX1_many 9 = .ok (.iand, 1) := by decide +kernel
theorem dX1_many_10 : decode cX1_many 10 = .ok (.istore 5, 2) := by decide +kernel
theorem dX1_many_12 : decode cX1_many 12 = .ok (.iload_n 3, 1) := by decide +kernel
theorem dX1_many_13 : decode cX1_many 13 = .ok (.bipush 63, 2) := by decide +kernel
theorem dX1_many_15 : decode cX1_many 15 = .ok (.iand, 1) := by decide +kernel
theorem dX1_many_16 : decode cX1_many 16 = .ok (.istore 6, 2) := by decide +kernel
theorem dX1_many_18 : decode cX1_many 18 = .ok (.iload 5, 2) := by decide +kernel
theorem dX1_many_20 : decode cX1_many 20 = .ok (.iload 6, 2) := by decide +kernel
theorem dX1_many_22 : decode cX1_many 22 = .ok (.iadd, 1) := by decide +kernel
theorem dX1_many_23 : decode cX1_many 23 = .ok (.iload 4, 2) := by decide +kernel
theorem dX1_many_25 : decode cX1_many 25 = .ok (.if_icmp .le 5, 3) := by decide +kernel
theorem dX1_many_28 : decode cX1_many 28 = .ok (.iconst 0, 1) := by decide +kernel
theorem dX1_many_29 : decode cX1_many 29 = .ok (.ireturn, 1) := by decide +kernel
theorem dX1_many_30 : decode cX1_many 30 = .ok (.aload_n 0, 1) := by decide +kernel
theorem dX1_many_31 : decode cX1_many 31 = .ok (.iload 4, 2) := by decide +kernel
theorem dX1_many_33 : decode cX1_many 33 = .ok (.invokevirtual 24, 3) := by decide +kernel
theorem dX1_many_36 : decode cX1_many 36 = .ok (.aload_n 0, 1) := by decide +kernel
theorem dX1_many_37 : decode cX1_many 37 = .ok (.getfield 17, 3) := by decide +kernel
theorem dX1_many_40 : decode cX1_many 40 = .ok (.iload 5, 2) := by decide +kernel
theorem dX1_many_42 : decode cX1_many 42 = .ok (.iaload, 1) := by decide +kernel
theorem dX1_many_43 : decode cX1_many 43 = .ok (.istore 7, 2) := by decide +kernel
theorem dX1_many_45 : decode cX1_many 45 = .ok (.aload_n 0, 1) := by decide +kernel
theorem dX1_many_46 : decode cX1_many 46 = .ok (.iload 4, 2) := by decide +kernel
theorem dX1_many_48 : decode cX1_many 48 = .ok (.iload 5, 2) := by decide +kernel
theorem dX1_many_50 : decode cX1_many 50 = .ok (.isub, 1) := by decide +kernel
theorem dX1_many_51 : decode cX1_many 51 = .ok (.invokevirtual 24, 3) := by decide +kernel
theorem dX1_many_54 : decode cX1_many 54 = .ok (.iload 7, 2) := by decide +kernel
theorem dX1_many_56 : decode cX1_many 56 = .ok (.aload_n 0, 1) := by decide +kernel
theorem dX1_many_57 : decode cX1_many 57 = .ok (.getfield 17, 3) := by decide +kernel
theorem dX1_many_60 : decode cX1_many 60 = .ok (.iload 6, 2) := by decide +kernel
theorem dX1_many_62 : decode cX1_many 62 = .ok (.iaload, 1) := by decide +kernel
theorem dX1_many_63 : decode cX1_many 63 = .ok (.imul, 1) := by decide +kernel
theorem dX1_many_64 : decode cX1_many 64 = .ok (.aload_n 0, 1) := by decide +kernel
theorem dX1_many_65 : decode cX1_many 65 = .ok (.getfield 13, 3) := by decide +kernel
theorem dX1_many_68 : decode cX1_many 68 = .ok (.irem, 1) := by decide +kernel
theorem dX1_many_69 : decode cX1_many 69 = .ok (.ireturn, 1) := by decide +kernel
theorem q6 : (Jvm.Cond.initialized "ChooseDeskModel") ∈ lw_all := lw_g (lw_at lw_m0 2 rfl) rfl
theorem q66 : (Jvm.Cond.instantiable "ChooseDeskModel" (4 : Nat)) ∈ lw_all := lw_g (lw_at lw_m0 62 rfl) rfl
theorem q68 : (Jvm.Cond.instanceMethod ({ cls := "ChooseDeskModel", name := "<init>", desc := "()V" } : Jvm.MethodName)) ∈ lw_all := lw_g (lw_at lw_m0 64 rfl) rfl
theorem q69 : (Jvm.Cond.code ({ cls := "ChooseDeskModel", name := "<init>", desc := "()V" } : Jvm.MethodName) prog_3_method_1_code (1 : Nat) (Option.none : Option Jvm.ClassFile.FieldType)) ∈ lw_all := lw_g (lw_at lw_m0 65 rfl) rfl
theorem q70 : (Jvm.Cond.methodLink "ChooseDeskModel" (1 : Nat) ({ cls := "java/lang/Object", name := "<init>", desc := "()V" } : Jvm.MethodName)) ∈ lw_all := lw_g (lw_at lw_m0 66 rfl) rfl
theorem q71 : (Jvm.Cond.fieldLink "ChooseDeskModel" (7 : Nat) "ChooseDeskModel" "primes" "[I") ∈ lw_all := lw_g (lw_at lw_m0 67 rfl) rfl
theorem q72 : (Jvm.Cond.fieldLink "ChooseDeskModel" (13 : Nat) "ChooseDeskModel" "p" "I") ∈ lw_all := lw_g (lw_at lw_m0 68 rfl) rfl
theorem q73 : (Jvm.Cond.fieldLink "ChooseDeskModel" (17 : Nat) "ChooseDeskModel" "row" "[I") ∈ lw_all := lw_g (lw_at lw_m0 69 rfl) rfl
theorem q74 : (Jvm.Cond.fieldLink "ChooseDeskModel" (20 : Nat) "ChooseDeskModel" "digit" "[I") ∈ lw_all := lw_g (lw_at lw_m0 70 rfl) rfl
theorem q75 : (Jvm.Cond.laysFinal "ChooseDeskModel" "ChooseDeskModel" "primes" "[I") ∈ lw_all := lw_g (lw_at lw_m0 71 rfl) rfl
theorem q76 : (Jvm.Cond.soleField "ChooseDeskModel" "primes") ∈ lw_all := lw_g (lw_at lw_m0 72 rfl) rfl
theorem q77 : (Jvm.Cond.lays "ChooseDeskModel" "ChooseDeskModel" "p" "I") ∈ lw_all := lw_g (lw_at lw_m0 73 rfl) rfl
theorem q78 : (Jvm.Cond.soleField "ChooseDeskModel" "p") ∈ lw_all := lw_g (lw_at lw_m0 74 rfl) rfl
theorem q79 : (Jvm.Cond.laysFinal "ChooseDeskModel" "ChooseDeskModel" "row" "[I") ∈ lw_all := lw_g (lw_at lw_m0 75 rfl) rfl
theorem q80 : (Jvm.Cond.soleField "ChooseDeskModel" "row") ∈ lw_all := lw_g (lw_at lw_m0 76 rfl) rfl
theorem q81 : (Jvm.Cond.laysFinal "ChooseDeskModel" "ChooseDeskModel" "digit" "[I") ∈ lw_all := lw_g (lw_at lw_m0 77 rfl) rfl
theorem q82 : (Jvm.Cond.soleField "ChooseDeskModel" "digit") ∈ lw_all := lw_g (lw_at lw_m0 78 rfl) rfl
theorem q83 : (Jvm.Cond.superclass "ChooseDeskModel" "java/lang/Object") ∈ lw_all := lw_g (lw_at lw_m0 79 rfl) rfl
theorem q85 : (Jvm.Cond.instanceMethod ({ cls := "ChooseDeskModel", name := "prime", desc := "(I)V" } : Jvm.MethodName)) ∈ lw_all := lw_g (lw_at lw_m0 81 rfl) rfl
theorem q86 : (Jvm.Cond.selects "ChooseDeskModel" ({ cls := "ChooseDeskModel", name := "prime", desc := "(I)V" } : Jvm.MethodName) ({ cls := "ChooseDeskModel", name := "prime", desc := "(I)V" } : Jvm.MethodName)) ∈ lw_all := lw_g (lw_at lw_m0 82 rfl) rfl
theorem q87 : (Jvm.Cond.code ({ cls := "ChooseDeskModel", name := "prime", desc := "(I)V" } : Jvm.MethodName) prog_3_method_2_code (2 : Nat) (Option.none : Option Jvm.ClassFile.FieldType)) ∈ lw_all := lw_g (lw_at lw_m0 83 rfl) rfl
theorem q88 : (Jvm.Cond.constant "ChooseDeskModel" (23 : Nat) (2147483647 : Int32)) ∈ lw_all := lw_g (lw_at lw_m0 84 rfl) rfl
theorem q90 : (Jvm.Cond.instanceMethod ({ cls := "ChooseDeskModel", name := "choose", desc := "(II)I" } : Jvm.MethodName)) ∈ lw_all := lw_g (lw_at lw_m0 86 rfl) rfl
theorem q91 : (Jvm.Cond.selects "ChooseDeskModel" ({ cls := "ChooseDeskModel", name := "choose", desc := "(II)I" } : Jvm.MethodName) ({ cls := "ChooseDeskModel", name := "choose", desc := "(II)I" } : Jvm.MethodName)) ∈ lw_all := lw_g (lw_at lw_m0 87 rfl) rfl
theorem q92 : (Jvm.Cond.code ({ cls := "ChooseDeskModel", name := "choose", desc := "(II)I" } : Jvm.MethodName) prog_3_method_4_code (5 : Nat) (Option.some Jvm.ClassFile.FieldType.int)) ∈ lw_all := lw_g (lw_at lw_m0 88 rfl) rfl
theorem q93 : (Jvm.Cond.methodLink "ChooseDeskModel" (24 : Nat) ({ cls := "ChooseDeskModel", name := "rowOf", desc := "(I)V" } : Jvm.MethodName)) ∈ lw_all := lw_g (lw_at lw_m0 89 rfl) rfl
theorem q94 : (Jvm.Cond.privateMethod ({ cls := "ChooseDeskModel", name := "rowOf", desc := "(I)V" } : Jvm.MethodName)) ∈ lw_tbl := lw_at lw_m0 90 rfl
theorem q95 : (Jvm.Cond.instanceMethod ({ cls := "ChooseDeskModel", name := "rowOf", desc := "(I)V" } : Jvm.MethodName)) ∈ lw_all := lw_g (lw_at lw_m0 91 rfl) rfl
theorem q96 : (Jvm.Cond.code ({ cls := "ChooseDeskModel", name := "rowOf", desc := "(I)V" } : Jvm.MethodName) prog_3_method_3_code (4 : Nat) (Option.none : Option Jvm.ClassFile.FieldType)) ∈ lw_all := lw_g (lw_at lw_m0 92 rfl) rfl
theorem q98 : (Jvm.Cond.instanceMethod ({ cls := "ChooseDeskModel", name := "left", desc := "(I)I" } : Jvm.MethodName)) ∈ lw_all := lw_g (lw_at lw_m0 94 rfl) rfl
theorem q99 : (Jvm.Cond.selects "ChooseDeskModel" ({ cls := "ChooseDeskModel", name := "left", desc := "(I)I" } : Jvm.MethodName) ({ cls := "ChooseDeskModel", name := "left", desc := "(I)I" } : Jvm.MethodName)) ∈ lw_all := lw_g (lw_at lw_m0 95 rfl) rfl
theorem q100 : (Jvm.Cond.code ({ cls := "ChooseDeskModel", name := "left", desc := "(I)I" } : Jvm.MethodName) prog_3_method_5_code (5 : Nat) (Option.some Jvm.ClassFile.FieldType.int)) ∈ lw_all := lw_g (lw_at lw_m0 96 rfl) rfl
theorem q102 : (Jvm.Cond.instanceMethod ({ cls := "ChooseDeskModel", name := "often", desc := "(II)I" } : Jvm.MethodName)) ∈ lw_all := lw_g (lw_at lw_m0 98 rfl) rfl
theorem q103 : (Jvm.Cond.selects "ChooseDeskModel" ({ cls := "ChooseDeskModel", name := "often", desc := "(II)I" } : Jvm.MethodName) ({ cls := "ChooseDeskModel", name := "often", desc := "(II)I" } : Jvm.MethodName)) ∈ lw_all := lw_g (lw_at lw_m0 99 rfl) rfl
theorem q104 : (Jvm.Cond.code ({ cls := "ChooseDeskModel", name := "often", desc := "(II)I" } : Jvm.MethodName) prog_3_method_7_code (7 : Nat) (Option.some Jvm.ClassFile.FieldType.int)) ∈ lw_all := lw_g (lw_at lw_m0 100 rfl) rfl
theorem q105 : (Jvm.Cond.methodLink "ChooseDeskModel" (28 : Nat) ({ cls := "ChooseDeskModel", name := "power", desc := "(I)I" } : Jvm.MethodName)) ∈ lw_all := lw_g (lw_at lw_m0 101 rfl) rfl
theorem q106 : (Jvm.Cond.privateMethod ({ cls := "ChooseDeskModel", name := "power", desc := "(I)I" } : Jvm.MethodName)) ∈ lw_tbl := lw_at lw_m0 102 rfl
theorem q107 : (Jvm.Cond.instanceMethod ({ cls := "ChooseDeskModel", name := "power", desc := "(I)I" } : Jvm.MethodName)) ∈ lw_all := lw_g (lw_at lw_m0 103 rfl) rfl
theorem q108 : (Jvm.Cond.code ({ cls := "ChooseDeskModel", name := "power", desc := "(I)I" } : Jvm.MethodName) prog_3_method_6_code (4 : Nat) (Option.some Jvm.ClassFile.FieldType.int)) ∈ lw_all := lw_g (lw_at lw_m0 104 rfl) rfl
theorem q110 : (Jvm.Cond.instanceMethod ({ cls := "ChooseDeskModel", name := "product", desc := "(I)I" } : Jvm.MethodName)) ∈ lw_all := lw_g (lw_at lw_m0 106 rfl) rfl
theorem q111 : (Jvm.Cond.selects "ChooseDeskModel" ({ cls := "ChooseDeskModel", name := "product", desc := "(I)I" } : Jvm.MethodName) ({ cls := "ChooseDeskModel", name := "product", desc := "(I)I" } : Jvm.MethodName)) ∈ lw_all := lw_g (lw_at lw_m0 107 rfl) rfl
theorem q112 : (Jvm.Cond.code ({ cls := "ChooseDeskModel", name := "product", desc := "(I)I" } : Jvm.MethodName) prog_3_method_8_code (5 : Nat) (Option.some Jvm.ClassFile.FieldType.int)) ∈ lw_all := lw_g (lw_at lw_m0 108 rfl) rfl
theorem q114 : (Jvm.Cond.instanceMethod ({ cls := "ChooseDeskModel", name := "last", desc := "(I)I" } : Jvm.MethodName)) ∈ lw_all := lw_g (lw_at lw_m0 110 rfl) rfl
theorem q115 : (Jvm.Cond.selects "ChooseDeskModel" ({ cls := "ChooseDeskModel", name := "last", desc := "(I)I" } : Jvm.MethodName) ({ cls := "ChooseDeskModel", name := "last", desc := "(I)I" } : Jvm.MethodName)) ∈ lw_all := lw_g (lw_at lw_m0 111 rfl) rfl
theorem q116 : (Jvm.Cond.code ({ cls := "ChooseDeskModel", name := "last", desc := "(I)I" } : Jvm.MethodName) prog_3_method_9_code (6 : Nat) (Option.some Jvm.ClassFile.FieldType.int)) ∈ lw_all := lw_g (lw_at lw_m0 112 rfl) rfl
theorem q118 : (Jvm.Cond.instanceMethod ({ cls := "ChooseDeskModel", name := "many", desc := "(III)I" } : Jvm.MethodName)) ∈ lw_all := lw_g (lw_at lw_m0 114 rfl) rfl
theorem q119 : (Jvm.Cond.selects "ChooseDeskModel" ({ cls := "ChooseDeskModel", name := "many", desc := "(III)I" } : Jvm.MethodName) ({ cls := "ChooseDeskModel", name := "many", desc := "(III)I" } : Jvm.MethodName)) ∈ lw_all := lw_g (lw_at lw_m0 115 rfl) rfl
theorem q120 : (Jvm.Cond.code ({ cls := "ChooseDeskModel", name := "many", desc := "(III)I" } : Jvm.MethodName) prog_3_method_10_code (8 : Nat) (Option.some Jvm.ClassFile.FieldType.int)) ∈ lw_all := lw_g (lw_at lw_m0 116 rfl) rfl
theorem in_X1 : ∀ w ∈ wsX10, w ∈ lw_all := lw_in wsX10 [75, 77, 79, 81] (by decide +kernel) (by decide +kernel)
end
section
theorem q4 : (Jvm.Cond.initialized "ChooseDeskLaw") ∈ lw_all := lw_g (lw_at lw_m0 0 rfl) rfl
set_option maxRecDepth 100000
theorem q7 : (Jvm.Cond.classLink "ChooseDeskLaw" (7 : Nat) "ChooseDesk") ∈ lw_all := lw_g (lw_at lw_m0 3 rfl) rfl
theorem q9 : (Jvm.Cond.methodLink "ChooseDeskLaw" (9 : Nat) ({ cls := "ChooseDesk", name := "<init>", desc := "()V" } : Jvm.MethodName)) ∈ lw_all := lw_g (lw_at lw_m0 5 rfl) rfl
theorem q30 : (Jvm.Cond.methodLink "ChooseDeskLaw" (13 : Nat) ({ cls := "ChooseDesk", name := "prime", desc := "(I)V" } : Jvm.MethodName)) ∈ lw_all := lw_g (lw_at lw_m0 26 rfl) rfl
theorem q37 : (Jvm.Cond.methodLink "ChooseDeskLaw" (18 : Nat) ({ cls := "ChooseDesk", name := "choose", desc := "(II)I" } : Jvm.MethodName)) ∈ lw_all := lw_g (lw_at lw_m0 33 rfl) rfl
theorem q45 : (Jvm.Cond.methodLink "ChooseDeskLaw" (23 : Nat) ({ cls := "ChooseDesk", name := "left", desc := "(I)I" } : Jvm.MethodName)) ∈ lw_all := lw_g (lw_at lw_m0 41 rfl) rfl
theorem q49 : (Jvm.Cond.methodLink "ChooseDeskLaw" (28 : Nat) ({ cls := "ChooseDesk", name := "often", desc := "(II)I" } : Jvm.MethodName)) ∈ lw_all := lw_g (lw_at lw_m0 45 rfl) rfl
theorem q53 : (Jvm.Cond.methodLink "ChooseDeskLaw" (32 : Nat) ({ cls := "ChooseDesk", name := "product", desc := "(I)I" } : Jvm.MethodName)) ∈ lw_all := lw_g (lw_at lw_m0 49 rfl) rfl
theorem q57 : (Jvm.Cond.methodLink "ChooseDeskLaw" (36 : Nat) ({ cls := "ChooseDesk", name := "last", desc := "(I)I" } : Jvm.MethodName)) ∈ lw_all := lw_g (lw_at lw_m0 53 rfl) rfl
theorem q61 : (Jvm.Cond.methodLink "ChooseDeskLaw" (40 : Nat) ({ cls := "ChooseDesk", name := "many", desc := "(III)I" } : Jvm.MethodName)) ∈ lw_all := lw_g (lw_at lw_m0 57 rfl) rfl
theorem q65 : (Jvm.Cond.classLink "ChooseDeskLaw" (10 : Nat) "ChooseDeskModel") ∈ lw_all := lw_g (lw_at lw_m0 61 rfl) rfl
theorem q67 : (Jvm.Cond.methodLink "ChooseDeskLaw" (12 : Nat) ({ cls := "ChooseDeskModel", name := "<init>", desc := "()V" } : Jvm.MethodName)) ∈ lw_all := lw_g (lw_at lw_m0 63 rfl) rfl
theorem q84 : (Jvm.Cond.methodLink "ChooseDeskLaw" (17 : Nat) ({ cls := "ChooseDeskModel", name := "prime", desc := "(I)V" } : Jvm.MethodName)) ∈ lw_all := lw_g (lw_at lw_m0 80 rfl) rfl
theorem q89 : (Jvm.Cond.methodLink "ChooseDeskLaw" (22 : Nat) ({ cls := "ChooseDeskModel", name := "choose", desc := "(II)I" } : Jvm.MethodName)) ∈ lw_all := lw_g (lw_at lw_m0 85 rfl) rfl
theorem q97 : (Jvm.Cond.methodLink "ChooseDeskLaw" (27 : Nat) ({ cls := "ChooseDeskModel", name := "left", desc := "(I)I" } : Jvm.MethodName)) ∈ lw_all := lw_g (lw_at lw_m0 93 rfl) rfl
theorem q101 : (Jvm.Cond.methodLink "ChooseDeskLaw" (31 : Nat) ({ cls := "ChooseDeskModel", name := "often", desc := "(II)I" } : Jvm.MethodName)) ∈ lw_all := lw_g (lw_at lw_m0 97 rfl) rfl
theorem q109 : (Jvm.Cond.methodLink "ChooseDeskLaw" (35 : Nat) ({ cls := "ChooseDeskModel", name := "product", desc := "(I)I" } : Jvm.MethodName)) ∈ lw_all := lw_g (lw_at lw_m0 105 rfl) rfl
theorem q113 : (Jvm.Cond.methodLink "ChooseDeskLaw" (39 : Nat) ({ cls := "ChooseDeskModel", name := "last", desc := "(I)I" } : Jvm.MethodName)) ∈ lw_all := lw_g (lw_at lw_m0 109 rfl) rfl
theorem q117 : (Jvm.Cond.methodLink "ChooseDeskLaw" (44 : Nat) ({ cls := "ChooseDeskModel", name := "many", desc := "(III)I" } : Jvm.MethodName)) ∈ lw_all := lw_g (lw_at lw_m0 113 rfl) rfl
/-! the law's own entry -/
set_option maxRecDepth 100000
abbrev cL_law : ByteArray := code
theorem dL_law_0 : decode cL_law 0 = .ok (.new 7, 3) := by decide +kernel
theorem dL_law_3 : decode cL_law 3 = .ok (.dup, 1) := by decide +kernel
theorem dL_law_4 : decode cL_law 4 = .ok (.invokespecial 9, 3) := by decide +kernel
theorem dL_law_7 : decode cL_law 7 = .ok (.astore_n 1, 1) := by decide +kernel
theorem dL_law_8 : decode cL_law 8 = .ok (.new 10, 3) := by decide +kernel
theorem dL_law_11 : decode cL_law 11 = .ok (.dup, 1) := by decide +kernel
theorem dL_law_12 : decode cL_law 12 = .ok (.invokespecial 12, 3) := by decide +kernel
theorem dL_law_15 : decode cL_law 15 = .ok (.astore_n 2, 1) := by decide +kernel
theorem dL_law_16 : decode cL_law 16 = .ok (.iconst 0, 1) := by decide +kernel
theorem dL_law_17 : decode cL_law 17 = .ok (.istore_n 3, 1) := by decide +kernel
theorem dL_law_18 : decode cL_law 18 = .ok (.iload_n 3, 1) := by decide +kernel
theorem dL_law_19 : decode cL_law 19 = .ok (.aload_n 0, 1) := by decide +kernel
theorem dL_law_20 : decode cL_law 20 = .ok (.arraylength, 1) := by decide +kernel
theorem dL_law_21 : decode cL_law 21 = .ok (.iconst 4, 1) := by decide +kernel
theorem dL_law_22 : decode cL_law 22 = .ok (.isub, 1) := by decide +kernel
theorem dL_law_23 : decode cL_law 23 = .ok (.if_icmp .gt 258, 3) := by decide +kernel
theorem dL_law_26 : decode cL_law 26 = .ok (.aload_n 0, 1) := by decide +kernel
theorem dL_law_27 : decode cL_law 27 = .ok (.iload_n 3, 1) := by decide +kernel
theorem dL_law_28 : decode cL_law 28 = .ok (.iaload, 1) := by decide +kernel
theorem dL_law_29 : decode cL_law 29 = .ok (.bipush 7, 2) := by decide +kernel
theorem dL_law_31 : decode cL_law 31 = .ok (.iand, 1) := by decide +kernel
theorem dL_law_32 : decode cL_law 32 = .ok (.tableswitch 243 0 6 #[44, 65, 98, 121, 154, 177, 200], 44) := by decide +kernel
theorem dL_law_76 : decode cL_law 76 = .ok (.aload_n 1, 1) := by decide +kernel
theorem dL_law_77 : decode cL_law 77 = .ok (.aload_n 0, 1) := by decide +kernel
theorem dL_law_78 : decode cL_law 78 = .ok (.iload_n 3, 1) := by decide +kernel
theorem dL_law_79 : decode cL_law 79 = .ok (.iconst 1, 1) := by decide +kernel
theorem dL_law_80 : decode cL_law 80 = .ok (.iadd, 1) := by decide +kernel
theorem dL_law_81 : decode cL_law 81 = .ok (.iaload, 1) := by decide +kernel
theorem dL_law_82 : decode cL_law 82 = .ok (.invokevirtual 13, 3) := by decide +kernel
theorem dL_law_85 : decode cL_law 85 = .ok (.aload_n 2, 1) := by decide +kernel
theorem dL_law_86 : decode cL_law 86 = .ok (.aload_n 0, 1) := by decide +kernel
theorem dL_law_87 : decode cL_law 87 = .ok (.iload_n 3, 1) := by decide +kernel
theorem dL_law_88 : decode cL_law 88 = .ok (.iconst 1, 1) := by decide +kernel
theorem dL_law_89 : decode cL_law 89 = .ok (.iadd, 1) := by decide +kernel
theorem dL_law_90 : decode cL_law 90 = .ok (.iaload, 1) := by decide +kernel
theorem dL_law_91 : decode cL_law 91 = .ok (.invokevirtual 17, 3) := by decide +kernel
theorem dL_law_94 : decode cL_law 94 = .ok (.goto 181, 3) := by decide +kernel
theorem dL_law_97 : decode cL_law 97 = .ok (.aload_n 1, 1) := by decide +kernel
theorem dL_law_98 : decode cL_law 98 = .ok (.aload_n 0, 1) := by decide +kernel
theorem dL_law_99 : decode cL_law 99 = .ok (.iload_n 3, 1) := by decide +kernel
theorem dL_law_100 : decode cL_law 100 = .ok (.iconst 1, 1) := by decide +kernel
theorem dL_law_101 : decode cL_law 101 = .ok (.iadd, 1) := by decide +kernel
theorem dL_law_102 : decode cL_law 102 = .ok (.iaload, 1) := by decide +kernel
theorem dL_law_103 : decode cL_law 103 = .ok (.aload_n 0, 1) := by decide +kernel
theorem dL_law_104 : decode cL_law 104 = .ok (.iload_n 3, 1) := by decide +kernel
theorem dL_law_105 : decode cL_law 105 = .ok (.iconst 2, 1) := by decide +kernel
theorem dL_law_106 : decode cL_law 106 = .ok (.iadd, 1) := by decide +kernel
theorem dL_law_107 : decode cL_law 107 = .ok (.iaload, 1) := by decide +kernel
theorem dL_law_108 : decode cL_law 108 = .ok (.invokevirtual 18, 3) := by decide +kernel
theorem dL_law_111 : decode cL_law 111 = .ok (.aload_n 2, 1) := by decide +kernel
theorem dL_law_112 : decode cL_law 112 = .ok (.aload_n 0, 1) := by decide +kernel
theorem dL_law_113 : decode cL_law 113 = .ok (.iload_n 3, 1) := by decide +kernel
theorem dL_law_114 : decode cL_law 114 = .ok (.iconst 1, 1) := by decide +kernel
theorem dL_law_115 : decode cL_law 115 = .ok (.iadd, 1) := by decide +kernel
theorem dL_law_116 : decode cL_law 116 = .ok (.iaload, 1) := by decide +kernel
theorem dL_law_117 : decode cL_law 117 = .ok (.aload_n 0, 1) := by decide +kernel
theorem dL_law_118 : decode cL_law 118 = .ok (.iload_n 3, 1) := by decide +kernel
theorem dL_law_119 : decode cL_law 119 = .ok (.iconst 2, 1) := by decide +kernel
theorem dL_law_120 : decode cL_law 120 = .ok (.iadd, 1) := by decide +kernel
theorem dL_law_121 : decode cL_law 121 = .ok (.iaload, 1) := by decide +kernel
theorem dL_law_122 : decode cL_law 122 = .ok (.invokevirtual 22, 3) := by decide +kernel
theorem dL_law_125 : decode cL_law 125 = .ok (.if_icmp .eq 150, 3) := by decide +kernel
theorem dL_law_128 : decode cL_law 128 = .ok (.iconst 0, 1) := by decide +kernel
theorem dL_law_129 : decode cL_law 129 = .ok (.ireturn, 1) := by decide +kernel
theorem dL_law_130 : decode cL_law 130 = .ok (.aload_n 1, 1) := by decide +kernel
theorem dL_law_131 : decode cL_law 131 = .ok (.aload_n 0, 1) := by decide +kernel
theorem dL_law_132 : decode cL_law 132 = .ok (.iload_n 3, 1) := by decide +kernel
theorem dL_law_133 : decode cL_law 133 = .ok (.iconst 1, 1) := by decide +kernel
theorem dL_law_134 : decode cL_law 134 = .ok (.iadd, 1) := by decide +kernel
theorem dL_law_135 : decode cL_law 135 = .ok (.iaload, 1) := by decide +kernel
theorem dL_law_136 : decode cL_law 136 = .ok (.invokevirtual 23, 3) := by decide +kernel
theorem dL_law_139 : decode cL_law 139 = .ok (.aload_n 2, 1) := by decide +kernel
theorem dL_law_140 : decode cL_law 140 = .ok (.aload_n 0, 1) := by decide +kernel
theorem dL_law_141 : decode cL_law 141 = .ok (.iload_n 3, 1) := by decide +kernel
theorem dL_law_142 : decode cL_law 142 = .ok (.iconst 1, 1) := by decide +kernel
theorem dL_law_143 : decode cL_law 143 = .ok (.iadd, 1) := by decide +kernel
theorem dL_law_144 : decode cL_law 144 = .ok (.iaload, 1) := by decide +kernel
theorem dL_law_145 : decode cL_law 145 = .ok (.invokevirtual 27, 3) := by decide +kernel
theorem dL_law_148 : decode cL_law 148 = .ok (.if_icmp .eq 127, 3) := by decide +kernel
theorem dL_law_151 : decode cL_law 151 = .ok (.iconst 0, 1) := by decide +kernel
theorem dL_law_152 : decode cL_law 152 = .ok (.ireturn, 1) := by decide +kernel
theorem dL_law_153 : decode cL_law 153 = .ok (.aload_n 1, 1) := by decide +kernel
theorem dL_law_154 : decode cL_law 154 = .ok (.aload_n 0, 1) := by decide +kernel
theorem dL_law_155 : decode cL_law 155 = .ok (.iload_n 3, 1) := by decide +kernel
theorem dL_law_156 : decode cL_law 156 = .ok (.iconst 1, 1) := by decide +kernel
theorem dL_law_157 : decode cL_law 157 = .ok (.iadd, 1) := by decide +kernel
theorem dL_law_158 : decode cL_law 158 = .ok (.iaload, 1) := by decide +kernel
theorem dL_law_159 : decode cL_law 159 = .ok (.aload_n 0, 1) := by decide +kernel
theorem dL_law_160 : decode cL_law 160 = .ok (.iload_n 3, 1) := by decide +kernel
theorem dL_law_161 : decode cL_law 161 = .ok (.iconst 2, 1) := by decide +kernel
theorem dL_law_162 : decode cL_law 162 = .ok (.iadd, 1) := by decide +kernel
theorem dL_law_163 : decode cL_law 163 = .ok (.iaload, 1) := by decide +kernel
theorem dL_law_164 : decode cL_law 164 = .ok (.invokevirtual 28, 3) := by decide +kernel
theorem dL_law_167 : decode cL_law 167 = .ok (.aload_n 2, 1) := by decide +kernel
theorem dL_law_168 : decode cL_law 168 = .ok (.aload_n 0, 1) := by decide +kernel
theorem dL_law_169 : decode cL_law 169 = .ok (.iload_n 3, 1) := by decide +kernel
theorem dL_law_170 : decode cL_law 170 = .ok (.iconst 1, 1) := by decide +kernel
theorem dL_law_171 : decode cL_law 171 = .ok (.iadd, 1) := by decide +kernel
theorem dL_law_172 : decode cL_law 172 = .ok (.iaload, 1) := by decide +kernel
theorem dL_law_173 : decode cL_law 173 = .ok (.aload_n 0, 1) := by decide +kernel
theorem dL_law_174 : decode cL_law 174 = .ok (.iload_n 3, 1) := by decide +kernel
theorem dL_law_175 : decode cL_law 175 = .ok (.iconst 2, 1) := by decide +kernel
theorem dL_law_176 : decode cL_law 176 = .ok (.iadd, 1) := by decide +kernel
theorem dL_law_177 : decode cL_law 177 = .ok (.iaload, 1) := by decide +kernel
theorem dL_law_178 : decode cL_law 178 = .ok (.invokevirtual 31, 3) := by decide +kernel
theorem dL_law_181 : decode cL_law 181 = .ok (.if_icmp .eq 94, 3) := by decide +kernel
theorem dL_law_184 : decode cL_law 184 = .ok (.iconst 0, 1) := by decide +kernel
theorem dL_law_185 : decode cL_law 185 = .ok (.ireturn, 1) := by decide +kernel
theorem dL_law_186 : decode cL_law 186 = .ok (.aload_n 1, 1) := by decide +kernel
theorem dL_law_187 : decode cL_law 187 = .ok (.aload_n 0, 1) := by decide +kernel
theorem dL_law_188 : decode cL_law 188 = .ok (.iload_n 3, 1) := by decide +kernel
theorem dL_law_189 : decode cL_law 189 = .ok (.iconst 1, 1) := by decide +kernel
theorem dL_law_190 : decode cL_law 190 = .ok (.iadd, 1) := by decide +kernel
theorem dL_law_191 : decode cL_law 191 = .ok (.iaload, 1) := by decide +kernel
theorem dL_law_192 : decode cL_law 192 = .ok (.invokevirtual 32, 3) := by decide +kernel
theorem dL_law_195 : decode cL_law 195 = .ok (.aload_n 2, 1) := by decide +kernel
theorem dL_law_196 : decode cL_law 196 = .ok (.aload_n 0, 1) := by decide +kernel
theorem dL_law_197 : decode cL_law 197 = .ok (.iload_n 3, 1) := by decide +kernel
theorem dL_law_198 : decode cL_law 198 = .ok (.iconst 1, 1) := by decide +kernel
theorem dL_law_199 : decode cL_law 199 = .ok (.iadd, 1) := by decide +kernel
theorem dL_law_200 : decode cL_law 200 = .ok (.iaload, 1) := by decide +kernel
theorem dL_law_201 : decode cL_law 201 = .ok (.invokevirtual 35, 3) := by decide +kernel
theorem dL_law_204 : decode cL_law 204 = .ok (.if_icmp .eq 71, 3) := by decide +kernel
theorem dL_law_207 : decode cL_law 207 = .ok (.iconst 0, 1) := by decide +kernel
theorem dL_law_208 : decode cL_law 208 = .ok (.ireturn, 1) := by decide +kernel
theorem dL_law_209 : decode cL_law 209 = .ok (.aload_n 1, 1) := by decide +kernel
theorem dL_law_210 : decode cL_law 210 = .ok (.aload_n 0, 1) := by decide +kernel
theorem dL_law_211 : decode cL_law 211 = .ok (.iload_n 3, 1) := by decide +kernel
theorem dL_law_212 : decode cL_law 212 = .ok (.iconst 1, 1) := by decide +kernel
theorem dL_law_213 : decode cL_law 213 = .ok (.iadd, 1) := by decide +kernel
theorem dL_law_214 : decode cL_law 214 = .ok (.iaload, 1) := by decide +kernel
theorem dL_law_215 : decode cL_law 215 = .ok (.invokevirtual 36, 3) := by decide +kernel
theorem dL_law_218 : decode cL_law 218 = .ok (.aload_n 2, 1) := by decide +kernel
theorem dL_law_219 : decode cL_law 219 = .ok (.aload_n 0, 1) := by decide +kernel
theorem dL_law_220 : decode cL_law 220 = .ok (.iload_n 3, 1) := by decide +kernel
theorem dL_law_221 : decode cL_law 221 = .ok (.iconst 1, 1) := by decide +kernel
theorem dL_law_222 : decode cL_law 222 = .ok (.iadd, 1) := by decide +kernel
theorem dL_law_223 : decode cL_law 223 = .ok (.iaload, 1) := by decide +kernel
theorem dL_law_224 : decode cL_law 224 = .ok (.invokevirtual 39, 3) := by decide +kernel
theorem dL_law_227 : decode cL_law 227 = .ok (.if_icmp .eq 48, 3) := by decide +kernel
theorem dL_law_230 : decode cL_law 230 = .ok (.iconst 0, 1) := by decide +kernel
theorem dL_law_231 : decode cL_law 231 = .ok (.ireturn, 1) := by decide +kernel
theorem dL_law_232 : decode cL_law 232 = .ok (.aload_n 1, 1) := by decide +kernel
theorem dL_law_233 : decode cL_law 233 = .ok (.aload_n 0, 1) := by decide +kernel
theorem dL_law_234 : decode cL_law 234 = .ok (.iload_n 3, 1) := by decide +kernel
theorem dL_law_235 : decode cL_law 235 = .ok (.iconst 1, 1) := by decide +kernel
theorem dL_law_236 : decode cL_law 236 = .ok (.iadd, 1) := by decide +kernel
theorem dL_law_237 : decode cL_law 237 = .ok (.iaload, 1) := by decide +kernel
theorem dL_law_238 : decode cL_law 238 = .ok (.aload_n 0, 1) := by decide +kernel
theorem dL_law_239 : decode cL_law 239 = .ok (.iload_n 3, 1) := by decide +kernel
theorem dL_law_240 : decode cL_law 240 = .ok (.iconst 2, 1) := by decide +kernel
theorem dL_law_241 : decode cL_law 241 = .ok (.iadd, 1) := by decide +kernel
theorem dL_law_242 : decode cL_law 242 = .ok (.iaload, 1) := by decide +kernel
theorem dL_law_243 : decode cL_law 243 = .ok (.aload_n 0, 1) := by decide +kernel
theorem dL_law_244 : decode cL_law 244 = .ok (.iload_n 3, 1) := by decide +kernel
theorem dL_law_245 : decode cL_law 245 = .ok (.iconst 3, 1) := by decide +kernel
theorem dL_law_246 : decode cL_law 246 = .ok (.iadd, 1) := by decide +kernel
theorem dL_law_247 : decode cL_law 247 = .ok (.iaload, 1) := by decide +kernel
theorem dL_law_248 : decode cL_law 248 = .ok (.invokevirtual 40, 3) := by decide +kernel
theorem dL_law_251 : decode cL_law 251 = .ok (.aload_n 2, 1) := by decide +kernel
theorem dL_law_252 : decode cL_law 252 = .ok (.aload_n 0, 1) := by decide +kernel
theorem dL_law_253 : decode cL_law 253 = .ok (.iload_n 3, 1) := by decide +kernel
theorem dL_law_254 : decode cL_law 254 = .ok (.iconst 1, 1) := by decide +kernel
theorem dL_law_255 : decode cL_law 255 = .ok (.iadd, 1) := by decide +kernel
theorem dL_law_256 : decode cL_law 256 = .ok (.iaload, 1) := by decide +kernel
theorem dL_law_257 : decode cL_law 257 = .ok (.aload_n 0, 1) := by decide +kernel
theorem dL_law_258 : decode cL_law 258 = .ok (.iload_n 3, 1) := by decide +kernel
theorem dL_law_259 : decode cL_law 259 = .ok (.iconst 2, 1) := by decide +kernel
theorem dL_law_260 : decode cL_law 260 = .ok (.iadd, 1) := by decide +kernel
theorem dL_law_261 : decode cL_law 261 = .ok (.iaload, 1) := by decide +kernel
theorem dL_law_262 : decode cL_law 262 = .ok (.aload_n 0, 1) := by decide +kernel
theorem dL_law_263 : decode cL_law 263 = .ok (.iload_n 3, 1) := by decide +kernel
theorem dL_law_264 : decode cL_law 264 = .ok (.iconst 3, 1) := by decide +kernel
theorem dL_law_265 : decode cL_law 265 = .ok (.iadd, 1) := by decide +kernel
theorem dL_law_266 : decode cL_law 266 = .ok (.iaload, 1) := by decide +kernel
theorem dL_law_267 : decode cL_law 267 = .ok (.invokevirtual 44, 3) := by decide +kernel
theorem dL_law_270 : decode cL_law 270 = .ok (.if_icmp .eq 5, 3) := by decide +kernel
theorem dL_law_273 : decode cL_law 273 = .ok (.iconst 0, 1) := by decide +kernel
theorem dL_law_274 : decode cL_law 274 = .ok (.ireturn, 1) := by decide +kernel
theorem dL_law_275 : decode cL_law 275 = .ok (.iinc 3 4, 3) := by decide +kernel
theorem dL_law_278 : decode cL_law 278 = .ok (.goto (-260), 3) := by decide +kernel
theorem dL_law_281 : decode cL_law 281 = .ok (.iconst 1, 1) := by decide +kernel
theorem dL_law_282 : decode cL_law 282 = .ok (.ireturn, 1) := by decide +kernel
end
section
/-! ROWS OF MY OWN: instructions over numbers (nI), a method's start and end, calls that only read -/
/-- a method that only reads: nothing that was there may change -/
def cd_ro (sz : Nat) : Nat → Prop := fun q => sz ≤ q
/-- x & (2^k - 1) -/
def cd_msk (k : Nat) (x : Int32) : Nat := x.toBitVec.toNat % 2 ^ k
theorem cd_msk_lt (k : Nat) (x : Int32) : cd_msk k x < 2 ^ k := Nat.mod_lt _ (Nat.two_pow_pos k)
theorem cd_inc (a : Nat) : nI a + Int32.ofInt 1 = nI (a + 1) := nI_1 a
theorem cd_inc4 (a : Nat) : nI a + Int32.ofInt 4 = nI (a + 4) := nI_add a 4
theorem cd_dec (a : Nat) : nI (a + 1) + Int32.ofInt (-1) = nI a := pk_m1 a
abbrev cd_CL : List vw_C := [(RX0, TX0, 3), (RX1, TX1, 4)]
/-- a ChooseDesk: its object, its two arrays -/
abbrev cd_wX (h a1 a2 : Nat) (c1 c2 : ClassId) (p : Nat) (f g : Nat → Int32) : va_W := [(h, .inr (0, [.int (nI p), .ref a1, .ref a2])), (a1, .inl (c1, 13, .inl f)), (a2, .inl (c2, 13, .inl g))]
/-- a ChooseDeskModel: its object, its three arrays -/
abbrev cd_wM (h b0 b1 b2 : Nat) (c0 c1 c2 : ClassId) (p : Nat) (f0 f1 f2 : Nat → Int32) : va_W := [(h, .inr (1, [.ref b0, .int (nI p), .ref b1, .ref b2])), (b0, .inl (c0, 6, .inl f0)), (b1, .inl (c1, 256, .inl f1)), (b2, .inl (c2, 64, .inl f2))]
section NW
variable {p : Program} {l : Launch} {e : Env} {R : Room} {s : State} {m : MethodId} {args : Array Value} {below : List Frame} {meth : Method} {c : Code} {H : Heap} {locs : List Loc} {cells slots : Nat} {Q : State → Prop}
variable {cc : ByteArray} {pc : Nat} {ls : Array Slot} {rest : List Value}
theorem nw_iadd (hx : p.tables.exec = Jvm.exec) (hb : c.code = cc) {a b : Nat} (hd : decode cc pc = .ok (.iadd, 1)) (k : W p l e R s m args below meth c H locs cells slots Q (F0 m (pc + 1) ls (.int (nI (a + b)) :: rest))) : W p l e R s m args below meth c H locs cells slots Q (F0 m pc ls (.int (nI b) :: .int (nI a) :: rest)) := lv_iadd hx hb hd (by rw [nI_add]; exact k)
theorem nw_imul (hx : p.tables.exec = Jvm.exec) (hb : c.code = cc) {a b : Nat} (hd : decode cc pc = .ok (.imul, 1)) (k : W p l e R s m args below meth c H locs cells slots Q (F0 m (pc + 1) ls (.int (nI (a * b)) :: rest))) : W p l e R s m args below meth c H locs cells slots Q (F0 m pc ls (.int (nI b) :: .int (nI a) :: rest)) := lv_imul hx hb hd (by rw [pk_mul]; exact k)
theorem nw_isub (hx : p.tables.exec = Jvm.exec) (hb : c.code = cc) {a b : Nat} (hd : decode cc pc = .ok (.isub, 1)) (h : b ≤ a) (k : W p l e R s m args below meth c H locs cells slots Q (F0 m (pc + 1) ls (.int (nI (a - b)) :: rest))) : W p l e R s m args below meth c H locs cells slots Q (F0 m pc ls (.int (nI b) :: .int (nI a) :: rest)) := lv_isub hx hb hd (by rw [pk_sub h]; exact k)
theorem nw_idiv (hx : p.tables.exec = Jvm.exec) (hb : c.code = cc) {a b : Nat} (hd : decode cc pc = .ok (.idiv, 1)) (ha : a < 2 ^ 31) (h0 : 0 < b) (h1 : b < 2 ^ 31) (k : W p l e R s m args below meth c H locs cells slots Q (F0 m (pc + 1) ls (.int (nI (a / b)) :: rest))) : W p l e R s m args below meth c H locs cells slots Q (F0 m pc ls (.int (nI b) :: .int (nI a) :: rest)) := lv_idiv hx hb hd (nI_ne0 h0 h1) (by rw [pk_div ha h0 h1]; exact k)
theorem nw_irem (hx : p.tables.exec = Jvm.exec) (hb : c.code = cc) {a b : Nat} (hd : decode cc pc = .ok (.irem, 1)) (ha : a < 2 ^ 31) (h0 : 0 < b) (h1 : b < 2 ^ 31) (k : W p l e R s m args below meth c H locs cells slots Q (F0 m (pc + 1) ls (.int (nI (a % b)) :: rest))) : W p l e R s m args below meth c H locs cells slots Q (F0 m pc ls (.int (nI b) :: .int (nI a) :: rest)) := lv_irem hx hb hd (nI_ne0 h0 h1) (by rw [pk_rem ha h0 h1]; exact k)
theorem nw_iand (hx : p.tables.exec = Jvm.exec) (hb : c.code = cc) {x y : Int32} (j : Nat) (hm : y.toBitVec.toNat = 2 ^ j - 1) (hd : decode cc pc = .ok (.iand, 1)) (k : W p l e R s m args below meth c H locs cells slots Q (F0 m (pc + 1) ls (.int (nI (cd_msk j x)) :: rest))) : W p l e R s m args below meth c H locs cells slots Q (F0 m pc ls (.int y :: .int x :: rest)) := lv_iand hx hb hd (by rw [pk_and x j hm]; exact k)
theorem nw_icmp_ge (hx : p.tables.exec = Jvm.exec) (hb : c.code = cc) {a b : Nat} {off : Int} {tgt : Nat} (hd : decode cc pc = .ok (.if_icmp .ge off, 3)) (ht : (pc : Int) + off = (tgt : Int)) (ha : a < 2 ^ 31) (h2 : b < 2 ^ 31) (kt : b ≤ a → W p l e R s m args below meth c H locs cells slots Q (F0 m tgt ls (rest))) (kf : a < b → W p l e R s m args below meth c H locs cells slots Q (F0 m (pc + 3) ls (rest))) : W p l e R s m args below meth c H locs cells slots Q (F0 m pc ls (.int (nI b) :: .int (nI a) :: rest)) := lv_icmp_ge hx hb hd ht (fun h => kt ((nI_leI h2 ha).mp h)) (fun h => kf (Nat.not_le.mp (fun q => h ((nI_leI h2 ha).mpr q))))
theorem nw_icmp_gt (hx : p.tables.exec = Jvm.exec) (hb : c.code = cc) {a b : Nat} {off : Int} {tgt : Nat} (hd : decode cc pc = .ok (.if_icmp .gt off, 3)) (ht : (pc : Int) + off = (tgt : Int)) (ha : a < 2 ^ 31) (h2 : b < 2 ^ 31) (kt : b < a → W p l e R s m args below meth c H locs cells slots Q (F0 m tgt ls (rest))) (kf : a ≤ b → W p l e R s m args below meth c H locs cells slots Q (F0 m (pc + 3) ls (rest))) : W p l e R s m args below meth c H locs cells slots Q (F0 m pc ls (.int (nI b) :: .int (nI a) :: rest)) := lv_icmp_gt hx hb hd ht (fun h => kt ((nI_ltI h2 ha).mp h)) (fun h => kf (Nat.not_lt.mp (fun q => h ((nI_ltI h2 ha).mpr q))))
theorem nw_icmp_le (hx : p.tables.exec = Jvm.exec) (hb : c.code = cc) {a b : Nat} {off : Int} {tgt : Nat} (hd : decode cc pc = .ok (.if_icmp .le off, 3)) (ht : (pc : Int) + off = (tgt : Int)) (ha : a < 2 ^ 31) (h2 : b < 2 ^ 31) (kt : a ≤ b → W p l e R s m args below meth c H locs cells slots Q (F0 m tgt ls (rest))) (kf : b < a → W p l e R s m args below meth c H locs cells slots Q (F0 m (pc + 3) ls (rest))) : W p l e R s m args below meth c H locs cells slots Q (F0 m pc ls (.int (nI b) :: .int (nI a) :: rest)) := lv_icmp_le hx hb hd ht (fun h => kt ((nI_leI ha h2).mp h)) (fun h => kf (Nat.not_le.mp (fun q => h ((nI_leI ha h2).mpr q))))
theorem nw_icmp_lt (hx : p.tables.exec = Jvm.exec) (hb : c.code = cc) {a b : Nat} {off : Int} {tgt : Nat} (hd : decode cc pc = .ok (.if_icmp .lt off, 3)) (ht : (pc : Int) + off = (tgt : Int)) (ha : a < 2 ^ 31) (h2 : b < 2 ^ 31) (kt : a < b → W p l e R s m args below meth c H locs cells slots Q (F0 m tgt ls (rest))) (kf : b ≤ a → W p l e R s m args below meth c H locs cells slots Q (F0 m (pc + 3) ls (rest))) : W p l e R s m args below meth c H locs cells slots Q (F0 m pc ls (.int (nI b) :: .int (nI a) :: rest)) := lv_icmp_lt hx hb hd ht (fun h => kt ((nI_ltI ha h2).mp h)) (fun h => kf (Nat.not_lt.mp (fun q => h ((nI_ltI ha h2).mpr q))))
theorem nw_icmp_eq (hx : p.tables.exec = Jvm.exec) (hb : c.code = cc) {a b : Nat} {off : Int} {tgt : Nat} (hd : decode cc pc = .ok (.if_icmp .eq off, 3)) (ht : (pc : Int) + off = (tgt : Int)) (ha : a < 2 ^ 31) (h2 : b < 2 ^ 31) (kt : a = b → W p l e R s m args below meth c H locs cells slots Q (F0 m tgt ls (rest))) (kf : a ≠ b → W p l e R s m args below meth c H locs cells slots Q (F0 m (pc + 3) ls (rest))) : W p l e R s m args below meth c H locs cells slots Q (F0 m pc ls (.int (nI b) :: .int (nI a) :: rest)) := lv_icmp_eq hx hb hd ht (fun h => kt ((nI_eq ha h2).mp h)) (fun h => kf (fun q => h ((nI_eq ha h2).mpr q)))
theorem nw_icmp_ne (hx : p.tables.exec = Jvm.exec) (hb : c.code = cc) {a b : Nat} {off : Int} {tgt : Nat} (hd : decode cc pc = .ok (.if_icmp .ne off, 3)) (ht : (pc : Int) + off = (tgt : Int)) (ha : a < 2 ^ 31) (h2 : b < 2 ^ 31) (kt : a ≠ b → W p l e R s m args below meth c H locs cells slots Q (F0 m tgt ls (rest))) (kf : a = b → W p l e R s m args below meth c H locs cells slots Q (F0 m (pc + 3) ls (rest))) : W p l e R s m args below meth c H locs cells slots Q (F0 m pc ls (.int (nI b) :: .int (nI a) :: rest)) := lv_icmp_ne hx hb hd ht (fun h => kt (fun q => h ((nI_eq ha h2).mpr q))) (fun h => kf ((nI_eq ha h2).mp h))
theorem cd_le0 {a : Nat} (ha : a < 2 ^ 31) : nI a ≤ 0 ↔ a = 0 := by
  rw [← nI_0, nI_leI ha (by decide)]
  omega
theorem cd_eq0 {a : Nat} (ha : a < 2 ^ 31) : nI a = 0 ↔ a = 0 := by
  rw [← nI_0, nI_eq ha (by decide)]
theorem nw_if_le (hx : p.tables.exec = Jvm.exec) (hb : c.code = cc) {a : Nat} {off : Int} {tgt : Nat} (hd : decode cc pc = .ok (.ifCond .le off, 3)) (ht : (pc : Int) + off = (tgt : Int)) (ha : a < 2 ^ 31) (kt : a = 0 → W p l e R s m args below meth c H locs cells slots Q (F0 m tgt ls (rest))) (kf : 0 < a → W p l e R s m args below meth c H locs cells slots Q (F0 m (pc + 3) ls (rest))) : W p l e R s m args below meth c H locs cells slots Q (F0 m pc ls (.int (nI a) :: rest)) := lv_if_le hx hb hd ht (fun h => kt ((cd_le0 ha).mp h)) (fun h => kf (Nat.pos_of_ne_zero (fun q => h ((cd_le0 ha).mpr q))))
theorem nw_if_eq (hx : p.tables.exec = Jvm.exec) (hb : c.code = cc) {a : Nat} {off : Int} {tgt : Nat} (hd : decode cc pc = .ok (.ifCond .eq off, 3)) (ht : (pc : Int) + off = (tgt : Int)) (ha : a < 2 ^ 31) (kt : a = 0 → W p l e R s m args below meth c H locs cells slots Q (F0 m tgt ls (rest))) (kf : a ≠ 0 → W p l e R s m args below meth c H locs cells slots Q (F0 m (pc + 3) ls (rest))) : W p l e R s m args below meth c H locs cells slots Q (F0 m pc ls (.int (nI a) :: rest)) := lv_if_eq hx hb hd ht (fun h => kt ((cd_eq0 ha).mp h)) (fun h => kf (fun q => h ((cd_eq0 ha).mpr q)))
theorem nw_if_ne (hx : p.tables.exec = Jvm.exec) (hb : c.code = cc) {a : Nat} {off : Int} {tgt : Nat} (hd : decode cc pc = .ok (.ifCond .ne off, 3)) (ht : (pc : Int) + off = (tgt : Int)) (ha : a < 2 ^ 31) (kt : a ≠ 0 → W p l e R s m args below meth c H locs cells slots Q (F0 m tgt ls (rest))) (kf : a = 0 → W p l e R s m args below meth c H locs cells slots Q (F0 m (pc + 3) ls (rest))) : W p l e R s m args below meth c H locs cells slots Q (F0 m pc ls (.int (nI a) :: rest)) := lv_if_ne hx hb hd ht (fun h => kt (fun q => h ((cd_eq0 ha).mpr q))) (fun h => kf ((cd_eq0 ha).mp h))
/-- the number on top is another's -/
theorem nw_to {x y : Int32} (h : x = y) (k : W p l e R s m args below meth c H locs cells slots Q (F0 m pc ls (.int y :: rest))) : W p l e R s m args below meth c H locs cells slots Q (F0 m pc ls (.int x :: rest)) := by
  subst h
  exact k
theorem gX0 (hx : p.tables.exec = Jvm.exec) (hb : c.code = cc) (hts : ∀ w ∈ lw_all, w.before args s = true) (hown : s.vm.findClass RX0 = some m.cls) {D : va_G} {tys : List (ClassId × FieldType)} {ws : va_W} {a : Nat} (hK : va_K D cd_CL tys s) (hP : va_P D cd_CL ws H) (q0 : Nat) {v0 v1 v2 : Value} (he : ws[q0]? = some (a, .inr (0, [v0, v1, v2]))) (hd : decode cc pc = .ok (.getfield 7, 3)) (k : W p l e R s m args below meth c H locs cells slots Q (F0 m (pc + 3) ls (v0 :: rest))) : W p l e R s m args below meth c H locs cells slots Q (F0 m pc ls (.ref a :: rest)) := va_get (ci := 0) (C := RX0) (T := TX0) (N := 3) hx hb hts in_X0 hown hK hP q0 he rfl 0 (by decide) (hts _ q19) (fun _ h9 => h9) rfl hd k
theorem gX1 (hx : p.tables.exec = Jvm.exec) (hb : c.code = cc) (hts : ∀ w ∈ lw_all, w.before args s = true) (hown : s.vm.findClass RX0 = some m.cls) {D : va_G} {tys : List (ClassId × FieldType)} {ws : va_W} {a : Nat} (hK : va_K D cd_CL tys s) (hP : va_P D cd_CL ws H) (q0 : Nat) {v0 v1 v2 : Value} (he : ws[q0]? = some (a, .inr (0, [v0, v1, v2]))) (hd : decode cc pc = .ok (.getfield 13, 3)) (k : W p l e R s m args below meth c H locs cells slots Q (F0 m (pc + 3) ls (v1 :: rest))) : W p l e R s m args below meth c H locs cells slots Q (F0 m pc ls (.ref a :: rest)) := va_get (ci := 0) (C := RX0) (T := TX0) (N := 3) hx hb hts in_X0 hown hK hP q0 he rfl 1 (by decide) (hts _ q20) (fun _ h9 => h9) rfl hd k
theorem gX2 (hx : p.tables.exec = Jvm.exec) (hb : c.code = cc) (hts : ∀ w ∈ lw_all, w.before args s = true) (hown : s.vm.findClass RX0 = some m.cls) {D : va_G} {tys : List (ClassId × FieldType)} {ws : va_W} {a : Nat} (hK : va_K D cd_CL tys s) (hP : va_P D cd_CL ws H) (q0 : Nat) {v0 v1 v2 : Value} (he : ws[q0]? = some (a, .inr (0, [v0, v1, v2]))) (hd : decode cc pc = .ok (.getfield 17, 3)) (k : W p l e R s m args below meth c H locs cells slots Q (F0 m (pc + 3) ls (v2 :: rest))) : W p l e R s m args below meth c H locs cells slots Q (F0 m pc ls (.ref a :: rest)) := va_get (ci := 0) (C := RX0) (T := TX0) (N := 3) hx hb hts in_X0 hown hK hP q0 he rfl 2 (by decide) (hts _ q21) (fun _ h9 => h9) rfl hd k
theorem gM0 (hx : p.tables.exec = Jvm.exec) (hb : c.code = cc) (hts : ∀ w ∈ lw_all, w.before args s = true) (hown : s.vm.findClass RX1 = some m.cls) {D : va_G} {tys : List (ClassId × FieldType)} {ws : va_W} {a : Nat} (hK : va_K D cd_CL tys s) (hP : va_P D cd_CL ws H) (q0 : Nat) {v0 v1 v2 v3 : Value} (he : ws[q0]? = some (a, .inr (1, [v0, v1, v2, v3]))) (hd : decode cc pc = .ok (.getfield 7, 3)) (k : W p l e R s m args below meth c H locs cells slots Q (F0 m (pc + 3) ls (v0 :: rest))) : W p l e R s m args below meth c H locs cells slots Q (F0 m pc ls (.ref a :: rest)) := va_get (ci := 1) (C := RX1) (T := TX1) (N := 4) hx hb hts in_X1 hown hK hP q0 he rfl 0 (by decide) (hts _ q71) (fun _ h9 => h9) rfl hd k
theorem gM1 (hx : p.tables.exec = Jvm.exec) (hb : c.code = cc) (hts : ∀ w ∈ lw_all, w.before args s = true) (hown : s.vm.findClass RX1 = some m.cls) {D : va_G} {tys : List (ClassId × FieldType)} {ws : va_W} {a : Nat} (hK : va_K D cd_CL tys s) (hP : va_P D cd_CL ws H) (q0 : Nat) {v0 v1 v2 v3 : Value} (he : ws[q0]? = some (a, .inr (1, [v0, v1, v2, v3]))) (hd : decode cc pc = .ok (.getfield 13, 3)) (k : W p l e R s m args below meth c H locs cells slots Q (F0 m (pc + 3) ls (v1 :: rest))) : W p l e R s m args below meth c H locs cells slots Q (F0 m pc ls (.ref a :: rest)) := va_get (ci := 1) (C := RX1) (T := TX1) (N := 4) hx hb hts in_X1 hown hK hP q0 he rfl 1 (by decide) (hts _ q72) (fun _ h9 => h9) rfl hd k
theorem gM2 (hx : p.tables.exec = Jvm.exec) (hb : c.code = cc) (hts : ∀ w ∈ lw_all, w.before args s = true) (hown : s.vm.findClass RX1 = some m.cls) {D : va_G} {tys : List (ClassId × FieldType)} {ws : va_W} {a : Nat} (hK : va_K D cd_CL tys s) (hP : va_P D cd_CL ws H) (q0 : Nat) {v0 v1 v2 v3 : Value} (he : ws[q0]? = some (a, .inr (1, [v0, v1, v2, v3]))) (hd : decode cc pc = .ok (.getfield 17, 3)) (k : W p l e R s m args below meth c H locs cells slots Q (F0 m (pc + 3) ls (v2 :: rest))) : W p l e R s m args below meth c H locs cells slots Q (F0 m pc ls (.ref a :: rest)) := va_get (ci := 1) (C := RX1) (T := TX1) (N := 4) hx hb hts in_X1 hown hK hP q0 he rfl 2 (by decide) (hts _ q73) (fun _ h9 => h9) rfl hd k
theorem gM3 (hx : p.tables.exec = Jvm.exec) (hb : c.code = cc) (hts : ∀ w ∈ lw_all, w.before args s = true) (hown : s.vm.findClass RX1 = some m.cls) {D : va_G} {tys : List (ClassId × FieldType)} {ws : va_W} {a : Nat} (hK : va_K D cd_CL tys s) (hP : va_P D cd_CL ws H) (q0 : Nat) {v0 v1 v2 v3 : Value} (he : ws[q0]? = some (a, .inr (1, [v0, v1, v2, v3]))) (hd : decode cc pc = .ok (.getfield 20, 3)) (k : W p l e R s m args below meth c H locs cells slots Q (F0 m (pc + 3) ls (v3 :: rest))) : W p l e R s m args below meth c H locs cells slots Q (F0 m pc ls (.ref a :: rest)) := va_get (ci := 1) (C := RX1) (T := TX1) (N := 4) hx hb hts in_X1 hown hK hP q0 he rfl 3 (by decide) (hts _ q74) (fun _ h9 => h9) rfl hd k
theorem nw_iald (hx : p.tables.exec = Jvm.exec) (hb : c.code = cc) {D : va_G} {cl : List vw_C} {tys : List (ClassId × FieldType)} {ws : va_W} {a : Nat} (hK : va_K D cl tys s) (hP : va_P D cl ws H) (q0 t0 : Nat) {cA : ClassId} {n : Nat} {f : Nat → Int32} (ha : ws[q0]? = some (a, .inl (cA, n, .inl f))) (ht : tys[t0]? = some (cA, .int)) {i : Nat} (hi : i < n) (hn : n < 2 ^ 31) {v : Int32} (hv : f i = v) (hd : decode cc pc = .ok (.iaload, 1)) (k : W p l e R s m args below meth c H locs cells slots Q (F0 m (pc + 1) ls (.int v :: rest))) : W p l e R s m args below meth c H locs cells slots Q (F0 m pc ls (.int (nI i) :: .ref a :: rest)) := va_iald hx hb hK hP q0 t0 ha ht (vp_in_nI hi hn) hd (by rw [nI_clamp (Nat.lt_trans hi hn), hv]; exact k)
theorem nw_iast (hx : p.tables.exec = Jvm.exec) (hb : c.code = cc) {D : va_G} {cl : List vw_C} {tys : List (ClassId × FieldType)} {ws : va_W} {a : Nat} {A : Nat → Prop} {H0 : Heap} (hK : va_K D cl tys s) (hP : va_P D cl ws H) (hD : va_D A ws) (hS : va_S A H0 H locs) (q0 t0 : Nat) {cA : ClassId} {n : Nat} {f : Nat → Int32} (ha : ws[q0]? = some (a, .inl (cA, n, .inl f))) (ht : tys[t0]? = some (cA, .int)) {i : Nat} {x : Int32} (hi : i < n) (hn : n < 2 ^ 31) (hd : decode cc pc = .ok (.iastore, 1)) (kk : ∀ (H1 : Heap) (locs1 : List Loc), va_P D cl (ws.set q0 (a, .inl (cA, n, .inl (upd f i x)))) H1 → va_D A (ws.set q0 (a, .inl (cA, n, .inl (upd f i x)))) → va_S A H0 H1 locs1 → W p l e R s m args below meth c H1 locs1 cells slots Q (F0 m (pc + 1) ls (rest))) : W p l e R s m args below meth c H locs cells slots Q (F0 m pc ls (.int x :: .int (nI i) :: .ref a :: rest)) := va_iast hx hb hK hP hD hS q0 t0 ha ht (vp_in_nI hi hn) hd (fun H1 l1 h1 h2 h3 => by
  rw [nI_clamp (Nat.lt_trans hi hn)] at h1 h2
  exact kk H1 l1 h1 h2 h3)
theorem ro_calli {A0 : Nat → Prop} {H0 : Heap} {st0 : List Value} {a : Array Value} {val : Int32} {D : va_G} {cl : List vw_C} {ws : va_W} (hr : va_Run p l e R s m args below meth c H locs cells slots 0 0 (F0 m pc ls st0) rest (va_Qi (fun (r : Int32) (_ : Unit) => r = val) (fun _ _ => True) (cd_ro H.size) a) (cd_ro H.size)) (hS : va_S A0 H0 H locs) (hA : ∀ q, H0.size ≤ q → A0 q) (hP : va_P D cl ws H) (kk : ∀ (H1 : Heap) (locs1 : List Loc), va_P D cl ws H1 → va_S A0 H0 H1 locs1 → W p l e R s m args below meth c H1 locs1 cells slots Q (F0 m (pc + 3) ls (.int val :: rest))) : W p l e R s m args below meth c H locs cells slots Q (F0 m pc ls (st0)) :=
  va_calli hr hS (fun q h1 h2 => absurd h2 (Nat.not_le.mpr h1)) (fun q h => hA q (Nat.le_trans hS.1 h)) (fun r u t H1 locs1 ht hvm hw hB hz hk hS1 => by
    have hw : r = val := hw
    subst hw
    exact kk H1 locs1 (hP.kept (fun k q hq => hk q.1 ((hP k q hq).lt) (Nat.not_le.mpr ((hP k q hq).lt)))) hS1)
theorem ro_ret (hx : p.tables.exec = Jvm.exec) (hb : c.code = cc) {val v : Int32} (hr : meth.sig.returnType = some .int) (hlocks : meth.locks = false) (hQ : Q = MQ below (va_Qi (fun (r : Int32) (_ : Unit) => r = val) (fun _ _ => True) (cd_ro s.heap.size)) args s 0 0 (cd_ro s.heap.size)) (hS : va_S (cd_ro s.heap.size) s.heap H locs) (hv : v = val) (hd : decode cc pc = .ok (.ireturn, 1)) : W p l e R s m args below meth c H locs 0 0 Q (F0 m pc ls ([.int v])) := by
  subst hQ
  exact W.iret hx hb hr (fun t ht hW => ⟨⟨v, (), rfl, hv, trivial⟩, hS.F ht⟩) hS.2.2 hd hlocks
end NW
/-- a method's start: what its body may use -/
theorem cd_start {l : Launch} {y : MethodName} {cc : ByteArray} {maxL : Nat} {ret : Option FieldType} {rm : Room} {av : List Value} {B : State → Prop} {Qc : Array Value → State → Outcome → State → Prop} {mc ms : Nat} {free : Addr → Prop} (hy : plainName y.cls = true) (hlen : (lg_sl av).length ≤ maxL)
    (body : ∀ (pg : Program) (e : Env) (s : State) (m : MethodId) (args : Array Value) (below : List Frame) (meth : Method) (c : Code) (ls : Array Slot) (Q : State → Prop), pg.tables.exec = Jvm.exec → c.code = cc → meth.sig.returnType = ret → c.maxLocals = maxL → s.vm.findClass y.cls = some m.cls → meth.locks = false → meth.name = y.name → (∀ w ∈ lw_all, w.before args s = true) → Q = MQ below Qc args s mc ms free → lv_has ls maxL (lv_args 0 av) → B s →
      W pg l e rm s m args below meth c s.heap [] 0 0 Q (F0 m 0 ls [])) : Met l y (ws_ y cc maxL ret) rm (va_Pc av B) Qc mc ms free := by
  refine Met.ofW (cc := cc) (maxL := maxL) (ret := ret) hy rfl ?_
  intro p e s m args below meth c s₁ Bd hml hv
  obtain ⟨rfl, hB⟩ := hv
  have hts := atoms_spec (ws := ws_ y cc maxL ret) Bd.pre
  have hl := lv_entry av (n := maxL) hlen
  rw [lg_entry_eq]
  exact body p e s m _ below meth c _ _ Bd.exec Bd.bytes Bd.returns hml (findClass_of_methodNamed Bd.named) Bd.notSynchronized (name_of_methodNamed Bd.named Bd.method).1 (fun w h => hts w (List.mem_cons_of_mem _ h)) rfl hl hB
/-- what a method of ChooseDesk, of ChooseDeskModel, finds at its start -/
abbrev cd_BX (dC : Nat → ClassId) (dI : Nat → Nat → Nat) (h a1 a2 : Nat) (c1 c2 : ClassId) (sz p : Nat) (f g : Nat → Int32) (U : State) : Prop := U.heap.size = sz ∧ va_P (dC, dI) cd_CL (cd_wX h a1 a2 c1 c2 p f g) U.heap ∧ va_K (dC, dI) cd_CL [(c1, .int), (c2, .int)] U
abbrev cd_BM (dC : Nat → ClassId) (dI : Nat → Nat → Nat) (h b0 b1 b2 : Nat) (c0 c1 c2 : ClassId) (sz p : Nat) (f0 f1 f2 : Nat → Int32) (U : State) : Prop := U.heap.size = sz ∧ va_P (dC, dI) cd_CL (cd_wM h b0 b1 b2 c0 c1 c2 p f0 f1 f2) U.heap ∧ va_K (dC, dI) cd_CL [(c0, .int), (c1, .int), (c2, .int)] U
theorem cd_blP {D : va_G} {ws : va_W} {tys : List (ClassId × FieldType)} {sz : Nat} {av : List Value} : FrameBlind (va_Pc av (fun U => U.heap.size = sz ∧ va_P D cd_CL ws U.heap ∧ va_K D cd_CL tys U)) := fun a U g mk q => by
  obtain ⟨q0, q1, qP, qK⟩ := q
  exact ⟨q0, q1, qP, va_K.moved (u := U) (U := U.calling g mk a) (Vm.Alike.refl U.vm) qK⟩
theorem cd_blD {D : va_G} {ws : va_W} {tys : List (ClassId × FieldType)} {sz : Nat} {av : List Value} : FrameBlind (va_Pc av (fun U => (U.heap.size = sz ∧ va_P D cd_CL ws U.heap ∧ va_K D cd_CL tys U) ∧ va_D (fun _ => True) ws)) := fun a U g mk q => by
  obtain ⟨q0, ⟨q1, qP, qK⟩, qD⟩ := q
  exact ⟨q0, ⟨q1, qP, va_K.moved (u := U) (U := U.calling g mk a) (Vm.Alike.refl U.vm) qK⟩, qD⟩
/-- the call's object and its start, for a callee that only reads -/
theorem cd_preV {s : State} {H : Heap} {D : va_G} {ws wc : va_W} {tys tyc : List (ClassId × FieldType)} {C : String} {b ci : Nat} {fs : List Value} {q : vw_C} {As : List Value} (hK : va_K D cd_CL tys s) (hP : va_P D cd_CL ws H) (is js : List Nat) (h1 : is.filterMap (fun i => ws[i]?) = wc) (h2 : js.filterMap (fun i => tys[i]?) = tyc) (hc : cd_CL[ci]? = some q) (hC : q.1 = C) (he : wc[0]? = some (b, .inr (ci, fs))) :
    PreV s H C b (va_Pc (.ref b :: As) (fun U => U.heap.size = H.size ∧ va_P D cd_CL wc U.heap ∧ va_K D cd_CL tyc U)) As := by
  subst hC
  have hPc := hP.sub is h1
  have hKc := hK.sub js h2
  exact ⟨cd_blP, va_recv hKc hPc hc he, fun U hU hW => ⟨rfl, by rw [hU], by rw [hU]; exact hPc, va_K.moved hW.alike hKc⟩⟩
/-- and for one that writes -/
theorem cd_preD {s : State} {H : Heap} {D : va_G} {A : Nat → Prop} {ws wc : va_W} {tys tyc : List (ClassId × FieldType)} {C : String} {b ci : Nat} {fs : List Value} {q : vw_C} {As : List Value} (hK : va_K D cd_CL tys s) (hP : va_P D cd_CL ws H) (hD : va_D A ws) (is js : List Nat) (hn : va_nd is = true) (h0 : is.map (fun i => ws[i]?) = wc.map some) (h1 : is.filterMap (fun i => ws[i]?) = wc) (h2 : js.filterMap (fun i => tys[i]?) = tyc) (hc : cd_CL[ci]? = some q) (hC : q.1 = C) (he : wc[0]? = some (b, .inr (ci, fs))) :
    PreV s H C b (va_Pc (.ref b :: As) (fun U => (U.heap.size = H.size ∧ va_P D cd_CL wc U.heap ∧ va_K D cd_CL tyc U) ∧ va_D (fun _ => True) wc)) As := by
  subst hC
  have hPc := hP.sub is h1
  have hKc := hK.sub js h2
  have hDc := hD.sub is hn h0
  exact ⟨cd_blD, va_recv hKc hPc hc he, fun U hU hW => ⟨rfl, ⟨by rw [hU], by rw [hU]; exact hPc, va_K.moved hW.alike hKc⟩, hDc.weaken (fun _ _ _ _ => trivial)⟩⟩
/-- rooms: a method that calls nothing, one that calls such a one -/
abbrev cd_r0 : Room := { frames := 0, cells := 0, slots := 0, locals := 0 }
abbrev cd_r1 : Room := { frames := 1, cells := 0, slots := 0, locals := 27 }
/-- ChooseDesk's tables as they must be -/
def cd_okX (p : Nat) (f g : Nat → Int32) : Prop := cd_P p ∧ (∀ k, k < p → f k = nI (cd_fc p k)) ∧ ∀ k, k < p → ∃ u, u < p ∧ u * cd_fc p k % p = 1 ∧ g k = nI u
end
section
/-! ChooseDesk: the methods that only read -/
theorem cd_m2 {p a b : Nat} (hp : p ≤ 13) (ha : a < p) (hb : b < p) : a * b < 2 ^ 31 := by
  have h1 : a * b ≤ 13 * 13 := Nat.mul_le_mul (by omega) (by omega)
  omega
theorem cd_m4 {p a b c d : Nat} (hp : p ≤ 13) (ha : a < p) (hb : b < p) (hc : c < p) (hd : d < p) : a * b * c * d < 2 ^ 31 := by
  have h1 : a * b ≤ 13 * 13 := Nat.mul_le_mul (by omega) (by omega)
  have h2 : a * b * c ≤ 13 * 13 * 13 := Nat.mul_le_mul h1 (by omega)
  have h3 : a * b * c * d ≤ 13 * 13 * 13 * 13 := Nat.mul_le_mul h2 (by omega)
  omega
theorem cd_divlt {x p : Nat} (h : x < 2 ^ 31) : x / p < 2 ^ 31 := Nat.lt_of_le_of_lt (Nat.div_le_self x p) h
theorem cd_geq {a b : Nat} (ha : a < 2 ^ 30) (hb : b < 2 ^ 30) (h : 0 ≤ nI a - nI b) : b ≤ a := by
  rw [Int32.le_iff_toInt_le, pk_sub_toInt ha hb] at h
  have h0 : (0 : Int32).toInt = 0 := by decide
  rw [h0] at h
  omega
theorem cd_x0 {o : Nat} (h : o < 2) : nI o ^^^ nI 0 = nI o := by
  rcases (show o = 0 ∨ o = 1 by omega) with rfl | rfl <;> decide
theorem cd_x1 {o : Nat} (h : o < 2) : nI o ^^^ nI 1 = nI (1 - o) := by
  rcases (show o = 0 ∨ o = 1 by omega) with rfl | rfl <;> decide
/-- two summands' powers never pass their sum's -/
theorem cd_super {p : Nat} (hp : 2 ≤ p) : ∀ (w x y c : Nat), x + y + c < w → c ≤ 1 → cd_leg p x + cd_leg p y ≤ cd_leg p (x + y + c) := by
  intro w
  induction w with
  | zero => intro x y c h; exact absurd h (Nat.not_lt_zero _)
  | succ w ih =>
    intro x y c h hc
    rcases Nat.eq_zero_or_pos (x + y + c) with hz | hz
    · have e1 : x = 0 := by omega
      have e2 : y = 0 := by omega
      subst e1
      subst e2
      rw [cd_leg_0]
      omega
    · have hlt := Nat.div_lt_self hz (show 1 < p by omega)
      have h1 := cd_leg_s hp (x + y + c)
      have h2 := cd_leg_s hp x
      have h3 := cd_leg_s hp y
      rcases Nat.lt_or_ge (x % p + y % p + c) p with q | q
      · have hcol := cd_col (c' := 0) (show 0 < p by omega) (Or.inl ⟨q, rfl⟩)
        rw [hcol] at h1 hlt
        have h4 := ih (x / p) (y / p) 0 (by omega) (by omega)
        omega
      · have hcol := cd_col (c' := 1) (show 0 < p by omega) (Or.inr ⟨q, rfl, hc⟩)
        rw [hcol] at h1 hlt
        have h4 := ih (x / p) (y / p) 1 (by omega) (by omega)
        omega
/-- how often p divides the choices; -1 where there are none -/
def cd_often (p m j : Nat) : Int32 := if j ≤ m then nI (cd_leg p m - (cd_leg p (m - j) + cd_leg p j)) else -1
/-- ways to draw twice -/
def cd_many (p a x y : Nat) : Nat := if x + y ≤ a then (cd_bin a x % p) * (cd_bin (a - x) y % p) % p else 0
set_option maxHeartbeats 4000000 in
set_option maxRecDepth 100000 in
/-- chosen(n, k): the choices modulo p -/
theorem met_X_chosen (l : Launch) (dC : Nat → ClassId) (dI : Nat → Nat → Nat) (h a1 a2 : Nat) (c1 c2 : ClassId) (sz p : Nat) (f g : Nat → Int32) (n k : Nat) (hn : n < 2 ^ 31) (hk : k < 2 ^ 31) (ok : cd_okX p f g) : Met l yX0_chosen (ws_ yX0_chosen cX0_chosen 8 (some .int)) cd_r0 (va_Pc [.ref h, .int (nI n), .int (nI k)] (cd_BX dC dI h a1 a2 c1 c2 sz p f g)) (va_Qi (fun (r : Int32) (_ : Unit) => r = nI (cd_bin n k % p)) (fun _ _ => True) (cd_ro sz)) 0 0 (cd_ro sz) := by
  have hp := ok.1
  have hp0 := hp.pos
  have hp2 := hp.two
  have hp13 := hp.le
  refine cd_start (by decide) (Nat.le_of_ble_eq_true rfl) ?_
  intro pg e s m args below meth c ls Q hx hb hr hml hown hlocks hnm hts hQ hl hB
  obtain ⟨hsz, hP, hK⟩ := hB
  subst hsz
  have hown : s.vm.findClass RX0 = some m.cls := hown
  have hl : lv_has ls 8 [(0, .ref h), (1, .int (nI n)), (2, .int (nI k))] := hl
  have hS : va_S (cd_ro s.heap.size) s.heap s.heap [] := va_S.rf
  have loop : ∀ (w x y r : Nat) (ls : Array Slot), y < w → x < 2 ^ 31 → y < 2 ^ 31 → r < p → r * cd_bin x y % p = cd_bin n k % p → lv_has ls 8 [(0, .ref h), (3, .int (nI x)), (4, .int (nI y)), (5, .int (nI r))] → W pg l e cd_r0 s m args below meth c s.heap [] 0 0 Q (F0 m 8 ls []) := by
    intro w
    induction w with
    | zero => intro x y r ls h1; exact absurd h1 (Nat.not_lt_zero _)
    | succ w ih =>
      intro x y r ls hw hx31 hy31 hrp hinv hl
      refine lv_iload hx hb dX0_chosen_8 (lv_at hl 2 rfl) ?_
      refine nw_if_le (tgt := 94) hx hb dX0_chosen_10 (by decide) hy31 (fun h_10 => ?_) (fun h_10 => ?_)
      · refine lv_iload hx hb dX0_chosen_94 (lv_at hl 3 rfl) ?_
        exact ro_ret hx hb hr hlocks hQ hS (by rw [← hinv, h_10, cd_bin_0, Nat.mul_one, Nat.mod_eq_of_lt hrp]) dX0_chosen_96
      · refine lv_iload_n hx hb dX0_chosen_13 rfl (lv_at hl 1 rfl) ?_
        refine lv_aload_n hx hb dX0_chosen_14 rfl (lv_at hl 0 rfl) ?_
        refine gX0 hx hb hts hown hK hP 0 rfl dX0_chosen_15 ?_
        refine nw_irem hx hb dX0_chosen_18 hx31 hp0 (by omega) ?_
        refine lv_istore (lv' := [(6, .int (nI (x % p))), (0, .ref h), (3, .int (nI x)), (4, .int (nI y)), (5, .int (nI r))]) hx hb dX0_chosen_19 hl (by decide) rfl (fun ls hl => ?_)
        refine lv_iload hx hb dX0_chosen_21 (lv_at hl 3 rfl) ?_
        refine lv_aload_n hx hb dX0_chosen_23 rfl (lv_at hl 1 rfl) ?_
        refine gX0 hx hb hts hown hK hP 0 rfl dX0_chosen_24 ?_
        refine nw_irem hx hb dX0_chosen_27 hy31 hp0 (by omega) ?_
        refine lv_istore (lv' := [(7, .int (nI (y % p))), (6, .int (nI (x % p))), (0, .ref h), (3, .int (nI x)), (4, .int (nI y)), (5, .int (nI r))]) hx hb dX0_chosen_28 hl (by decide) rfl (fun ls hl => ?_)
        refine lv_iload hx hb dX0_chosen_30 (lv_at hl 0 rfl) ?_
        refine lv_iload hx hb dX0_chosen_32 (lv_at hl 1 rfl) ?_
        refine nw_icmp_le (tgt := 39) hx hb dX0_chosen_34 (by decide) (by have := Nat.mod_lt y hp0; omega) (by have := Nat.mod_lt x hp0; omega) (fun h_34 => ?_) (fun h_34 => ?_)
        · obtain ⟨u, hu1, hu2, hu3⟩ := ok.2.2 (y % p) (Nat.mod_lt y hp0)
          obtain ⟨v, hv1, hv2, hv3⟩ := ok.2.2 (x % p - y % p) (by have := Nat.mod_lt x hp0; omega)
          have hxp := Nat.mod_lt x hp0
          have hyp := Nat.mod_lt y hp0
          refine lv_iload hx hb dX0_chosen_39 (lv_at hl 5 rfl) ?_
          refine lv_aload_n hx hb dX0_chosen_41 rfl (lv_at hl 2 rfl) ?_
          refine gX1 hx hb hts hown hK hP 0 rfl dX0_chosen_42 ?_
          refine lv_iload hx hb dX0_chosen_45 (lv_at hl 1 rfl) ?_
          refine nw_iald hx hb hK hP 1 0 rfl rfl (by omega) (by decide) (v := (nI (cd_fc p (x % p)))) (ok.2.1 _ hxp) dX0_chosen_47 ?_
          refine nw_imul hx hb dX0_chosen_48 ?_
          refine lv_aload_n hx hb dX0_chosen_49 rfl (lv_at hl 2 rfl) ?_
          refine gX2 hx hb hts hown hK hP 0 rfl dX0_chosen_50 ?_
          refine lv_iload hx hb dX0_chosen_53 (lv_at hl 0 rfl) ?_
          refine nw_iald hx hb hK hP 2 1 rfl rfl (by omega) (by decide) (v := (nI u)) hu3 dX0_chosen_55 ?_
          refine nw_imul hx hb dX0_chosen_56 ?_
          refine lv_aload_n hx hb dX0_chosen_57 rfl (lv_at hl 2 rfl) ?_
          refine gX2 hx hb hts hown hK hP 0 rfl dX0_chosen_58 ?_
          refine lv_iload hx hb dX0_chosen_61 (lv_at hl 1 rfl) ?_
          refine lv_iload hx hb dX0_chosen_63 (lv_at hl 0 rfl) ?_
          refine nw_isub hx hb dX0_chosen_65 h_34 ?_
          refine nw_iald hx hb hK hP 2 1 rfl rfl (by omega) (by decide) (v := (nI v)) hv3 dX0_chosen_66 ?_
          refine nw_imul hx hb dX0_chosen_67 ?_
          refine lv_aload_n hx hb dX0_chosen_68 rfl (lv_at hl 2 rfl) ?_
          refine gX0 hx hb hts hown hK hP 0 rfl dX0_chosen_69 ?_
          refine nw_irem hx hb dX0_chosen_72 (cd_m4 hp13 hrp (cd_fc_lt hp _) hu1 hv1) hp0 (by omega) ?_
          refine lv_istore (lv' := [(5, .int (nI ((((r * (cd_fc p (x % p))) * u) * v) % p))), (7, .int (nI (y % p))), (6, .int (nI (x % p))), (0, .ref h), (3, .int (nI x)), (4, .int (nI y))]) hx hb dX0_chosen_73 hl (by decide) rfl (fun ls hl => ?_)
          refine lv_iload_n hx hb dX0_chosen_75 rfl (lv_at hl 4 rfl) ?_
          refine lv_aload_n hx hb dX0_chosen_76 rfl (lv_at hl 3 rfl) ?_
          refine gX0 hx hb hts hown hK hP 0 rfl dX0_chosen_77 ?_
          refine nw_idiv hx hb dX0_chosen_80 hx31 hp0 (by omega) ?_
          refine lv_istore_n (lv' := [(3, .int (nI (x / p))), (5, .int (nI ((((r * (cd_fc p (x % p))) * u) * v) % p))), (7, .int (nI (y % p))), (6, .int (nI (x % p))), (0, .ref h), (4, .int (nI y))]) hx hb dX0_chosen_81 rfl hl (by decide) rfl (fun ls hl => ?_)
          refine lv_iload hx hb dX0_chosen_82 (lv_at hl 5 rfl) ?_
          refine lv_aload_n hx hb dX0_chosen_84 rfl (lv_at hl 4 rfl) ?_
          refine gX0 hx hb hts hown hK hP 0 rfl dX0_chosen_85 ?_
          refine nw_idiv hx hb dX0_chosen_88 hy31 hp0 (by omega) ?_
          refine lv_istore (lv' := [(4, .int (nI (y / p))), (3, .int (nI (x / p))), (5, .int (nI ((((r * (cd_fc p (x % p))) * u) * v) % p))), (7, .int (nI (y % p))), (6, .int (nI (x % p))), (0, .ref h)]) hx hb dX0_chosen_89 hl (by decide) rfl (fun ls hl => ?_)
          refine lv_goto (tgt := 8) hx hb dX0_chosen_91 (by decide) ?_
          exact ih (x / p) (y / p) _ ls (by have := Nat.div_lt_self h_10 (show 1 < p by omega); omega) (cd_divlt hx31) (cd_divlt hy31) (Nat.mod_lt _ hp0) (by rw [cd_turn hp h_34 hu2 hv2]; exact hinv) (lv_sub hl [5, 1, 0, 2] rfl)
        · refine lv_iconst (v := nI 0) hx hb dX0_chosen_37 (by decide) ?_
          exact ro_ret hx hb hr hlocks hQ hS (by rw [← hinv, Nat.mul_mod, cd_none hp h_34, Nat.mul_zero, Nat.zero_mod]) dX0_chosen_38
  refine lv_iload_n hx hb dX0_chosen_0 rfl (lv_at hl 1 rfl) ?_
  refine lv_istore_n (lv' := [(3, .int (nI n)), (0, .ref h), (1, .int (nI n)), (2, .int (nI k))]) hx hb dX0_chosen_1 rfl hl (by decide) rfl (fun ls hl => ?_)
  refine lv_iload_n hx hb dX0_chosen_2 rfl (lv_at hl 3 rfl) ?_
  refine lv_istore (lv' := [(4, .int (nI k)), (3, .int (nI n)), (0, .ref h), (1, .int (nI n)), (2, .int (nI k))]) hx hb dX0_chosen_3 hl (by decide) rfl (fun ls hl => ?_)
  refine lv_iconst (v := nI 1) hx hb dX0_chosen_5 (by decide) ?_
  refine lv_istore (lv' := [(5, .int (nI 1)), (4, .int (nI k)), (3, .int (nI n)), (0, .ref h), (1, .int (nI n)), (2, .int (nI k))]) hx hb dX0_chosen_6 hl (by decide) rfl (fun ls hl => ?_)
  exact loop (k + 1) n k 1 ls (by omega) hn hk (by omega) (by rw [Nat.one_mul]) (lv_sub hl [3, 2, 1, 0] rfl)
set_option maxHeartbeats 4000000 in
set_option maxRecDepth 100000 in
/-- choose(n, k) -/
theorem met_X_choose (l : Launch) (dC : Nat → ClassId) (dI : Nat → Nat → Nat) (h a1 a2 : Nat) (c1 c2 : ClassId) (sz p : Nat) (f g : Nat → Int32) (n k : Int32) (ok : cd_okX p f g) : Met l yX0_choose (ws_ yX0_choose cX0_choose 3 (some .int)) cd_r1 (va_Pc [.ref h, .int n, .int k] (cd_BX dC dI h a1 a2 c1 c2 sz p f g)) (va_Qi (fun (r : Int32) (_ : Unit) => r = nI (cd_bin (cd_msk 8 n) (cd_msk 8 k) % p)) (fun _ _ => True) (cd_ro sz)) 0 0 (cd_ro sz) := by
  have hp := ok.1
  have hp0 := hp.pos
  have hp2 := hp.two
  have hp13 := hp.le
  refine cd_start (by decide) (Nat.le_of_ble_eq_true rfl) ?_
  intro pg e s m args below meth c ls Q hx hb hr hml hown hlocks hnm hts hQ hl hB
  obtain ⟨hsz, hP, hK⟩ := hB
  subst hsz
  have hown : s.vm.findClass RX0 = some m.cls := hown
  have hl : lv_has ls 3 [(0, .ref h), (1, .int n), (2, .int k)] := hl
  have hS : va_S (cd_ro s.heap.size) s.heap s.heap [] := va_S.rf
  refine lv_aload_n hx hb dX0_choose_0 rfl (lv_at hl 0 rfl) ?_
  refine lv_iload_n hx hb dX0_choose_1 rfl (lv_at hl 1 rfl) ?_
  refine lv_sipush (v := nI 255) hx hb dX0_choose_2 (by decide) ?_
  refine nw_iand hx hb 8 (by decide) dX0_choose_5 ?_
  refine lv_iload_n hx hb dX0_choose_6 rfl (lv_at hl 2 rfl) ?_
  refine lv_sipush (v := nI 255) hx hb dX0_choose_7 (by decide) ?_
  refine nw_iand hx hb 8 (by decide) dX0_choose_10 ?_
  refine ro_calli (va_runV (As := [.int (nI (cd_msk 8 n)), .int (nI (cd_msk 8 k))]) (rest := []) ⟨hx, hb, hml, hown, hts⟩ (met_X_chosen l dC dI h a1 a2 c1 c2 s.heap.size p f g (cd_msk 8 n) (cd_msk 8 k) (by have := cd_msk_lt 8 n; omega) (by have := cd_msk_lt 8 k; omega) ok) (cwV 2 hts (lw_V q41 q43 qs1 q5 q44) rfl rfl rfl (by decide +kernel) ⟨Nat.le_of_ble_eq_true rfl, Nat.le_of_ble_eq_true rfl⟩) (cd_preV hK hP [0, 1, 2] [0, 1] rfl rfl rfl rfl rfl) rfl rfl hl.1 rfl (lv_room (Nat.le_of_ble_eq_true rfl)) dX0_choose_11 ⟨Nat.le_of_ble_eq_true rfl, Nat.le_of_ble_eq_true rfl⟩) hS (fun q h => h) hP (fun H locs hP hS => ?_)
  exact ro_ret hx hb hr hlocks hQ hS (rfl) dX0_choose_14
set_option maxHeartbeats 4000000 in
set_option maxRecDepth 100000 in
/-- left(n): how many of row n are left -/
theorem met_X_left (l : Launch) (dC : Nat → ClassId) (dI : Nat → Nat → Nat) (h a1 a2 : Nat) (c1 c2 : ClassId) (sz p : Nat) (f g : Nat → Int32) (n : Int32) (ok : cd_okX p f g) : Met l yX0_left (ws_ yX0_left cX0_left 4 (some .int)) cd_r0 (va_Pc [.ref h, .int n] (cd_BX dC dI h a1 a2 c1 c2 sz p f g)) (va_Qi (fun (r : Int32) (_ : Unit) => r = nI (cd_left p (cd_msk 8 n))) (fun _ _ => True) (cd_ro sz)) 0 0 (cd_ro sz) := by
  have hp := ok.1
  have hp0 := hp.pos
  have hp2 := hp.two
  have hp13 := hp.le
  refine cd_start (by decide) (Nat.le_of_ble_eq_true rfl) ?_
  intro pg e s m args below meth c ls Q hx hb hr hml hown hlocks hnm hts hQ hl hB
  obtain ⟨hsz, hP, hK⟩ := hB
  subst hsz
  have hown : s.vm.findClass RX0 = some m.cls := hown
  have hl : lv_has ls 4 [(0, .ref h), (1, .int n)] := hl
  have hS : va_S (cd_ro s.heap.size) s.heap s.heap [] := va_S.rf
  have loop : ∀ (w x r : Nat) (ls : Array Slot), x < w → x < 2 ^ 31 → r * cd_left p x = cd_left p (cd_msk 8 n) → lv_has ls 4 [(0, .ref h), (2, .int (nI r)), (3, .int (nI x))] → W pg l e cd_r0 s m args below meth c s.heap [] 0 0 Q (F0 m 8 ls []) := by
    intro w
    induction w with
    | zero => intro x r ls h1; exact absurd h1 (Nat.not_lt_zero _)
    | succ w ih =>
      intro x r ls hw hx31 hinv hl
      refine lv_iload_n hx hb dX0_left_8 rfl (lv_at hl 2 rfl) ?_
      refine nw_if_le (tgt := 33) hx hb dX0_left_9 (by decide) (by omega) (fun h_9 => ?_) (fun h_9 => ?_)
      · refine lv_iload_n hx hb dX0_left_33 rfl (lv_at hl 1 rfl) ?_
        exact ro_ret hx hb hr hlocks hQ hS (by rw [← hinv, h_9, cd_left_0 hp, Nat.mul_one]) dX0_left_34
      · refine lv_iload_n hx hb dX0_left_12 rfl (lv_at hl 1 rfl) ?_
        refine lv_iload_n hx hb dX0_left_13 rfl (lv_at hl 2 rfl) ?_
        refine lv_aload_n hx hb dX0_left_14 rfl (lv_at hl 0 rfl) ?_
        refine gX0 hx hb hts hown hK hP 0 rfl dX0_left_15 ?_
        refine nw_irem hx hb dX0_left_18 (by omega) (by omega) (by omega) ?_
        refine lv_iconst (v := nI 1) hx hb dX0_left_19 (by decide) ?_
        refine nw_iadd hx hb dX0_left_20 ?_
        refine nw_imul hx hb dX0_left_21 ?_
        refine lv_istore_n (lv' := [(2, .int (nI (r * ((x % p) + 1)))), (0, .ref h), (3, .int (nI x))]) hx hb dX0_left_22 rfl hl (by decide) rfl (fun ls hl => ?_)
        refine lv_iload_n hx hb dX0_left_23 rfl (lv_at hl 2 rfl) ?_
        refine lv_aload_n hx hb dX0_left_24 rfl (lv_at hl 1 rfl) ?_
        refine gX0 hx hb hts hown hK hP 0 rfl dX0_left_25 ?_
        refine nw_idiv hx hb dX0_left_28 (by omega) (by omega) (by omega) ?_
        refine lv_istore_n (lv' := [(3, .int (nI (x / p))), (2, .int (nI (r * ((x % p) + 1)))), (0, .ref h)]) hx hb dX0_left_29 rfl hl (by decide) rfl (fun ls hl => ?_)
        refine lv_goto (tgt := 8) hx hb dX0_left_30 (by decide) ?_
        exact ih (x / p) _ ls (by have := Nat.div_lt_self h_9 (show 1 < p by omega); omega) (cd_divlt hx31) (by rw [← hinv, cd_left_s hp x, Nat.mul_assoc]) (lv_sub hl [2, 1, 0] rfl)
  refine lv_iconst (v := nI 1) hx hb dX0_left_0 (by decide) ?_
  refine lv_istore_n (lv' := [(2, .int (nI 1)), (0, .ref h), (1, .int n)]) hx hb dX0_left_1 rfl hl (by decide) rfl (fun ls hl => ?_)
  refine lv_iload_n hx hb dX0_left_2 rfl (lv_at hl 2 rfl) ?_
  refine lv_sipush (v := nI 255) hx hb dX0_left_3 (by decide) ?_
  refine nw_iand hx hb 8 (by decide) dX0_left_6 ?_
  refine lv_istore_n (lv' := [(3, .int (nI (cd_msk 8 n))), (2, .int (nI 1)), (0, .ref h), (1, .int n)]) hx hb dX0_left_7 rfl hl (by decide) rfl (fun ls hl => ?_)
  exact loop (cd_msk 8 n + 1) (cd_msk 8 n) 1 ls (by omega) (by have := cd_msk_lt 8 n; omega) (Nat.one_mul _) (lv_sub hl [2, 1, 0] rfl)
set_option maxHeartbeats 4000000 in
set_option maxRecDepth 100000 in
/-- product(n): how often p divides the product of 1 .. n -/
theorem met_X_product (l : Launch) (dC : Nat → ClassId) (dI : Nat → Nat → Nat) (h a1 a2 : Nat) (c1 c2 : ClassId) (sz p : Nat) (f g : Nat → Int32) (n : Int32) (ok : cd_okX p f g) : Met l yX0_product (ws_ yX0_product cX0_product 4 (some .int)) cd_r0 (va_Pc [.ref h, .int n] (cd_BX dC dI h a1 a2 c1 c2 sz p f g)) (va_Qi (fun (r : Int32) (_ : Unit) => r = nI (cd_leg p (cd_msk 8 n))) (fun _ _ => True) (cd_ro sz)) 0 0 (cd_ro sz) := by
  have hp := ok.1
  have hp0 := hp.pos
  have hp2 := hp.two
  have hp13 := hp.le
  refine cd_start (by decide) (Nat.le_of_ble_eq_true rfl) ?_
  intro pg e s m args below meth c ls Q hx hb hr hml hown hlocks hnm hts hQ hl hB
  obtain ⟨hsz, hP, hK⟩ := hB
  subst hsz
  have hown : s.vm.findClass RX0 = some m.cls := hown
  have hl : lv_has ls 4 [(0, .ref h), (1, .int n)] := hl
  have hS : va_S (cd_ro s.heap.size) s.heap s.heap [] := va_S.rf
  have loop : ∀ (w x r : Nat) (ls : Array Slot), x < w → x < 2 ^ 31 → r + (x + cd_leg p x) = cd_leg p (cd_msk 8 n) → lv_has ls 4 [(0, .ref h), (2, .int (nI r)), (3, .int (nI x))] → W pg l e cd_r0 s m args below meth c s.heap [] 0 0 Q (F0 m 13 ls []) := by
    intro w
    induction w with
    | zero => intro x r ls h1; exact absurd h1 (Nat.not_lt_zero _)
    | succ w ih =>
      intro x r ls hw hx31 hinv hl
      refine lv_iload_n hx hb dX0_product_13 rfl (lv_at hl 2 rfl) ?_
      refine nw_if_le (tgt := 31) hx hb dX0_product_14 (by decide) (by omega) (fun h_14 => ?_) (fun h_14 => ?_)
      · refine lv_iload_n hx hb dX0_product_31 rfl (lv_at hl 1 rfl) ?_
        exact ro_ret hx hb hr hlocks hQ hS (by rw [← hinv, h_14, cd_leg_0]; rfl) dX0_product_32
      · refine lv_iload_n hx hb dX0_product_17 rfl (lv_at hl 1 rfl) ?_
        refine lv_iload_n hx hb dX0_product_18 rfl (lv_at hl 2 rfl) ?_
        refine nw_iadd hx hb dX0_product_19 ?_
        refine lv_istore_n (lv' := [(2, .int (nI (r + x))), (0, .ref h), (3, .int (nI x))]) hx hb dX0_product_20 rfl hl (by decide) rfl (fun ls hl => ?_)
        refine lv_iload_n hx hb dX0_product_21 rfl (lv_at hl 2 rfl) ?_
        refine lv_aload_n hx hb dX0_product_22 rfl (lv_at hl 1 rfl) ?_
        refine gX0 hx hb hts hown hK hP 0 rfl dX0_product_23 ?_
        refine nw_idiv hx hb dX0_product_26 (by omega) (by omega) (by omega) ?_
        refine lv_istore_n (lv' := [(3, .int (nI (x / p))), (2, .int (nI (r + x))), (0, .ref h)]) hx hb dX0_product_27 rfl hl (by decide) rfl (fun ls hl => ?_)
        refine lv_goto (tgt := 13) hx hb dX0_product_28 (by decide) ?_
        exact ih (x / p) _ ls (by have := Nat.div_lt_self h_14 (show 1 < p by omega); omega) (cd_divlt hx31) (by have := cd_leg_s hp2 x; omega) (lv_sub hl [2, 1, 0] rfl)
  have hm := cd_msk_lt 8 n
  refine lv_iconst (v := nI 0) hx hb dX0_product_0 (by decide) ?_
  refine lv_istore_n (lv' := [(2, .int (nI 0)), (0, .ref h), (1, .int n)]) hx hb dX0_product_1 rfl hl (by decide) rfl (fun ls hl => ?_)
  refine lv_iload_n hx hb dX0_product_2 rfl (lv_at hl 2 rfl) ?_
  refine lv_sipush (v := nI 255) hx hb dX0_product_3 (by decide) ?_
  refine nw_iand hx hb 8 (by decide) dX0_product_6 ?_
  refine lv_aload_n hx hb dX0_product_7 rfl (lv_at hl 1 rfl) ?_
  refine gX0 hx hb hts hown hK hP 0 rfl dX0_product_8 ?_
  refine nw_idiv hx hb dX0_product_11 (by omega) (by omega) (by omega) ?_
  refine lv_istore_n (lv' := [(3, .int (nI ((cd_msk 8 n) / p))), (2, .int (nI 0)), (0, .ref h), (1, .int n)]) hx hb dX0_product_12 rfl hl (by decide) rfl (fun ls hl => ?_)
  exact loop (cd_msk 8 n / p + 1) (cd_msk 8 n / p) 0 ls (by omega) (cd_divlt (by omega)) (by rw [cd_leg_s hp2 (cd_msk 8 n)]; omega) (lv_sub hl [2, 1, 0] rfl)
set_option maxHeartbeats 4000000 in
set_option maxRecDepth 100000 in
/-- often(n, k): the carries -/
theorem met_X_often (l : Launch) (dC : Nat → ClassId) (dI : Nat → Nat → Nat) (h a1 a2 : Nat) (c1 c2 : ClassId) (sz p : Nat) (f g : Nat → Int32) (n k : Int32) (ok : cd_okX p f g) : Met l yX0_often (ws_ yX0_often cX0_often 7 (some .int)) cd_r0 (va_Pc [.ref h, .int n, .int k] (cd_BX dC dI h a1 a2 c1 c2 sz p f g)) (va_Qi (fun (r : Int32) (_ : Unit) => r = cd_often p (cd_msk 8 n) (cd_msk 8 k)) (fun _ _ => True) (cd_ro sz)) 0 0 (cd_ro sz) := by
  have hp := ok.1
  have hp0 := hp.pos
  have hp2 := hp.two
  have hp13 := hp.le
  refine cd_start (by decide) (Nat.le_of_ble_eq_true rfl) ?_
  intro pg e s m args below meth c ls Q hx hb hr hml hown hlocks hnm hts hQ hl hB
  obtain ⟨hsz, hP, hK⟩ := hB
  subst hsz
  have hown : s.vm.findClass RX0 = some m.cls := hown
  have hl : lv_has ls 7 [(0, .ref h), (1, .int n), (2, .int k)] := hl
  have hS : va_S (cd_ro s.heap.size) s.heap s.heap [] := va_S.rf
  have hm := cd_msk_lt 8 n
  have hj := cd_msk_lt 8 k
  refine lv_iload_n hx hb dX0_often_0 rfl (lv_at hl 2 rfl) ?_
  refine lv_sipush (v := nI 255) hx hb dX0_often_1 (by decide) ?_
  refine nw_iand hx hb 8 (by decide) dX0_often_4 ?_
  refine lv_istore_n (lv' := [(3, .int (nI (cd_msk 8 k))), (0, .ref h), (1, .int n), (2, .int k)]) hx hb dX0_often_5 rfl hl (by decide) rfl (fun ls hl => ?_)
  refine lv_iload_n hx hb dX0_often_6 rfl (lv_at hl 2 rfl) ?_
  refine lv_sipush (v := nI 255) hx hb dX0_often_7 (by decide) ?_
  refine nw_iand hx hb 8 (by decide) dX0_often_10 ?_
  refine lv_iload_n hx hb dX0_often_11 rfl (lv_at hl 0 rfl) ?_
  refine lv_isub hx hb dX0_often_12 ?_
  refine lv_istore (lv' := [(4, .int (nI (cd_msk 8 n) - nI (cd_msk 8 k))), (3, .int (nI (cd_msk 8 k))), (0, .ref h), (1, .int n), (2, .int k)]) hx hb dX0_often_13 hl (by decide) rfl (fun ls hl => ?_)
  refine lv_iload hx hb dX0_often_15 (lv_at hl 0 rfl) ?_
  refine lv_if_ge (tgt := 22) hx hb dX0_often_17 (by decide) (fun h_17 => ?_) (fun h_17 => ?_)
  · have hle : (cd_msk 8 k) ≤ (cd_msk 8 n) := cd_geq (by omega) (by omega) h_17
    rw [pk_sub hle] at hl
    have hsup := cd_super hp2 ((cd_msk 8 n) + 1) ((cd_msk 8 n) - (cd_msk 8 k)) (cd_msk 8 k) 0 (by omega) (by omega)
    have hjm : (cd_msk 8 n) - (cd_msk 8 k) + (cd_msk 8 k) + 0 = (cd_msk 8 n) := by omega
    have hjm2 : (cd_msk 8 k) + ((cd_msk 8 n) - (cd_msk 8 k)) + 0 = (cd_msk 8 n) := by omega
    rw [hjm] at hsup
    have hinit : 0 + cd_leg p ((cd_msk 8 k) + ((cd_msk 8 n) - (cd_msk 8 k)) + 0) = (cd_leg p (cd_msk 8 n) - (cd_leg p ((cd_msk 8 n) - (cd_msk 8 k)) + cd_leg p (cd_msk 8 k))) + cd_leg p (cd_msk 8 k) + cd_leg p ((cd_msk 8 n) - (cd_msk 8 k)) := by
      rw [hjm2]
      omega
    have loop : ∀ (w x y cs c0 : Nat) (ls : Array Slot), x + y + c0 < w → x < 2 ^ 30 → y < 2 ^ 30 → c0 ≤ 1 → cs + cd_leg p (x + y + c0) = (cd_leg p (cd_msk 8 n) - (cd_leg p ((cd_msk 8 n) - (cd_msk 8 k)) + cd_leg p (cd_msk 8 k))) + cd_leg p x + cd_leg p y → lv_has ls 7 [(0, .ref h), (3, .int (nI x)), (4, .int (nI y)), (5, .int (nI cs)), (6, .int (nI c0))] → W pg l e cd_r0 s m args below meth c s.heap [] 0 0 Q (F0 m 28 ls []) := by
      intro w
      induction w with
      | zero => intro x y cs c0 ls h1; exact absurd h1 (Nat.not_lt_zero _)
      | succ w ih =>
        intro x y cs c0 ls hw hx30 hy30 hc hinv hl
        refine lv_iload_n hx hb dX0_often_28 rfl (lv_at hl 1 rfl) ?_
        refine lv_iload hx hb dX0_often_29 (lv_at hl 2 rfl) ?_
        refine nw_iadd hx hb dX0_often_31 ?_
        refine lv_iload hx hb dX0_often_32 (lv_at hl 4 rfl) ?_
        refine nw_iadd hx hb dX0_often_34 ?_
        refine nw_if_le (tgt := 95) hx hb dX0_often_35 (by decide) (by omega) (fun h_35 => ?_) (fun h_35 => ?_)
        · refine lv_iload hx hb dX0_often_95 (lv_at hl 3 rfl) ?_
          have e1 : x = 0 := by omega
          have e2 : y = 0 := by omega
          have e3 : c0 = 0 := by omega
          subst e1
          subst e2
          subst e3
          have hz : cs = (cd_leg p (cd_msk 8 n) - (cd_leg p ((cd_msk 8 n) - (cd_msk 8 k)) + cd_leg p (cd_msk 8 k))) := by
            have := cd_leg_0 p
            simp only [Nat.add_zero, this] at hinv
            exact hinv
          exact ro_ret hx hb hr hlocks hQ hS (by rw [hz]; exact (if_pos hle).symm) dX0_often_97
        · have hxp := Nat.mod_lt x hp0
          have hyp := Nat.mod_lt y hp0
          refine lv_iload_n hx hb dX0_often_38 rfl (lv_at hl 1 rfl) ?_
          refine lv_aload_n hx hb dX0_often_39 rfl (lv_at hl 0 rfl) ?_
          refine gX0 hx hb hts hown hK hP 0 rfl dX0_often_40 ?_
          refine nw_irem hx hb dX0_often_43 (by omega) (by omega) (by omega) ?_
          refine lv_iload hx hb dX0_often_44 (lv_at hl 2 rfl) ?_
          refine lv_aload_n hx hb dX0_often_46 rfl (lv_at hl 0 rfl) ?_
          refine gX0 hx hb hts hown hK hP 0 rfl dX0_often_47 ?_
          refine nw_irem hx hb dX0_often_50 (by omega) (by omega) (by omega) ?_
          refine nw_iadd hx hb dX0_often_51 ?_
          refine lv_iload hx hb dX0_often_52 (lv_at hl 4 rfl) ?_
          refine nw_iadd hx hb dX0_often_54 ?_
          refine lv_aload_n hx hb dX0_often_55 rfl (lv_at hl 0 rfl) ?_
          refine gX0 hx hb hts hown hK hP 0 rfl dX0_often_56 ?_
          refine nw_icmp_lt (tgt := 66) hx hb dX0_often_59 (by decide) (by omega) (by omega) (fun h_59 => ?_) (fun h_59 => ?_)
          · refine lv_iconst (v := nI 0) hx hb dX0_often_66 (by decide) ?_
            refine lv_istore (lv' := [(6, .int (nI 0)), (0, .ref h), (3, .int (nI x)), (4, .int (nI y)), (5, .int (nI cs))]) hx hb dX0_often_67 hl (by decide) rfl (fun ls hl => ?_)
            refine lv_iload hx hb dX0_often_69 (lv_at hl 4 rfl) ?_
            refine lv_iload hx hb dX0_often_71 (lv_at hl 0 rfl) ?_
            refine nw_iadd hx hb dX0_often_73 ?_
            refine lv_istore (lv' := [(5, .int (nI (cs + 0))), (6, .int (nI 0)), (0, .ref h), (3, .int (nI x)), (4, .int (nI y))]) hx hb dX0_often_74 hl (by decide) rfl (fun ls hl => ?_)
            refine lv_iload_n hx hb dX0_often_76 rfl (lv_at hl 3 rfl) ?_
            refine lv_aload_n hx hb dX0_often_77 rfl (lv_at hl 2 rfl) ?_
            refine gX0 hx hb hts hown hK hP 0 rfl dX0_often_78 ?_
            refine nw_idiv hx hb dX0_often_81 (by omega) (by omega) (by omega) ?_
            refine lv_istore_n (lv' := [(3, .int (nI (x / p))), (5, .int (nI (cs + 0))), (6, .int (nI 0)), (0, .ref h), (4, .int (nI y))]) hx hb dX0_often_82 rfl hl (by decide) rfl (fun ls hl => ?_)
            refine lv_iload hx hb dX0_often_83 (lv_at hl 4 rfl) ?_
            refine lv_aload_n hx hb dX0_often_85 rfl (lv_at hl 3 rfl) ?_
            refine gX0 hx hb hts hown hK hP 0 rfl dX0_often_86 ?_
            refine nw_idiv hx hb dX0_often_89 (by omega) (by omega) (by omega) ?_
            refine lv_istore (lv' := [(4, .int (nI (y / p))), (3, .int (nI (x / p))), (5, .int (nI (cs + 0))), (6, .int (nI 0)), (0, .ref h)]) hx hb dX0_often_90 hl (by decide) rfl (fun ls hl => ?_)
            refine lv_goto (tgt := 28) hx hb dX0_often_92 (by decide) ?_
            have hcol : (x + y + c0) / p = x / p + y / p + 0 := (cd_col hp0 (Or.inl ⟨h_59, rfl⟩))
            exact ih (x / p) (y / p) (cs + 0) 0 ls (by have := Nat.div_lt_self h_35 (show 1 < p by omega); rw [hcol] at this; omega) (Nat.lt_of_le_of_lt (Nat.div_le_self x p) hx30) (Nat.lt_of_le_of_lt (Nat.div_le_self y p) hy30) (by decide) (cd_kummer hp2 hcol hinv) (lv_sub hl [4, 1, 0, 2, 3] rfl)
          · refine lv_iconst (v := nI 1) hx hb dX0_often_62 (by decide) ?_
            refine lv_goto (tgt := 67) hx hb dX0_often_63 (by decide) ?_
            refine lv_istore (lv' := [(6, .int (nI 1)), (0, .ref h), (3, .int (nI x)), (4, .int (nI y)), (5, .int (nI cs))]) hx hb dX0_often_67 hl (by decide) rfl (fun ls hl => ?_)
            refine lv_iload hx hb dX0_often_69 (lv_at hl 4 rfl) ?_
            refine lv_iload hx hb dX0_often_71 (lv_at hl 0 rfl) ?_
            refine nw_iadd hx hb dX0_often_73 ?_
            refine lv_istore (lv' := [(5, .int (nI (cs + 1))), (6, .int (nI 1)), (0, .ref h), (3, .int (nI x)), (4, .int (nI y))]) hx hb dX0_often_74 hl (by decide) rfl (fun ls hl => ?_)
            refine lv_iload_n hx hb dX0_often_76 rfl (lv_at hl 3 rfl) ?_
            refine lv_aload_n hx hb dX0_often_77 rfl (lv_at hl 2 rfl) ?_
            refine gX0 hx hb hts hown hK hP 0 rfl dX0_often_78 ?_
            refine nw_idiv hx hb dX0_often_81 (by omega) (by omega) (by omega) ?_
            refine lv_istore_n (lv' := [(3, .int (nI (x / p))), (5, .int (nI (cs + 1))), (6, .int (nI 1)), (0, .ref h), (4, .int (nI y))]) hx hb dX0_often_82 rfl hl (by decide) rfl (fun ls hl => ?_)
            refine lv_iload hx hb dX0_often_83 (lv_at hl 4 rfl) ?_
            refine lv_aload_n hx hb dX0_often_85 rfl (lv_at hl 3 rfl) ?_
            refine gX0 hx hb hts hown hK hP 0 rfl dX0_often_86 ?_
            refine nw_idiv hx hb dX0_often_89 (by omega) (by omega) (by omega) ?_
            refine lv_istore (lv' := [(4, .int (nI (y / p))), (3, .int (nI (x / p))), (5, .int (nI (cs + 1))), (6, .int (nI 1)), (0, .ref h)]) hx hb dX0_often_90 hl (by decide) rfl (fun ls hl => ?_)
            refine lv_goto (tgt := 28) hx hb dX0_often_92 (by decide) ?_
            have hcol : (x + y + c0) / p = x / p + y / p + 1 := (cd_col hp0 (Or.inr ⟨h_59, rfl, hc⟩))
            exact ih (x / p) (y / p) (cs + 1) 1 ls (by have := Nat.div_lt_self h_35 (show 1 < p by omega); rw [hcol] at this; omega) (Nat.lt_of_le_of_lt (Nat.div_le_self x p) hx30) (Nat.lt_of_le_of_lt (Nat.div_le_self y p) hy30) (by decide) (cd_kummer hp2 hcol hinv) (lv_sub hl [4, 1, 0, 2, 3] rfl)
    refine lv_iconst (v := nI 0) hx hb dX0_often_22 (by decide) ?_
    refine lv_istore (lv' := [(5, .int (nI 0)), (4, .int (nI ((cd_msk 8 n) - (cd_msk 8 k)))), (3, .int (nI (cd_msk 8 k))), (0, .ref h), (1, .int n), (2, .int k)]) hx hb dX0_often_23 hl (by decide) rfl (fun ls hl => ?_)
    refine lv_iconst (v := nI 0) hx hb dX0_often_25 (by decide) ?_
    refine lv_istore (lv' := [(6, .int (nI 0)), (5, .int (nI 0)), (4, .int (nI ((cd_msk 8 n) - (cd_msk 8 k)))), (3, .int (nI (cd_msk 8 k))), (0, .ref h), (1, .int n), (2, .int k)]) hx hb dX0_often_26 hl (by decide) rfl (fun ls hl => ?_)
    exact loop (cd_msk 8 n + 1) (cd_msk 8 k) ((cd_msk 8 n) - (cd_msk 8 k)) 0 0 ls (by omega) (by omega) (by omega) (by omega) hinit (lv_sub hl [4, 3, 2, 1, 0] rfl)
  · refine lv_iconst (v := -1) hx hb dX0_often_20 (by decide) ?_
    exact ro_ret hx hb hr hlocks hQ hS ((if_neg (fun q => h_17 (by rw [pk_sub q]; exact nI_pos' (by omega)))).symm) dX0_often_21
set_option maxHeartbeats 4000000 in
set_option maxRecDepth 100000 in
/-- last(n): the product of 1 .. n without its factors p, modulo p -/
theorem met_X_last (l : Launch) (dC : Nat → ClassId) (dI : Nat → Nat → Nat) (h a1 a2 : Nat) (c1 c2 : ClassId) (sz p : Nat) (f g : Nat → Int32) (n : Int32) (ok : cd_okX p f g) : Met l yX0_last (ws_ yX0_last cX0_last 5 (some .int)) cd_r0 (va_Pc [.ref h, .int n] (cd_BX dC dI h a1 a2 c1 c2 sz p f g)) (va_Qi (fun (r : Int32) (_ : Unit) => r = nI (cd_ls p (cd_msk 8 n))) (fun _ _ => True) (cd_ro sz)) 0 0 (cd_ro sz) := by
  have hp := ok.1
  have hp0 := hp.pos
  have hp2 := hp.two
  have hp13 := hp.le
  refine cd_start (by decide) (Nat.le_of_ble_eq_true rfl) ?_
  intro pg e s m args below meth c ls Q hx hb hr hml hown hlocks hnm hts hQ hl hB
  obtain ⟨hsz, hP, hK⟩ := hB
  subst hsz
  have hown : s.vm.findClass RX0 = some m.cls := hown
  have hl : lv_has ls 5 [(0, .ref h), (1, .int n)] := hl
  have hS : va_S (cd_ro s.heap.size) s.heap s.heap [] := va_S.rf
  have loop : ∀ (w x r o : Nat) (ls : Array Slot), x < w → x < 2 ^ 31 → r < p → o < 2 → r * cd_sg p o * cd_ls p x % p = cd_ls p (cd_msk 8 n) → lv_has ls 5 [(0, .ref h), (2, .int (nI r)), (3, .int (nI o)), (4, .int (nI x))] → W pg l e cd_r0 s m args below meth c s.heap [] 0 0 Q (F0 m 11 ls []) := by
    intro w
    induction w with
    | zero => intro x r o ls h1; exact absurd h1 (Nat.not_lt_zero _)
    | succ w ih =>
      intro x r o ls hw hx31 hrp ho hinv hl
      refine lv_iload hx hb dX0_last_11 (lv_at hl 3 rfl) ?_
      refine nw_if_le (tgt := 69) hx hb dX0_last_13 (by decide) hx31 (fun h_13 => ?_) (fun h_13 => ?_)
      · refine lv_iload_n hx hb dX0_last_69 rfl (lv_at hl 2 rfl) ?_
        refine nw_if_eq (tgt := 89) hx hb dX0_last_70 (by decide) (by omega) (fun h_70 => ?_) (fun h_70 => ?_)
        · refine lv_iload_n hx hb dX0_last_89 rfl (lv_at hl 1 rfl) ?_
          exact ro_ret hx hb hr hlocks hQ hS (by rw [← hinv, h_13, h_70, cd_sg_0, Nat.mul_one]; show nI r = nI (r * 1 % p); rw [Nat.mul_one, Nat.mod_eq_of_lt hrp]) dX0_last_90
        · refine lv_iload_n hx hb dX0_last_73 rfl (lv_at hl 1 rfl) ?_
          refine lv_aload_n hx hb dX0_last_74 rfl (lv_at hl 0 rfl) ?_
          refine gX0 hx hb hts hown hK hP 0 rfl dX0_last_75 ?_
          refine lv_iconst (v := nI 1) hx hb dX0_last_78 (by decide) ?_
          refine nw_isub hx hb dX0_last_79 (by omega) ?_
          refine nw_imul hx hb dX0_last_80 ?_
          refine lv_aload_n hx hb dX0_last_81 rfl (lv_at hl 0 rfl) ?_
          refine gX0 hx hb hts hown hK hP 0 rfl dX0_last_82 ?_
          refine nw_irem hx hb dX0_last_85 (cd_m2 hp13 hrp (by omega)) hp0 (by omega) ?_
          refine lv_goto (tgt := 90) hx hb dX0_last_86 (by decide) ?_
          exact ro_ret hx hb hr hlocks hQ hS (by rw [← hinv, h_13, (show o = 1 by omega), cd_sg_1]; show nI _ = nI (r * (p - 1) * 1 % p); rw [Nat.mul_one]) dX0_last_90
      · have hxp := Nat.mod_lt x hp0
        refine lv_iload_n hx hb dX0_last_16 rfl (lv_at hl 1 rfl) ?_
        refine lv_aload_n hx hb dX0_last_17 rfl (lv_at hl 0 rfl) ?_
        refine gX1 hx hb hts hown hK hP 0 rfl dX0_last_18 ?_
        refine lv_iload hx hb dX0_last_21 (lv_at hl 3 rfl) ?_
        refine lv_aload_n hx hb dX0_last_23 rfl (lv_at hl 0 rfl) ?_
        refine gX0 hx hb hts hown hK hP 0 rfl dX0_last_24 ?_
        refine nw_irem hx hb dX0_last_27 (by omega) (by omega) (by omega) ?_
        refine nw_iald hx hb hK hP 1 0 rfl rfl (by omega) (by decide) (v := (nI (cd_fc p (x % p)))) (ok.2.1 _ hxp) dX0_last_28 ?_
        refine nw_imul hx hb dX0_last_29 ?_
        refine lv_aload_n hx hb dX0_last_30 rfl (lv_at hl 0 rfl) ?_
        refine gX0 hx hb hts hown hK hP 0 rfl dX0_last_31 ?_
        refine nw_irem hx hb dX0_last_34 (cd_m2 hp13 hrp (cd_fc_lt hp _)) hp0 (by omega) ?_
        refine lv_istore_n (lv' := [(2, .int (nI ((r * (cd_fc p (x % p))) % p))), (0, .ref h), (3, .int (nI o)), (4, .int (nI x))]) hx hb dX0_last_35 rfl hl (by decide) rfl (fun ls hl => ?_)
        refine lv_iload_n hx hb dX0_last_36 rfl (lv_at hl 2 rfl) ?_
        refine lv_iload hx hb dX0_last_37 (lv_at hl 3 rfl) ?_
        refine lv_aload_n hx hb dX0_last_39 rfl (lv_at hl 1 rfl) ?_
        refine gX0 hx hb hts hown hK hP 0 rfl dX0_last_40 ?_
        refine nw_idiv hx hb dX0_last_43 (by omega) (by omega) (by omega) ?_
        refine lv_iconst (v := nI 1) hx hb dX0_last_44 (by decide) ?_
        refine lv_iand hx hb dX0_last_45 ?_
        refine nw_to (pk_andN (Nat.lt_trans (cd_divlt hx31) (by decide)) 1 (by decide)) ?_
        refine lv_iconst (v := nI 1) hx hb dX0_last_46 (by decide) ?_
        refine nw_icmp_ne (tgt := 54) hx hb dX0_last_47 (by decide) (by omega) (by omega) (fun h_47 => ?_) (fun h_47 => ?_)
        · refine lv_iconst (v := nI 0) hx hb dX0_last_54 (by decide) ?_
          refine lv_ixor hx hb dX0_last_55 ?_
          refine nw_to (cd_x0 ho) ?_
          refine lv_istore_n (lv' := [(3, .int (nI o)), (2, .int (nI ((r * (cd_fc p (x % p))) % p))), (0, .ref h), (4, .int (nI x))]) hx hb dX0_last_56 rfl hl (by decide) rfl (fun ls hl => ?_)
          refine lv_iload hx hb dX0_last_57 (lv_at hl 3 rfl) ?_
          refine lv_aload_n hx hb dX0_last_59 rfl (lv_at hl 2 rfl) ?_
          refine gX0 hx hb hts hown hK hP 0 rfl dX0_last_60 ?_
          refine nw_idiv hx hb dX0_last_63 (by omega) (by omega) (by omega) ?_
          refine lv_istore (lv' := [(4, .int (nI (x / p))), (3, .int (nI o)), (2, .int (nI ((r * (cd_fc p (x % p))) % p))), (0, .ref h)]) hx hb dX0_last_64 hl (by decide) rfl (fun ls hl => ?_)
          refine lv_goto (tgt := 11) hx hb dX0_last_66 (by decide) ?_
          exact ih (x / p) _ o ls (by have := Nat.div_lt_self h_13 (show 1 < p by omega); omega) (cd_divlt hx31) (Nat.mod_lt _ hp0) (by omega) (by rw [cd_lturn hp (Or.inl ⟨by omega, rfl⟩)]; exact hinv) (lv_sub hl [3, 2, 1, 0] rfl)
        · refine lv_iconst (v := nI 1) hx hb dX0_last_50 (by decide) ?_
          refine lv_goto (tgt := 55) hx hb dX0_last_51 (by decide) ?_
          refine lv_ixor hx hb dX0_last_55 ?_
          refine nw_to (cd_x1 ho) ?_
          refine lv_istore_n (lv' := [(3, .int (nI (1 - o))), (2, .int (nI ((r * (cd_fc p (x % p))) % p))), (0, .ref h), (4, .int (nI x))]) hx hb dX0_last_56 rfl hl (by decide) rfl (fun ls hl => ?_)
          refine lv_iload hx hb dX0_last_57 (lv_at hl 3 rfl) ?_
          refine lv_aload_n hx hb dX0_last_59 rfl (lv_at hl 2 rfl) ?_
          refine gX0 hx hb hts hown hK hP 0 rfl dX0_last_60 ?_
          refine nw_idiv hx hb dX0_last_63 (by omega) (by omega) (by omega) ?_
          refine lv_istore (lv' := [(4, .int (nI (x / p))), (3, .int (nI (1 - o))), (2, .int (nI ((r * (cd_fc p (x % p))) % p))), (0, .ref h)]) hx hb dX0_last_64 hl (by decide) rfl (fun ls hl => ?_)
          refine lv_goto (tgt := 11) hx hb dX0_last_66 (by decide) ?_
          exact ih (x / p) _ (1 - o) ls (by have := Nat.div_lt_self h_13 (show 1 < p by omega); omega) (cd_divlt hx31) (Nat.mod_lt _ hp0) (by omega) (by rw [cd_lturn hp (Or.inr ⟨h_47, ho, rfl⟩)]; exact hinv) (lv_sub hl [3, 2, 1, 0] rfl)
  refine lv_iconst (v := nI 1) hx hb dX0_last_0 (by decide) ?_
  refine lv_istore_n (lv' := [(2, .int (nI 1)), (0, .ref h), (1, .int n)]) hx hb dX0_last_1 rfl hl (by decide) rfl (fun ls hl => ?_)
  refine lv_iconst (v := nI 0) hx hb dX0_last_2 (by decide) ?_
  refine lv_istore_n (lv' := [(3, .int (nI 0)), (2, .int (nI 1)), (0, .ref h), (1, .int n)]) hx hb dX0_last_3 rfl hl (by decide) rfl (fun ls hl => ?_)
  refine lv_iload_n hx hb dX0_last_4 rfl (lv_at hl 3 rfl) ?_
  refine lv_sipush (v := nI 255) hx hb dX0_last_5 (by decide) ?_
  refine nw_iand hx hb 8 (by decide) dX0_last_8 ?_
  refine lv_istore (lv' := [(4, .int (nI (cd_msk 8 n))), (3, .int (nI 0)), (2, .int (nI 1)), (0, .ref h), (1, .int n)]) hx hb dX0_last_9 hl (by decide) rfl (fun ls hl => ?_)
  exact loop (cd_msk 8 n + 1) (cd_msk 8 n) 1 0 ls (by omega) (by have := cd_msk_lt 8 n; omega) (by omega) (by decide) (by rw [cd_sg_0, Nat.one_mul]; exact Nat.mod_eq_of_lt (cd_ls_lt hp _)) (lv_sub hl [3, 2, 1, 0] rfl)
set_option maxHeartbeats 4000000 in
set_option maxRecDepth 100000 in
/-- many(n, a, b) -/
theorem met_X_many (l : Launch) (dC : Nat → ClassId) (dI : Nat → Nat → Nat) (h a1 a2 : Nat) (c1 c2 : ClassId) (sz p : Nat) (f g : Nat → Int32) (n a b : Int32) (ok : cd_okX p f g) : Met l yX0_many (ws_ yX0_many cX0_many 7 (some .int)) cd_r1 (va_Pc [.ref h, .int n, .int a, .int b] (cd_BX dC dI h a1 a2 c1 c2 sz p f g)) (va_Qi (fun (r : Int32) (_ : Unit) => r = nI (cd_many p (cd_msk 6 n) (cd_msk 6 a) (cd_msk 6 b))) (fun _ _ => True) (cd_ro sz)) 0 0 (cd_ro sz) := by
  have hp := ok.1
  have hp0 := hp.pos
  have hp2 := hp.two
  have hp13 := hp.le
  refine cd_start (by decide) (Nat.le_of_ble_eq_true rfl) ?_
  intro pg e s m args below meth c ls Q hx hb hr hml hown hlocks hnm hts hQ hl hB
  obtain ⟨hsz, hP, hK⟩ := hB
  subst hsz
  have hown : s.vm.findClass RX0 = some m.cls := hown
  have hl : lv_has ls 7 [(0, .ref h), (1, .int n), (2, .int a), (3, .int b)] := hl
  have hS : va_S (cd_ro s.heap.size) s.heap s.heap [] := va_S.rf
  have hn6 := cd_msk_lt 6 n
  have ha6 := cd_msk_lt 6 a
  have hb6 := cd_msk_lt 6 b
  refine lv_iload_n hx hb dX0_many_0 rfl (lv_at hl 1 rfl) ?_
  refine lv_bipush (v := nI 63) hx hb dX0_many_1 (by decide) ?_
  refine nw_iand hx hb 6 (by decide) dX0_many_3 ?_
  refine lv_istore (lv' := [(4, .int (nI (cd_msk 6 n))), (0, .ref h), (1, .int n), (2, .int a), (3, .int b)]) hx hb dX0_many_4 hl (by decide) rfl (fun ls hl => ?_)
  refine lv_iload_n hx hb dX0_many_6 rfl (lv_at hl 3 rfl) ?_
  refine lv_bipush (v := nI 63) hx hb dX0_many_7 (by decide) ?_
  refine nw_iand hx hb 6 (by decide) dX0_many_9 ?_
  refine lv_istore (lv' := [(5, .int (nI (cd_msk 6 a))), (4, .int (nI (cd_msk 6 n))), (0, .ref h), (1, .int n), (2, .int a), (3, .int b)]) hx hb dX0_many_10 hl (by decide) rfl (fun ls hl => ?_)
  refine lv_iload_n hx hb dX0_many_12 rfl (lv_at hl 5 rfl) ?_
  refine lv_bipush (v := nI 63) hx hb dX0_many_13 (by decide) ?_
  refine nw_iand hx hb 6 (by decide) dX0_many_15 ?_
  refine lv_istore (lv' := [(6, .int (nI (cd_msk 6 b))), (5, .int (nI (cd_msk 6 a))), (4, .int (nI (cd_msk 6 n))), (0, .ref h), (1, .int n), (2, .int a), (3, .int b)]) hx hb dX0_many_16 hl (by decide) rfl (fun ls hl => ?_)
  refine lv_iload hx hb dX0_many_18 (lv_at hl 1 rfl) ?_
  refine lv_iload hx hb dX0_many_20 (lv_at hl 0 rfl) ?_
  refine nw_iadd hx hb dX0_many_22 ?_
  refine lv_iload hx hb dX0_many_23 (lv_at hl 2 rfl) ?_
  refine nw_icmp_le (tgt := 30) hx hb dX0_many_25 (by decide) (by omega) (by omega) (fun h_25 => ?_) (fun h_25 => ?_)
  · refine lv_aload_n hx hb dX0_many_30 rfl (lv_at hl 3 rfl) ?_
    refine lv_iload hx hb dX0_many_31 (lv_at hl 2 rfl) ?_
    refine lv_iload hx hb dX0_many_33 (lv_at hl 1 rfl) ?_
    refine ro_calli (va_runV (As := [.int (nI (cd_msk 6 n)), .int (nI (cd_msk 6 a))]) (rest := []) ⟨hx, hb, hml, hown, hts⟩ (met_X_chosen l dC dI h a1 a2 c1 c2 s.heap.size p f g (cd_msk 6 n) (cd_msk 6 a) (by omega) (by omega) ok) (cwV 2 hts (lw_V q41 q43 qs1 q5 q44) rfl rfl rfl (by decide +kernel) ⟨Nat.le_of_ble_eq_true rfl, Nat.le_of_ble_eq_true rfl⟩) (cd_preV hK hP [0, 1, 2] [0, 1] rfl rfl rfl rfl rfl) rfl rfl hl.1 rfl (lv_room (Nat.le_of_ble_eq_true rfl)) dX0_many_35 ⟨Nat.le_of_ble_eq_true rfl, Nat.le_of_ble_eq_true rfl⟩) hS (fun q h => h) hP (fun H locs hP hS => ?_)
    refine lv_aload_n hx hb dX0_many_38 rfl (lv_at hl 3 rfl) ?_
    refine lv_iload hx hb dX0_many_39 (lv_at hl 2 rfl) ?_
    refine lv_iload hx hb dX0_many_41 (lv_at hl 1 rfl) ?_
    refine nw_isub hx hb dX0_many_43 (by omega) ?_
    refine lv_iload hx hb dX0_many_44 (lv_at hl 0 rfl) ?_
    refine ro_calli (va_runV (As := [.int (nI ((cd_msk 6 n) - (cd_msk 6 a))), .int (nI (cd_msk 6 b))]) (rest := [.int (nI (cd_bin (cd_msk 6 n) (cd_msk 6 a) % p))]) ⟨hx, hb, hml, hown, hts⟩ (met_X_chosen l dC dI h a1 a2 c1 c2 H.size p f g ((cd_msk 6 n) - (cd_msk 6 a)) (cd_msk 6 b) (by omega) (by omega) ok) (cwV 2 hts (lw_V q41 q43 qs1 q5 q44) rfl rfl rfl (by decide +kernel) ⟨Nat.le_of_ble_eq_true rfl, Nat.le_of_ble_eq_true rfl⟩) (cd_preV hK hP [0, 1, 2] [0, 1] rfl rfl rfl rfl rfl) rfl rfl hl.1 rfl (lv_room (Nat.le_of_ble_eq_true rfl)) dX0_many_46 ⟨Nat.le_of_ble_eq_true rfl, Nat.le_of_ble_eq_true rfl⟩) hS (fun q h => h) hP (fun H locs hP hS => ?_)
    refine nw_imul hx hb dX0_many_49 ?_
    refine lv_aload_n hx hb dX0_many_50 rfl (lv_at hl 3 rfl) ?_
    refine gX0 hx hb hts hown hK hP 0 rfl dX0_many_51 ?_
    refine nw_irem hx hb dX0_many_54 (cd_m2 hp13 (Nat.mod_lt _ hp0) (Nat.mod_lt _ hp0)) hp0 (by omega) ?_
    exact ro_ret hx hb hr hlocks hQ hS (by rw [cd_many, if_pos h_25]) dX0_many_55
  · refine lv_iconst (v := nI 0) hx hb dX0_many_28 (by decide) ?_
    exact ro_ret hx hb hr hlocks hQ hS (by rw [cd_many, if_neg (by omega)]) dX0_many_29
end
section
/-! ChooseDesk: the methods that write -/
theorem cd_und_s {p k x : Nat} {g : Nat → Int32} (hx : x < p) (h : x * cd_fc p k % p = 1) (hg : ∀ j, j < k → ∃ u, u < p ∧ u * cd_fc p j % p = 1 ∧ g j = nI u) : ∀ j, j < k + 1 → ∃ u, u < p ∧ u * cd_fc p j % p = 1 ∧ upd g k (nI x) j = nI u := by
  intro j hj
  by_cases e : j = k
  · subst e
    exact ⟨x, hx, h, pk_us⟩
  · obtain ⟨u, h1, h2, h3⟩ := hg j (by omega)
    exact ⟨u, h1, h2, by rw [pk_un e]; exact h3⟩
theorem cd_fc_s {p k : Nat} {f : Nat → Int32} (hk : 1 ≤ k) (hf : ∀ j, j < k → f j = nI (cd_fc p j)) : ∀ j, j < k + 1 → upd f k (nI (cd_fc p (k - 1) * k % p)) j = nI (cd_fc p j) := by
  intro j hj
  by_cases e : j = k
  · subst e
    rw [pk_us, ← cd_fc_k hk]
  · rw [pk_un e]
    exact hf j (by omega)
set_option maxHeartbeats 4000000 in
set_option maxRecDepth 100000 in
/-- reckon(): the tables for p -/
theorem met_X_reckon (l : Launch) (dC : Nat → ClassId) (dI : Nat → Nat → Nat) (h a1 a2 : Nat) (c1 c2 : ClassId) (sz p : Nat) (f g : Nat → Int32) (hp : cd_P p) : Met l yX0_reckon (ws_ yX0_reckon cX0_reckon 3 none) cd_r0 (va_Pc [.ref h] (fun U => cd_BX dC dI h a1 a2 c1 c2 sz p f g U ∧ va_D (fun _ => True) (cd_wX h a1 a2 c1 c2 p f g))) (va_Qv (fun u : (Nat → Int32) × (Nat → Int32) => cd_okX p u.1 u.2) (fun u t => va_P (dC, dI) cd_CL (cd_wX h a1 a2 c1 c2 p u.1 u.2) t.heap ∧ va_D (va_A (cd_wX h a1 a2 c1 c2 p f g) sz) (cd_wX h a1 a2 c1 c2 p u.1 u.2)) (va_A (cd_wX h a1 a2 c1 c2 p f g) sz)) 0 0 (va_A (cd_wX h a1 a2 c1 c2 p f g) sz) := by
  have hp0 := hp.pos
  have hp2 := hp.two
  have hp13 := hp.le
  refine cd_start (by decide) (Nat.le_of_ble_eq_true rfl) ?_
  intro pg e s m args below meth c ls Q hx hb hr hml hown hlocks hnm hts hQ hl hB
  obtain ⟨⟨hsz, hP, hK⟩, hD0⟩ := hB
  subst hsz
  have hD := hD0.self (sz := s.heap.size)
  generalize va_A (cd_wX h a1 a2 c1 c2 p f g) s.heap.size = A at hD hQ
  have hown : s.vm.findClass RX0 = some m.cls := hown
  have hl : lv_has ls 3 [(0, .ref h)] := hl
  have hS : va_S A s.heap s.heap [] := va_S.rf
  have loop2 : ∀ (f1 : Nat → Int32) (hf : ∀ j, j < p → f1 j = nI (cd_fc p j)) (w k : Nat) (g1 : Nat → Int32) (H : Heap) (locs : List Loc) (ls : Array Slot), p < k + w → k ≤ p → (∀ j, j < k → ∃ u, u < p ∧ u * cd_fc p j % p = 1 ∧ g1 j = nI u) → va_P (dC, dI) cd_CL (cd_wX h a1 a2 c1 c2 p f1 g1) H → va_D A (cd_wX h a1 a2 c1 c2 p f1 g1) → va_S A s.heap H locs → lv_has ls 3 [(0, .ref h), (1, .int (nI k))] → W pg l e cd_r0 s m args below meth c H locs 0 0 Q (F0 m 46 ls []) := by
    intro f1 hf w
    induction w with
    | zero => intro k g1 H locs ls h1 h2; exact absurd h1 (by omega)
    | succ w ih =>
      intro k g1 H locs ls hw hkp hg hP hD hS hl
      refine lv_iload_n hx hb dX0_reckon_46 rfl (lv_at hl 1 rfl) ?_
      refine lv_aload_n hx hb dX0_reckon_47 rfl (lv_at hl 0 rfl) ?_
      refine gX0 hx hb hts hown hK hP 0 rfl dX0_reckon_48 ?_
      refine nw_icmp_ge (tgt := 92) hx hb dX0_reckon_51 (by decide) (by omega) (by omega) (fun h_51 => ?_) (fun h_51 => ?_)
      · subst hQ
        exact W.vret hx hb hr (fun t ht hW => ⟨⟨(f1, g1), rfl, ⟨hp, hf, fun j hj => hg j (by omega)⟩, by rw [ht]; exact hP, hD⟩, hS.F ht⟩) hS.2.2 dX0_reckon_92
      · refine lv_iconst (v := nI 1) hx hb dX0_reckon_54 (by decide) ?_
        refine lv_istore_n (lv' := [(2, .int (nI 1)), (0, .ref h), (1, .int (nI k))]) hx hb dX0_reckon_55 rfl hl (by decide) rfl (fun ls hl => ?_)
        obtain ⟨z, hz1, hz2⟩ := cd_inv hp k h_51
        have hz0 : 1 ≤ z := by
          rcases Nat.eq_zero_or_pos z with q | q
          · subst q
            rw [Nat.zero_mul, Nat.zero_mod] at hz2
            exact absurd hz2 (by decide)
          · exact q
        have loopx : ∀ (v x : Nat) (ls : Array Slot), z < x + v → x ≤ z → lv_has ls 3 [(0, .ref h), (1, .int (nI k)), (2, .int (nI x))] → W pg l e cd_r0 s m args below meth c H locs 0 0 Q (F0 m 56 ls []) := by
          intro v
          induction v with
          | zero => intro x ls h1 h2; exact absurd h1 (by omega)
          | succ v ihx =>
            intro x ls hv hxz hl
            refine lv_iload_n hx hb dX0_reckon_56 rfl (lv_at hl 2 rfl) ?_
            refine lv_aload_n hx hb dX0_reckon_57 rfl (lv_at hl 0 rfl) ?_
            refine gX1 hx hb hts hown hK hP 0 rfl dX0_reckon_58 ?_
            refine lv_iload_n hx hb dX0_reckon_61 rfl (lv_at hl 1 rfl) ?_
            refine nw_iald hx hb hK hP 1 0 rfl rfl (by omega) (by decide) (v := (nI (cd_fc p k))) (hf k h_51) dX0_reckon_62 ?_
            refine nw_imul hx hb dX0_reckon_63 ?_
            refine lv_aload_n hx hb dX0_reckon_64 rfl (lv_at hl 0 rfl) ?_
            refine gX0 hx hb hts hown hK hP 0 rfl dX0_reckon_65 ?_
            refine nw_irem hx hb dX0_reckon_68 (cd_m2 hp13 (show x < p by omega) (cd_fc_lt hp _)) hp0 (by omega) ?_
            refine lv_iconst (v := nI 1) hx hb dX0_reckon_69 (by decide) ?_
            refine nw_icmp_eq (tgt := 79) hx hb dX0_reckon_70 (by decide) (Nat.lt_trans (Nat.mod_lt _ hp0) (by omega)) (by decide) (fun h_70 => ?_) (fun h_70 => ?_)
            · refine lv_aload_n hx hb dX0_reckon_79 rfl (lv_at hl 0 rfl) ?_
              refine gX2 hx hb hts hown hK hP 0 rfl dX0_reckon_80 ?_
              refine lv_iload_n hx hb dX0_reckon_83 rfl (lv_at hl 1 rfl) ?_
              refine lv_iload_n hx hb dX0_reckon_84 rfl (lv_at hl 2 rfl) ?_
              refine nw_iast hx hb hK hP hD hS 2 1 rfl rfl (by omega) (by decide) dX0_reckon_85 (fun H locs hP hD hS => ?_)
              have hP : va_P (dC, dI) cd_CL (cd_wX h a1 a2 c1 c2 p f1 (upd g1 k (nI x))) H := hP
              have hD : va_D A (cd_wX h a1 a2 c1 c2 p f1 (upd g1 k (nI x))) := hD
              refine lv_iinc (v := nI (k + 1)) (lv' := [(1, .int (nI (k + 1))), (0, .ref h), (2, .int (nI x))]) hx hb dX0_reckon_86 hl (k := 1) rfl (cd_inc k) (by decide) rfl (fun ls hl => ?_)
              refine lv_goto (tgt := 46) hx hb dX0_reckon_89 (by decide) ?_
              exact ih (k + 1) _ H locs ls (by omega) (by omega) (cd_und_s (by omega) h_70 hg) hP hD hS (lv_sub hl [1, 0] rfl)
            · refine lv_iinc (v := nI (x + 1)) (lv' := [(2, .int (nI (x + 1))), (0, .ref h), (1, .int (nI k))]) hx hb dX0_reckon_73 hl (k := 2) rfl (cd_inc x) (by decide) rfl (fun ls hl => ?_)
              refine lv_goto (tgt := 56) hx hb dX0_reckon_76 (by decide) ?_
              exact ihx (x + 1) ls (by omega) (by rcases Nat.eq_or_lt_of_le hxz with q | q; (subst q; exact absurd hz2 h_70); exact q) (lv_sub hl [1, 2, 0] rfl)
        exact loopx (z + 1) 1 ls (by omega) hz0 (lv_sub hl [1, 2, 0] rfl)
  have loop1 : ∀ (w k : Nat) (f1 : Nat → Int32) (H : Heap) (locs : List Loc) (ls : Array Slot), p < k + w → 1 ≤ k → k ≤ p → (∀ j, j < k → f1 j = nI (cd_fc p j)) → va_P (dC, dI) cd_CL (cd_wX h a1 a2 c1 c2 p f1 g) H → va_D A (cd_wX h a1 a2 c1 c2 p f1 g) → va_S A s.heap H locs → lv_has ls 3 [(0, .ref h), (1, .int (nI k))] → W pg l e cd_r0 s m args below meth c H locs 0 0 Q (F0 m 9 ls []) := by
    intro w
    induction w with
    | zero => intro k f1 H locs ls h1 h2 h3; exact absurd h1 (by omega)
    | succ w ih =>
      intro k f1 H locs ls hw hk1 hkp hf hP hD hS hl
      refine lv_iload_n hx hb dX0_reckon_9 rfl (lv_at hl 1 rfl) ?_
      refine lv_aload_n hx hb dX0_reckon_10 rfl (lv_at hl 0 rfl) ?_
      refine gX0 hx hb hts hown hK hP 0 rfl dX0_reckon_11 ?_
      refine nw_icmp_ge (tgt := 44) hx hb dX0_reckon_14 (by decide) (by omega) (by omega) (fun h_14 => ?_) (fun h_14 => ?_)
      · refine lv_iconst (v := nI 0) hx hb dX0_reckon_44 (by decide) ?_
        refine lv_istore_n (lv' := [(1, .int (nI 0)), (0, .ref h)]) hx hb dX0_reckon_45 rfl hl (by decide) rfl (fun ls hl => ?_)
        exact loop2 f1 (fun j hj => hf j (by omega)) (p + 1) 0 g H locs ls (by omega) (by omega) (fun j hj => absurd hj (Nat.not_lt_zero j)) hP hD hS (lv_sub hl [1, 0] rfl)
      · refine lv_aload_n hx hb dX0_reckon_17 rfl (lv_at hl 0 rfl) ?_
        refine gX1 hx hb hts hown hK hP 0 rfl dX0_reckon_18 ?_
        refine lv_iload_n hx hb dX0_reckon_21 rfl (lv_at hl 1 rfl) ?_
        refine lv_aload_n hx hb dX0_reckon_22 rfl (lv_at hl 0 rfl) ?_
        refine gX1 hx hb hts hown hK hP 0 rfl dX0_reckon_23 ?_
        refine lv_iload_n hx hb dX0_reckon_26 rfl (lv_at hl 1 rfl) ?_
        refine lv_iconst (v := nI 1) hx hb dX0_reckon_27 (by decide) ?_
        refine nw_isub hx hb dX0_reckon_28 (by omega) ?_
        refine nw_iald hx hb hK hP 1 0 rfl rfl (by omega) (by decide) (v := (nI (cd_fc p (k - 1)))) (hf (k - 1) (by omega)) dX0_reckon_29 ?_
        refine lv_iload_n hx hb dX0_reckon_30 rfl (lv_at hl 1 rfl) ?_
        refine nw_imul hx hb dX0_reckon_31 ?_
        refine lv_aload_n hx hb dX0_reckon_32 rfl (lv_at hl 0 rfl) ?_
        refine gX0 hx hb hts hown hK hP 0 rfl dX0_reckon_33 ?_
        refine nw_irem hx hb dX0_reckon_36 (cd_m2 hp13 (cd_fc_lt hp _) h_14) hp0 (by omega) ?_
        refine nw_iast hx hb hK hP hD hS 1 0 rfl rfl (by omega) (by decide) dX0_reckon_37 (fun H locs hP hD hS => ?_)
        have hP : va_P (dC, dI) cd_CL (cd_wX h a1 a2 c1 c2 p (upd f1 k (nI (cd_fc p (k - 1) * k % p))) g) H := hP
        have hD : va_D A (cd_wX h a1 a2 c1 c2 p (upd f1 k (nI (cd_fc p (k - 1) * k % p))) g) := hD
        refine lv_iinc (v := nI (k + 1)) (lv' := [(1, .int (nI (k + 1))), (0, .ref h)]) hx hb dX0_reckon_38 hl (k := 1) rfl (cd_inc k) (by decide) rfl (fun ls hl => ?_)
        refine lv_goto (tgt := 9) hx hb dX0_reckon_41 (by decide) ?_
        exact ih (k + 1) _ H locs ls (by omega) (by omega) (by omega) (cd_fc_s hk1 hf) hP hD hS (lv_sub hl [1, 0] rfl)
  refine lv_aload_n hx hb dX0_reckon_0 rfl (lv_at hl 0 rfl) ?_
  refine gX1 hx hb hts hown hK hP 0 rfl dX0_reckon_1 ?_
  refine lv_iconst (v := nI 0) hx hb dX0_reckon_4 (by decide) ?_
  refine lv_iconst (v := nI 1) hx hb dX0_reckon_5 (by decide) ?_
  refine nw_iast hx hb hK hP hD hS 1 0 rfl rfl (by decide) (by decide) dX0_reckon_6 (fun H locs hP hD hS => ?_)
  have hP : va_P (dC, dI) cd_CL (cd_wX h a1 a2 c1 c2 p (upd f 0 (nI 1)) g) H := hP
  have hD : va_D A (cd_wX h a1 a2 c1 c2 p (upd f 0 (nI 1)) g) := hD
  refine lv_iconst (v := nI 1) hx hb dX0_reckon_7 (by decide) ?_
  refine lv_istore_n (lv' := [(1, .int (nI 1)), (0, .ref h)]) hx hb dX0_reckon_8 rfl hl (by decide) rfl (fun ls hl => ?_)
  exact loop1 (p + 1) 1 _ H locs ls (by omega) (by omega) (by omega) (fun j hj => by have e : j = 0 := (by omega); subst e; rw [pk_us]; rfl) hP hD hS (lv_sub hl [1, 0] rfl)
/-- the six primes as the class holds them, where a method may not write -/
abbrev cd_BZ (t0 : Nat) (A : Nat → Prop) (U : State) : Prop := va_Z "ChooseDesk" "PRIMES" "[I" (.ref t0) A U U.heap ∧ va_T .int t0 6 (fun j => .int (nI (cd_pn j))) A U U.heap
set_option maxHeartbeats 4000000 in
set_option maxRecDepth 100000 in
/-- prime(k): another prime, its tables -/
theorem met_X_prime (l : Launch) (dC : Nat → ClassId) (dI : Nat → Nat → Nat) (h a1 a2 : Nat) (c1 c2 : ClassId) (sz p : Nat) (f g : Nat → Int32) (t0 : Nat) (n : Int32) : Met l yX0_prime (ws_ yX0_prime cX0_prime 2 none) cd_r1 (va_Pc [.ref h, .int n] (fun U => (cd_BX dC dI h a1 a2 c1 c2 sz p f g U ∧ va_D (fun _ => True) (cd_wX h a1 a2 c1 c2 p f g)) ∧ cd_BZ t0 (va_A (cd_wX h a1 a2 c1 c2 p f g) sz) U)) (va_Qv (fun u : (Nat → Int32) × (Nat → Int32) => cd_okX (cd_pn (cd_msk 31 n % 6)) u.1 u.2) (fun u t => va_P (dC, dI) cd_CL (cd_wX h a1 a2 c1 c2 (cd_pn (cd_msk 31 n % 6)) u.1 u.2) t.heap ∧ va_D (va_A (cd_wX h a1 a2 c1 c2 p f g) sz) (cd_wX h a1 a2 c1 c2 (cd_pn (cd_msk 31 n % 6)) u.1 u.2)) (va_A (cd_wX h a1 a2 c1 c2 p f g) sz)) 0 0 (va_A (cd_wX h a1 a2 c1 c2 p f g) sz) := by
  refine cd_start (by decide) (Nat.le_of_ble_eq_true rfl) ?_
  intro pg e s m args below meth c ls Q hx hb hr hml hown hlocks hnm hts hQ hl hB
  obtain ⟨⟨⟨hsz, hP, hK⟩, hD0⟩, hZ, hT⟩ := hB
  subst hsz
  have hD := hD0.self (sz := s.heap.size)
  have hA : ∀ q : Nat, s.heap.size ≤ q → va_A (cd_wX h a1 a2 c1 c2 p f g) s.heap.size q := fun q h => Or.inr h
  generalize va_A (cd_wX h a1 a2 c1 c2 p f g) s.heap.size = A at hD hQ hZ hT hA
  have hown : s.vm.findClass RX0 = some m.cls := hown
  have hl : lv_has ls 2 [(0, .ref h), (1, .int n)] := hl
  have hS : va_S A s.heap s.heap [] := va_S.rf
  refine lv_aload_n hx hb dX0_prime_0 rfl (lv_at hl 0 rfl) ?_
  refine va_gets hx hb hZ hS hown (hts _ q34) (fun _ h9 => h9) dX0_prime_1 ?_
  refine lv_iload_n hx hb dX0_prime_4 rfl (lv_at hl 1 rfl) ?_
  refine lv_ldc hx hb hown (hts _ q36) dX0_prime_5 ?_
  refine nw_iand hx hb 31 (by decide) dX0_prime_7 ?_
  refine lv_bipush (v := nI 6) hx hb dX0_prime_8 (by decide) ?_
  refine nw_irem hx hb dX0_prime_10 (cd_msk_lt 31 n) (by decide) (by decide) ?_
  refine va_ti hx hb hT hS (vp_in_nI (Nat.mod_lt (cd_msk 31 n) (show 0 < 6 by decide)) (by decide)) (v := .int (nI (cd_pn (cd_msk 31 n % 6)))) (by rw [nI_clamp (Nat.lt_trans (Nat.mod_lt (cd_msk 31 n) (show 0 < 6 by decide)) (by decide))]) dX0_prime_11 ?_
  refine va_put (D := (dC, dI)) (ci := 0) (v := .int (nI (cd_pn (cd_msk 31 n % 6)))) (ty := .int) (C := RX0) (T := TX0) (N := 3) hx hb hts in_X0 tyX0 tyX0_ok nmX0 hown hK hP hD hS 0 rfl rfl 0 (by decide) (hts _ q19) (fun _ h9 => h9) rfl (by decide +kernel) rfl rfl (Nat.le_of_ble_eq_true rfl) dX0_prime_12 (fun H locs hP hD hS => ?_)
  have hP : va_P (dC, dI) cd_CL (cd_wX h a1 a2 c1 c2 (cd_pn (cd_msk 31 n % 6)) f g) H := hP
  have hD : va_D A (cd_wX h a1 a2 c1 c2 (cd_pn (cd_msk 31 n % 6)) f g) := hD
  refine lv_aload_n hx hb dX0_prime_15 rfl (lv_at hl 0 rfl) ?_
  have hFc := va_free (wc := cd_wX h a1 a2 c1 c2 (cd_pn (cd_msk 31 n % 6)) f g) hD hS hA [0, 1, 2] rfl
  refine va_callv (va_runV (As := []) (rest := []) ⟨hx, hb, hml, hown, hts⟩ (met_X_reckon l dC dI h a1 a2 c1 c2 H.size (cd_pn (cd_msk 31 n % 6)) f g (cd_pn_P _)) (cwV 0 hts (lw_V q15 q17 qs0 q5 q18) rfl rfl rfl (by decide +kernel) ⟨Nat.le_of_ble_eq_true rfl, Nat.le_of_ble_eq_true rfl⟩) (cd_preD hK hP hD [0, 1, 2] [0, 1] rfl rfl rfl rfl rfl rfl rfl) rfl rfl hl.1 rfl (lv_room (Nat.le_of_ble_eq_true rfl)) dX0_prime_16 ⟨Nat.le_of_ble_eq_true rfl, Nat.le_of_ble_eq_true rfl⟩) hS (fun q _ h => hFc q h) hFc (fun u t H1 locs ht hvm hw hB hz1 hk1 hS => ?_)
  obtain ⟨f2, g2⟩ := u
  obtain ⟨hP1, hD1⟩ := hB
  rw [ht] at hP1
  obtain ⟨hP, hD⟩ := va_join (wr := []) (w1 := cd_wX h a1 a2 c1 c2 (cd_pn (cd_msk 31 n % 6)) f2 g2) hP hD [0, 1, 2] [] rfl rfl (by decide) (by decide) hk1 hFc hP1 hD1
  generalize H1 = H at hP hS ⊢
  have hP : va_P (dC, dI) cd_CL (cd_wX h a1 a2 c1 c2 (cd_pn (cd_msk 31 n % 6)) f2 g2) H := hP
  have hD : va_D A (cd_wX h a1 a2 c1 c2 (cd_pn (cd_msk 31 n % 6)) f2 g2) := hD
  have hw : cd_okX (cd_pn (cd_msk 31 n % 6)) f2 g2 := hw
  subst hQ
  exact W.vret hx hb hr (fun t ht hW => ⟨⟨(f2, g2), rfl, hw, by rw [ht]; exact hP, hD⟩, hS.F ht⟩) hS.2.2 dX0_prime_19
abbrev cd_ri : Room := { frames := 1, cells := 2, slots := 26, locals := 27 }
set_option maxHeartbeats 4000000 in
set_option maxRecDepth 100000 in
/-- ChooseDesk(): p is 2 -/
theorem met_X_init (l : Launch) (dC : Nat → ClassId) (dI : Nat → Nat → Nat) (h : Nat) (sz : Nat) : Met l yX0_init (ws_ yX0_init cX0_init 1 none) cd_ri (va_Pc [.ref h] (fun U => (U.heap.size = sz ∧ va_P (dC, dI) cd_CL [(h, .inr (0, [.int 0, .null, .null]))] U.heap ∧ va_K (dC, dI) cd_CL [] U) ∧ va_D (fun _ => True) [(h, .inr (0, [.int 0, .null, .null]))])) (va_Qv (fun u : Nat × Nat × ClassId × ClassId × (Nat → Int32) × (Nat → Int32) => cd_okX 2 u.2.2.2.2.1 u.2.2.2.2.2) (fun u t => va_P (dC, dI) cd_CL (cd_wX h u.1 u.2.1 u.2.2.1 u.2.2.2.1 2 u.2.2.2.2.1 u.2.2.2.2.2) t.heap ∧ va_K (dC, dI) cd_CL [(u.2.2.1, .int), (u.2.2.2.1, .int)] t ∧ va_D (va_A [(h, .inr (0, [.int 0, .null, .null]))] sz) (cd_wX h u.1 u.2.1 u.2.2.1 u.2.2.2.1 2 u.2.2.2.2.1 u.2.2.2.2.2)) (va_A [(h, .inr (0, [.int 0, .null, .null]))] sz)) 2 26 (va_A [(h, .inr (0, [.int 0, .null, .null]))] sz) := by
  refine cd_start (by decide) (Nat.le_of_ble_eq_true rfl) ?_
  intro pg e s m args below meth c ls Q hx hb hr hml hown hlocks hnm hts hQ hl hB
  obtain ⟨⟨hsz, hP, hK⟩, hD0⟩ := hB
  subst hsz
  have hD := hD0.self (sz := s.heap.size)
  have hA : ∀ q : Nat, s.heap.size ≤ q → va_A [(h, .inr (0, [.int 0, .null, .null]))] s.heap.size q := fun q h => Or.inr h
  generalize va_A [(h, .inr (0, [.int 0, .null, .null]))] s.heap.size = A at hD hQ hA
  have hown : s.vm.findClass RX0 = some m.cls := hown
  have hnm : meth.name = "<init>" := hnm
  have hl : lv_has ls 1 [(0, .ref h)] := hl
  have hS : va_S A s.heap s.heap [] := va_S.rf
  refine lv_aload_n hx hb dX0_init_0 rfl (lv_at hl 0 rfl) ?_
  refine W.objInit hx hb hown (hts _ q12) (hts _ q13) (hts _ q14) rfl (by rw [hml]; exact hl.1) rfl dX0_init_1 (Nat.le_of_ble_eq_true rfl) (Nat.le_of_ble_eq_true rfl) ?_
  refine W.eq (g2 := F0 m 4 ls []) rfl ?_
  refine lv_aload_n hx hb dX0_init_4 rfl (lv_at hl 0 rfl) ?_
  refine lv_iconst (v := nI 2) hx hb dX0_init_5 (by decide) ?_
  refine va_put (D := (dC, dI)) (ci := 0) (v := .int (nI 2)) (ty := .int) (C := RX0) (T := TX0) (N := 3) hx hb hts in_X0 tyX0 tyX0_ok nmX0 hown hK hP hD hS 0 rfl rfl 0 (by decide) (hts _ q19) (fun _ h9 => h9) rfl (by decide +kernel) rfl rfl (Nat.le_of_ble_eq_true rfl) dX0_init_6 (fun H locs hP hD hS => ?_)
  have hP : va_P (dC, dI) cd_CL [(h, .inr (0, [.int (nI 2), .null, .null]))] H := hP
  have hD : va_D A [(h, .inr (0, [.int (nI 2), .null, .null]))] := hD
  refine lv_aload_n hx hb dX0_init_9 rfl (lv_at hl 0 rfl) ?_
  refine lv_bipush (v := nI 13) hx hb dX0_init_10 (by decide) ?_
  refine va_newa (atype := .int) (a0 := (13, .inl (fun _ => 0))) (N' := 13) hx hb (hts _ q29) rfl hK hP hD hS hA (fun _ => rfl) (by decide) (by decide) (by decide) (Nat.le_of_ble_eq_true rfl) (Nat.le_of_ble_eq_true rfl) dX0_init_12 (fun a1 c1 H hK hP hD hS => ?_)
  have hP : va_P (dC, dI) cd_CL [(h, .inr (0, [.int (nI 2), .null, .null])), (a1, .inl (c1, 13, .inl (fun _ => 0)))] H := hP
  have hD : va_D A [(h, .inr (0, [.int (nI 2), .null, .null])), (a1, .inl (c1, 13, .inl (fun _ => 0)))] := hD
  refine W.widen (k := 1) (n := 13) (by omega) (by omega) ?_
  refine va_putF (D := (dC, dI)) (ci := 0) (v := .ref a1) (ty := .array .int) (C := RX0) (T := TX0) (N := 3) hx hb hts in_X0 tyX0 tyX0_ok nmX0 hown hK hP hD hS 0 rfl rfl 1 (by decide) (hts _ q20) (fun _ h9 => h9) rfl hnm rfl (by decide +kernel) rfl rfl (Nat.le_of_ble_eq_true rfl) dX0_init_14 (fun H locs hP hD hS => ?_)
  have hP : va_P (dC, dI) cd_CL [(h, .inr (0, [.int (nI 2), .ref a1, .null])), (a1, .inl (c1, 13, .inl (fun _ => 0)))] H := hP
  have hD : va_D A [(h, .inr (0, [.int (nI 2), .ref a1, .null])), (a1, .inl (c1, 13, .inl (fun _ => 0)))] := hD
  refine lv_aload_n hx hb dX0_init_17 rfl (lv_at hl 0 rfl) ?_
  refine lv_bipush (v := nI 13) hx hb dX0_init_18 (by decide) ?_
  refine va_newa (atype := .int) (a0 := (13, .inl (fun _ => 0))) (N' := 13) hx hb (hts _ q29) rfl hK hP hD hS hA (fun _ => rfl) (by decide) (by decide) (by decide) (Nat.le_of_ble_eq_true rfl) (Nat.le_of_ble_eq_true rfl) dX0_init_20 (fun a2 c2 H hK hP hD hS => ?_)
  have hP : va_P (dC, dI) cd_CL [(h, .inr (0, [.int (nI 2), .ref a1, .null])), (a1, .inl (c1, 13, .inl (fun _ => 0))), (a2, .inl (c2, 13, .inl (fun _ => 0)))] H := hP
  have hD : va_D A [(h, .inr (0, [.int (nI 2), .ref a1, .null])), (a1, .inl (c1, 13, .inl (fun _ => 0))), (a2, .inl (c2, 13, .inl (fun _ => 0)))] := hD
  refine W.widen (k := 2) (n := 26) (by omega) (by omega) ?_
  refine va_putF (D := (dC, dI)) (ci := 0) (v := .ref a2) (ty := .array .int) (C := RX0) (T := TX0) (N := 3) hx hb hts in_X0 tyX0 tyX0_ok nmX0 hown hK hP hD hS 0 rfl rfl 2 (by decide) (hts _ q21) (fun _ h9 => h9) rfl hnm rfl (by decide +kernel) rfl rfl (Nat.le_of_ble_eq_true rfl) dX0_init_22 (fun H locs hP hD hS => ?_)
  have hP : va_P (dC, dI) cd_CL [(h, .inr (0, [.int (nI 2), .ref a1, .ref a2])), (a1, .inl (c1, 13, .inl (fun _ => 0))), (a2, .inl (c2, 13, .inl (fun _ => 0)))] H := hP
  have hD : va_D A [(h, .inr (0, [.int (nI 2), .ref a1, .ref a2])), (a1, .inl (c1, 13, .inl (fun _ => 0))), (a2, .inl (c2, 13, .inl (fun _ => 0)))] := hD
  refine lv_aload_n hx hb dX0_init_25 rfl (lv_at hl 0 rfl) ?_
  have hP : va_P (dC, dI) cd_CL (cd_wX h a1 a2 c1 c2 2 (fun _ => 0) (fun _ => 0)) H := hP
  have hD : va_D A (cd_wX h a1 a2 c1 c2 2 (fun _ => 0) (fun _ => 0)) := hD
  have hK : va_K (dC, dI) cd_CL [(c1, .int), (c2, .int)] s := hK
  have hFc := va_free (wc := cd_wX h a1 a2 c1 c2 2 (fun _ => 0) (fun _ => 0)) hD hS hA [0, 1, 2] rfl
  refine va_callv (va_runV (As := []) (rest := []) ⟨hx, hb, hml, hown, hts⟩ (met_X_reckon l dC dI h a1 a2 c1 c2 H.size 2 (fun _ => 0) (fun _ => 0) (Or.inl rfl)) (cwV 0 hts (lw_V q15 q17 qs0 q5 q18) rfl rfl rfl (by decide +kernel) ⟨Nat.le_of_ble_eq_true rfl, Nat.le_of_ble_eq_true rfl⟩) (cd_preD hK hP hD [0, 1, 2] [0, 1] rfl rfl rfl rfl rfl rfl rfl) rfl rfl hl.1 rfl (lv_room (Nat.le_of_ble_eq_true rfl)) dX0_init_26 ⟨Nat.le_of_ble_eq_true rfl, Nat.le_of_ble_eq_true rfl⟩) hS (fun q _ h => hFc q h) hFc (fun u t H1 locs ht hvm hw hB hz1 hk1 hS => ?_)
  obtain ⟨f2, g2⟩ := u
  obtain ⟨hP1, hD1⟩ := hB
  rw [ht] at hP1
  obtain ⟨hP, hD⟩ := va_join (wr := []) (w1 := cd_wX h a1 a2 c1 c2 2 f2 g2) hP hD [0, 1, 2] [] rfl rfl (by decide) (by decide) hk1 hFc hP1 hD1
  generalize H1 = H at hP hS ⊢
  have hP : va_P (dC, dI) cd_CL (cd_wX h a1 a2 c1 c2 2 f2 g2) H := hP
  have hD : va_D A (cd_wX h a1 a2 c1 c2 2 f2 g2) := hD
  have hw : cd_okX 2 f2 g2 := hw
  subst hQ
  exact W.vret hx hb hr (fun t ht hW => ⟨⟨(a1, a2, c1, c2, f2, g2), rfl, hw, by rw [ht]; exact hP, va_K.moved hW.alike hK, hD⟩, hS.F ht⟩) hS.2.2 dX0_init_29
end
section
/-! ChooseDeskModel: the methods that only read -/
theorem cd_divpos {x p : Nat} (hx : 0 < x) (h : x % p = 0) : 0 < x / p := by
  have e := Nat.div_add_mod x p
  rcases Nat.eq_zero_or_pos (x / p) with q | q
  · rw [q, h, Nat.mul_zero] at e
    omega
  · exact q
set_option maxHeartbeats 4000000 in
set_option maxRecDepth 100000 in
/-- power(v): how often p divides v -/
theorem met_M_power (l : Launch) (dC : Nat → ClassId) (dI : Nat → Nat → Nat) (h b0 b1 b2 : Nat) (c0 c1 c2 : ClassId) (sz p : Nat) (f0 f1 f2 : Nat → Int32) (v : Nat) (hv0 : 0 < v) (hv : v < 2 ^ 31) (hp : cd_P p) : Met l yX1_power (ws_ yX1_power cX1_power 4 (some .int)) cd_r0 (va_Pc [.ref h, .int (nI v)] (cd_BM dC dI h b0 b1 b2 c0 c1 c2 sz p f0 f1 f2)) (va_Qi (fun (r : Int32) (_ : Unit) => r = nI (cd_vp p v)) (fun _ _ => True) (cd_ro sz)) 0 0 (cd_ro sz) := by
  have hp0 := hp.pos
  have hp2 := hp.two
  have hp13 := hp.le
  refine cd_start (by decide) (Nat.le_of_ble_eq_true rfl) ?_
  intro pg e s m args below meth c ls Q hx hb hr hml hown hlocks hnm hts hQ hl hB
  obtain ⟨hsz, hP, hK⟩ := hB
  subst hsz
  have hown : s.vm.findClass RX1 = some m.cls := hown
  have hl : lv_has ls 4 [(0, .ref h), (1, .int (nI v))] := hl
  have hS : va_S (cd_ro s.heap.size) s.heap s.heap [] := va_S.rf
  have loop : ∀ (w x k : Nat) (ls : Array Slot), x < w → 0 < x → x < 2 ^ 31 → k + cd_vp p x = cd_vp p v → lv_has ls 4 [(0, .ref h), (2, .int (nI k)), (3, .int (nI x))] → W pg l e cd_r0 s m args below meth c s.heap [] 0 0 Q (F0 m 4 ls []) := by
    intro w
    induction w with
    | zero => intro x k ls h1; exact absurd h1 (Nat.not_lt_zero _)
    | succ w ih =>
      intro x k ls hw hx0 hx31 hinv hl
      refine lv_iload_n hx hb dX1_power_4 rfl (lv_at hl 2 rfl) ?_
      refine lv_aload_n hx hb dX1_power_5 rfl (lv_at hl 0 rfl) ?_
      refine gM1 hx hb hts hown hK hP 0 rfl dX1_power_6 ?_
      refine nw_irem hx hb dX1_power_9 (by omega) (by omega) (by omega) ?_
      refine nw_if_ne (tgt := 27) hx hb dX1_power_10 (by decide) (Nat.lt_trans (Nat.mod_lt _ hp0) (by omega)) (fun h_10 => ?_) (fun h_10 => ?_)
      · refine lv_iload_n hx hb dX1_power_27 rfl (lv_at hl 1 rfl) ?_
        exact ro_ret hx hb hr hlocks hQ hS (by rw [← hinv, cd_vp_n h_10]; rfl) dX1_power_28
      · refine lv_iload_n hx hb dX1_power_13 rfl (lv_at hl 2 rfl) ?_
        refine lv_aload_n hx hb dX1_power_14 rfl (lv_at hl 0 rfl) ?_
        refine gM1 hx hb hts hown hK hP 0 rfl dX1_power_15 ?_
        refine nw_idiv hx hb dX1_power_18 (by omega) (by omega) (by omega) ?_
        refine lv_istore_n (lv' := [(3, .int (nI (x / p))), (0, .ref h), (2, .int (nI k))]) hx hb dX1_power_19 rfl hl (by decide) rfl (fun ls hl => ?_)
        refine lv_iload_n hx hb dX1_power_20 rfl (lv_at hl 2 rfl) ?_
        refine lv_iconst (v := nI 1) hx hb dX1_power_21 (by decide) ?_
        refine nw_iadd hx hb dX1_power_22 ?_
        refine lv_istore_n (lv' := [(2, .int (nI (k + 1))), (3, .int (nI (x / p))), (0, .ref h)]) hx hb dX1_power_23 rfl hl (by decide) rfl (fun ls hl => ?_)
        refine lv_goto (tgt := 4) hx hb dX1_power_24 (by decide) ?_
        exact ih (x / p) _ ls (by have := Nat.div_lt_self hx0 (show 1 < p by omega); omega) (cd_divpos hx0 h_10) (cd_divlt hx31) (by have := cd_vp_y hp2 hx0 h_10; omega) (lv_sub hl [2, 0, 1] rfl)
  refine lv_iconst (v := nI 0) hx hb dX1_power_0 (by decide) ?_
  refine lv_istore_n (lv' := [(2, .int (nI 0)), (0, .ref h), (1, .int (nI v))]) hx hb dX1_power_1 rfl hl (by decide) rfl (fun ls hl => ?_)
  refine lv_iload_n hx hb dX1_power_2 rfl (lv_at hl 2 rfl) ?_
  refine lv_istore_n (lv' := [(3, .int (nI v)), (2, .int (nI 0)), (0, .ref h), (1, .int (nI v))]) hx hb dX1_power_3 rfl hl (by decide) rfl (fun ls hl => ?_)
  exact loop (v + 1) v 0 ls (by omega) hv0 hv (Nat.zero_add _) (lv_sub hl [2, 1, 0] rfl)
set_option maxHeartbeats 4000000 in
set_option maxRecDepth 100000 in
/-- often(n, k): by the powers of all factors -/
theorem met_M_often (l : Launch) (dC : Nat → ClassId) (dI : Nat → Nat → Nat) (h b0 b1 b2 : Nat) (c0 c1 c2 : ClassId) (sz p : Nat) (f0 f1 f2 : Nat → Int32) (n k : Int32) (hp : cd_P p) : Met l yX1_often (ws_ yX1_often cX1_often 7 (some .int)) cd_r1 (va_Pc [.ref h, .int n, .int k] (cd_BM dC dI h b0 b1 b2 c0 c1 c2 sz p f0 f1 f2)) (va_Qi (fun (r : Int32) (_ : Unit) => r = cd_often p (cd_msk 8 n) (cd_msk 8 k)) (fun _ _ => True) (cd_ro sz)) 0 0 (cd_ro sz) := by
  have hp0 := hp.pos
  have hp2 := hp.two
  have hp13 := hp.le
  refine cd_start (by decide) (Nat.le_of_ble_eq_true rfl) ?_
  intro pg e s m args below meth c ls Q hx hb hr hml hown hlocks hnm hts hQ hl hB
  obtain ⟨hsz, hP, hK⟩ := hB
  subst hsz
  have hown : s.vm.findClass RX1 = some m.cls := hown
  have hl : lv_has ls 7 [(0, .ref h), (1, .int n), (2, .int k)] := hl
  have hS : va_S (cd_ro s.heap.size) s.heap s.heap [] := va_S.rf
  have hm := cd_msk_lt 8 n
  have hj := cd_msk_lt 8 k
  refine lv_iload_n hx hb dX1_often_0 rfl (lv_at hl 1 rfl) ?_
  refine lv_sipush (v := nI 255) hx hb dX1_often_1 (by decide) ?_
  refine nw_iand hx hb 8 (by decide) dX1_often_4 ?_
  refine lv_istore_n (lv' := [(3, .int (nI (cd_msk 8 n))), (0, .ref h), (1, .int n), (2, .int k)]) hx hb dX1_often_5 rfl hl (by decide) rfl (fun ls hl => ?_)
  refine lv_iload_n hx hb dX1_often_6 rfl (lv_at hl 3 rfl) ?_
  refine lv_sipush (v := nI 255) hx hb dX1_often_7 (by decide) ?_
  refine nw_iand hx hb 8 (by decide) dX1_often_10 ?_
  refine lv_istore (lv' := [(4, .int (nI (cd_msk 8 k))), (3, .int (nI (cd_msk 8 n))), (0, .ref h), (1, .int n), (2, .int k)]) hx hb dX1_often_11 hl (by decide) rfl (fun ls hl => ?_)
  refine lv_iload hx hb dX1_often_13 (lv_at hl 0 rfl) ?_
  refine lv_iload_n hx hb dX1_often_15 rfl (lv_at hl 1 rfl) ?_
  refine nw_icmp_le (tgt := 21) hx hb dX1_often_16 (by decide) (by omega) (by omega) (fun h_16 => ?_) (fun h_16 => ?_)
  · refine lv_iconst (v := nI 0) hx hb dX1_often_21 (by decide) ?_
    refine lv_istore (lv' := [(5, .int (nI 0)), (4, .int (nI (cd_msk 8 k))), (3, .int (nI (cd_msk 8 n))), (0, .ref h), (1, .int n), (2, .int k)]) hx hb dX1_often_22 hl (by decide) rfl (fun ls hl => ?_)
    refine lv_iconst (v := nI 1) hx hb dX1_often_24 (by decide) ?_
    refine lv_istore (lv' := [(6, .int (nI 1)), (5, .int (nI 0)), (4, .int (nI (cd_msk 8 k))), (3, .int (nI (cd_msk 8 n))), (0, .ref h), (1, .int n), (2, .int k)]) hx hb dX1_often_25 hl (by decide) rfl (fun ls hl => ?_)
    have loop : ∀ (w t k5 : Nat) (H : Heap) (locs : List Loc) (ls : Array Slot), (cd_msk 8 k) < t + w → t ≤ (cd_msk 8 k) → k5 + cd_leg p ((cd_msk 8 n) - (cd_msk 8 k)) + cd_leg p t = cd_leg p ((cd_msk 8 n) - (cd_msk 8 k) + t) → va_P (dC, dI) cd_CL (cd_wM h b0 b1 b2 c0 c1 c2 p f0 f1 f2) H → va_S (cd_ro s.heap.size) s.heap H locs → lv_has ls 7 [(0, .ref h), (3, .int (nI (cd_msk 8 n))), (4, .int (nI (cd_msk 8 k))), (5, .int (nI k5)), (6, .int (nI (t + 1)))] → W pg l e cd_r1 s m args below meth c H locs 0 0 Q (F0 m 27 ls []) := by
      intro w
      induction w with
      | zero => intro t k5 H locs ls h1 h2; exact absurd h1 (by omega)
      | succ w ih =>
        intro t k5 H locs ls hw htj hinv hP hS hl
        refine lv_iload hx hb dX1_often_27 (lv_at hl 4 rfl) ?_
        refine lv_iload hx hb dX1_often_29 (lv_at hl 2 rfl) ?_
        refine nw_icmp_gt (tgt := 63) hx hb dX1_often_31 (by decide) (by omega) (by omega) (fun h_31 => ?_) (fun h_31 => ?_)
        · refine lv_iload hx hb dX1_often_63 (lv_at hl 3 rfl) ?_
          have et : t = (cd_msk 8 k) := by omega
          subst et
          have hjm : (cd_msk 8 n) - (cd_msk 8 k) + (cd_msk 8 k) = (cd_msk 8 n) := by omega
          rw [hjm] at hinv
          exact ro_ret hx hb hr hlocks hQ hS (by rw [cd_often, if_pos h_16]; exact congrArg nI (by omega)) dX1_often_65
        · have h1 : cd_leg p ((cd_msk 8 n) - (cd_msk 8 k) + (t + 1)) = cd_leg p ((cd_msk 8 n) - (cd_msk 8 k) + t) + cd_vp p ((cd_msk 8 n) - (cd_msk 8 k) + (t + 1)) := cd_leg_1 hp2 ((cd_msk 8 n) - (cd_msk 8 k) + t)
          have h2 := cd_leg_1 hp2 t
          have h3 : cd_leg p ((cd_msk 8 n) - (cd_msk 8 k)) + cd_leg p (t + 1) ≤ cd_leg p ((cd_msk 8 n) - (cd_msk 8 k) + (t + 1)) := cd_super hp2 _ ((cd_msk 8 n) - (cd_msk 8 k)) (t + 1) 0 (Nat.lt_succ_self _) (by decide)
          refine lv_iload hx hb dX1_often_34 (lv_at hl 3 rfl) ?_
          refine lv_aload_n hx hb dX1_often_36 rfl (lv_at hl 0 rfl) ?_
          refine lv_iload_n hx hb dX1_often_37 rfl (lv_at hl 1 rfl) ?_
          refine lv_iload hx hb dX1_often_38 (lv_at hl 2 rfl) ?_
          refine nw_isub hx hb dX1_often_40 (by omega) ?_
          refine lv_iload hx hb dX1_often_41 (lv_at hl 4 rfl) ?_
          refine nw_iadd hx hb dX1_often_43 ?_
          refine ro_calli (va_runV (As := [.int (nI (((cd_msk 8 n) - (cd_msk 8 k)) + (t + 1)))]) (rest := [.int (nI k5)]) ⟨hx, hb, hml, hown, hts⟩ (met_M_power l dC dI h b0 b1 b2 c0 c1 c2 H.size p f0 f1 f2 (((cd_msk 8 n) - (cd_msk 8 k)) + (t + 1)) (by omega) (by omega) hp) (cwV 1 hts (lw_V q105 q107 qs3 q6 q108) rfl rfl rfl (by decide +kernel) ⟨Nat.le_of_ble_eq_true rfl, Nat.le_of_ble_eq_true rfl⟩) (cd_preV hK hP [0, 1, 2, 3] [0, 1, 2] rfl rfl rfl rfl rfl) rfl rfl hl.1 rfl (lv_room (Nat.le_of_ble_eq_true rfl)) dX1_often_44 ⟨Nat.le_of_ble_eq_true rfl, Nat.le_of_ble_eq_true rfl⟩) hS (fun q h => h) hP (fun H locs hP hS => ?_)
          refine nw_iadd hx hb dX1_often_47 ?_
          refine lv_aload_n hx hb dX1_often_48 rfl (lv_at hl 0 rfl) ?_
          refine lv_iload hx hb dX1_often_49 (lv_at hl 4 rfl) ?_
          refine ro_calli (va_runV (As := [.int (nI (t + 1))]) (rest := [.int (nI (k5 + (cd_vp p (((cd_msk 8 n) - (cd_msk 8 k)) + (t + 1)))))]) ⟨hx, hb, hml, hown, hts⟩ (met_M_power l dC dI h b0 b1 b2 c0 c1 c2 H.size p f0 f1 f2 (t + 1) (by omega) (by omega) hp) (cwV 1 hts (lw_V q105 q107 qs3 q6 q108) rfl rfl rfl (by decide +kernel) ⟨Nat.le_of_ble_eq_true rfl, Nat.le_of_ble_eq_true rfl⟩) (cd_preV hK hP [0, 1, 2, 3] [0, 1, 2] rfl rfl rfl rfl rfl) rfl rfl hl.1 rfl (lv_room (Nat.le_of_ble_eq_true rfl)) dX1_often_51 ⟨Nat.le_of_ble_eq_true rfl, Nat.le_of_ble_eq_true rfl⟩) hS (fun q h => h) hP (fun H locs hP hS => ?_)
          refine nw_isub hx hb dX1_often_54 (by omega) ?_
          refine lv_istore (lv' := [(5, .int (nI ((k5 + (cd_vp p (((cd_msk 8 n) - (cd_msk 8 k)) + (t + 1)))) - (cd_vp p (t + 1))))), (0, .ref h), (3, .int (nI (cd_msk 8 n))), (4, .int (nI (cd_msk 8 k))), (6, .int (nI (t + 1)))]) hx hb dX1_often_55 hl (by decide) rfl (fun ls hl => ?_)
          refine lv_iinc (v := nI ((t + 1) + 1)) (lv' := [(6, .int (nI ((t + 1) + 1))), (5, .int (nI ((k5 + (cd_vp p (((cd_msk 8 n) - (cd_msk 8 k)) + (t + 1)))) - (cd_vp p (t + 1))))), (0, .ref h), (3, .int (nI (cd_msk 8 n))), (4, .int (nI (cd_msk 8 k)))]) hx hb dX1_often_57 hl (k := 4) rfl (cd_inc (t + 1)) (by decide) rfl (fun ls hl => ?_)
          refine lv_goto (tgt := 27) hx hb dX1_often_60 (by decide) ?_
          exact ih (t + 1) _ H locs ls (by omega) (by omega) (by omega) hP hS (lv_sub hl [2, 3, 4, 1, 0] rfl)
    exact loop ((cd_msk 8 k) + 1) 0 0 s.heap [] ls (by omega) (by omega) (by rw [cd_leg_0, Nat.add_zero, Nat.add_zero, Nat.zero_add]) hP hS (lv_sub hl [4, 3, 2, 1, 0] rfl)
  · refine lv_iconst (v := -1) hx hb dX1_often_19 (by decide) ?_
    exact ro_ret hx hb hr hlocks hQ hS ((if_neg (by omega)).symm) dX1_often_20
set_option maxHeartbeats 4000000 in
set_option maxRecDepth 100000 in
/-- product(n): by the powers of all factors -/
theorem met_M_product (l : Launch) (dC : Nat → ClassId) (dI : Nat → Nat → Nat) (h b0 b1 b2 : Nat) (c0 c1 c2 : ClassId) (sz p : Nat) (f0 f1 f2 : Nat → Int32) (n : Int32) (hp : cd_P p) : Met l yX1_product (ws_ yX1_product cX1_product 5 (some .int)) cd_r1 (va_Pc [.ref h, .int n] (cd_BM dC dI h b0 b1 b2 c0 c1 c2 sz p f0 f1 f2)) (va_Qi (fun (r : Int32) (_ : Unit) => r = nI (cd_leg p (cd_msk 8 n))) (fun _ _ => True) (cd_ro sz)) 0 0 (cd_ro sz) := by
  have hp0 := hp.pos
  have hp2 := hp.two
  have hp13 := hp.le
  refine cd_start (by decide) (Nat.le_of_ble_eq_true rfl) ?_
  intro pg e s m args below meth c ls Q hx hb hr hml hown hlocks hnm hts hQ hl hB
  obtain ⟨hsz, hP, hK⟩ := hB
  subst hsz
  have hown : s.vm.findClass RX1 = some m.cls := hown
  have hl : lv_has ls 5 [(0, .ref h), (1, .int n)] := hl
  have hS : va_S (cd_ro s.heap.size) s.heap s.heap [] := va_S.rf
  have hm := cd_msk_lt 8 n
  refine lv_iload_n hx hb dX1_product_0 rfl (lv_at hl 1 rfl) ?_
  refine lv_sipush (v := nI 255) hx hb dX1_product_1 (by decide) ?_
  refine nw_iand hx hb 8 (by decide) dX1_product_4 ?_
  refine lv_istore_n (lv' := [(2, .int (nI (cd_msk 8 n))), (0, .ref h), (1, .int n)]) hx hb dX1_product_5 rfl hl (by decide) rfl (fun ls hl => ?_)
  refine lv_iconst (v := nI 0) hx hb dX1_product_6 (by decide) ?_
  refine lv_istore_n (lv' := [(3, .int (nI 0)), (2, .int (nI (cd_msk 8 n))), (0, .ref h), (1, .int n)]) hx hb dX1_product_7 rfl hl (by decide) rfl (fun ls hl => ?_)
  refine lv_iconst (v := nI 1) hx hb dX1_product_8 (by decide) ?_
  refine lv_istore (lv' := [(4, .int (nI 1)), (3, .int (nI 0)), (2, .int (nI (cd_msk 8 n))), (0, .ref h), (1, .int n)]) hx hb dX1_product_9 hl (by decide) rfl (fun ls hl => ?_)
  have loop : ∀ (w t k5 : Nat) (H : Heap) (locs : List Loc) (ls : Array Slot), (cd_msk 8 n) < t + w → t ≤ (cd_msk 8 n) → k5 = cd_leg p t → va_P (dC, dI) cd_CL (cd_wM h b0 b1 b2 c0 c1 c2 p f0 f1 f2) H → va_S (cd_ro s.heap.size) s.heap H locs → lv_has ls 5 [(0, .ref h), (2, .int (nI (cd_msk 8 n))), (3, .int (nI k5)), (4, .int (nI (t + 1)))] → W pg l e cd_r1 s m args below meth c H locs 0 0 Q (F0 m 11 ls []) := by
    intro w
    induction w with
    | zero => intro t k5 H locs ls h1 h2; exact absurd h1 (by omega)
    | succ w ih =>
      intro t k5 H locs ls hw htj hinv hP hS hl
      refine lv_iload hx hb dX1_product_11 (lv_at hl 3 rfl) ?_
      refine lv_iload_n hx hb dX1_product_13 rfl (lv_at hl 1 rfl) ?_
      refine nw_icmp_gt (tgt := 32) hx hb dX1_product_14 (by decide) (by omega) (by omega) (fun h_14 => ?_) (fun h_14 => ?_)
      · refine lv_iload_n hx hb dX1_product_32 rfl (lv_at hl 2 rfl) ?_
        exact ro_ret hx hb hr hlocks hQ hS (by rw [hinv, show t = (cd_msk 8 n) by omega]) dX1_product_33
      · refine lv_iload_n hx hb dX1_product_17 rfl (lv_at hl 2 rfl) ?_
        refine lv_aload_n hx hb dX1_product_18 rfl (lv_at hl 0 rfl) ?_
        refine lv_iload hx hb dX1_product_19 (lv_at hl 3 rfl) ?_
        refine ro_calli (va_runV (As := [.int (nI (t + 1))]) (rest := [.int (nI k5)]) ⟨hx, hb, hml, hown, hts⟩ (met_M_power l dC dI h b0 b1 b2 c0 c1 c2 H.size p f0 f1 f2 (t + 1) (by omega) (by omega) hp) (cwV 1 hts (lw_V q105 q107 qs3 q6 q108) rfl rfl rfl (by decide +kernel) ⟨Nat.le_of_ble_eq_true rfl, Nat.le_of_ble_eq_true rfl⟩) (cd_preV hK hP [0, 1, 2, 3] [0, 1, 2] rfl rfl rfl rfl rfl) rfl rfl hl.1 rfl (lv_room (Nat.le_of_ble_eq_true rfl)) dX1_product_21 ⟨Nat.le_of_ble_eq_true rfl, Nat.le_of_ble_eq_true rfl⟩) hS (fun q h => h) hP (fun H locs hP hS => ?_)
        refine nw_iadd hx hb dX1_product_24 ?_
        refine lv_istore_n (lv' := [(3, .int (nI (k5 + (cd_vp p (t + 1))))), (0, .ref h), (2, .int (nI (cd_msk 8 n))), (4, .int (nI (t + 1)))]) hx hb dX1_product_25 rfl hl (by decide) rfl (fun ls hl => ?_)
        refine lv_iinc (v := nI ((t + 1) + 1)) (lv' := [(4, .int (nI ((t + 1) + 1))), (3, .int (nI (k5 + (cd_vp p (t + 1))))), (0, .ref h), (2, .int (nI (cd_msk 8 n)))]) hx hb dX1_product_26 hl (k := 3) rfl (cd_inc (t + 1)) (by decide) rfl (fun ls hl => ?_)
        refine lv_goto (tgt := 11) hx hb dX1_product_29 (by decide) ?_
        exact ih (t + 1) _ H locs ls (by omega) (by omega) (by rw [hinv, cd_leg_1 hp2 t]) hP hS (lv_sub hl [2, 3, 1, 0] rfl)
  exact loop ((cd_msk 8 n) + 1) 0 0 s.heap [] ls (by omega) (by omega) (cd_leg_0 p).symm hP hS (lv_sub hl [3, 2, 1, 0] rfl)
set_option maxHeartbeats 4000000 in
set_option maxRecDepth 100000 in
/-- last(n): factor by factor -/
theorem met_M_last (l : Launch) (dC : Nat → ClassId) (dI : Nat → Nat → Nat) (h b0 b1 b2 : Nat) (c0 c1 c2 : ClassId) (sz p : Nat) (f0 f1 f2 : Nat → Int32) (n : Int32) (hp : cd_P p) : Met l yX1_last (ws_ yX1_last cX1_last 6 (some .int)) cd_r0 (va_Pc [.ref h, .int n] (cd_BM dC dI h b0 b1 b2 c0 c1 c2 sz p f0 f1 f2)) (va_Qi (fun (r : Int32) (_ : Unit) => r = nI (cd_ls p (cd_msk 8 n))) (fun _ _ => True) (cd_ro sz)) 0 0 (cd_ro sz) := by
  have hp0 := hp.pos
  have hp2 := hp.two
  have hp13 := hp.le
  refine cd_start (by decide) (Nat.le_of_ble_eq_true rfl) ?_
  intro pg e s m args below meth c ls Q hx hb hr hml hown hlocks hnm hts hQ hl hB
  obtain ⟨hsz, hP, hK⟩ := hB
  subst hsz
  have hown : s.vm.findClass RX1 = some m.cls := hown
  have hl : lv_has ls 6 [(0, .ref h), (1, .int n)] := hl
  have hS : va_S (cd_ro s.heap.size) s.heap s.heap [] := va_S.rf
  have hm := cd_msk_lt 8 n
  refine lv_iload_n hx hb dX1_last_0 rfl (lv_at hl 1 rfl) ?_
  refine lv_sipush (v := nI 255) hx hb dX1_last_1 (by decide) ?_
  refine nw_iand hx hb 8 (by decide) dX1_last_4 ?_
  refine lv_istore_n (lv' := [(2, .int (nI (cd_msk 8 n))), (0, .ref h), (1, .int n)]) hx hb dX1_last_5 rfl hl (by decide) rfl (fun ls hl => ?_)
  refine lv_iconst (v := nI 1) hx hb dX1_last_6 (by decide) ?_
  refine lv_istore_n (lv' := [(3, .int (nI 1)), (2, .int (nI (cd_msk 8 n))), (0, .ref h), (1, .int n)]) hx hb dX1_last_7 rfl hl (by decide) rfl (fun ls hl => ?_)
  refine lv_iconst (v := nI 1) hx hb dX1_last_8 (by decide) ?_
  refine lv_istore (lv' := [(4, .int (nI 1)), (3, .int (nI 1)), (2, .int (nI (cd_msk 8 n))), (0, .ref h), (1, .int n)]) hx hb dX1_last_9 hl (by decide) rfl (fun ls hl => ?_)
  have loop : ∀ (w t k5 : Nat) (ls : Array Slot), (cd_msk 8 n) < t + w → t ≤ (cd_msk 8 n) → k5 = cd_ls p t → lv_has ls 6 [(0, .ref h), (2, .int (nI (cd_msk 8 n))), (3, .int (nI k5)), (4, .int (nI (t + 1)))] → W pg l e cd_r0 s m args below meth c s.heap [] 0 0 Q (F0 m 11 ls []) := by
    intro w
    induction w with
    | zero => intro t k5 ls h1 h2; exact absurd h1 (by omega)
    | succ w ih =>
      intro t k5 ls hw htj hinv hl
      have hrp : k5 < p := by rw [hinv]; exact cd_ls_lt hp t
      refine lv_iload hx hb dX1_last_11 (lv_at hl 3 rfl) ?_
      refine lv_iload_n hx hb dX1_last_13 rfl (lv_at hl 1 rfl) ?_
      refine nw_icmp_gt (tgt := 64) hx hb dX1_last_14 (by decide) (by omega) (by omega) (fun h_14 => ?_) (fun h_14 => ?_)
      · refine lv_iload_n hx hb dX1_last_64 rfl (lv_at hl 2 rfl) ?_
        exact ro_ret hx hb hr hlocks hQ hS (by rw [hinv, show t = (cd_msk 8 n) by omega]) dX1_last_65
      · refine lv_iload hx hb dX1_last_17 (lv_at hl 3 rfl) ?_
        refine lv_istore (lv' := [(5, .int (nI (t + 1))), (0, .ref h), (2, .int (nI (cd_msk 8 n))), (3, .int (nI k5)), (4, .int (nI (t + 1)))]) hx hb dX1_last_19 hl (by decide) rfl (fun ls hl => ?_)
        have loopx : ∀ (v x : Nat) (ls : Array Slot), x < v → 0 < x → x < 2 ^ 31 → cd_up p x = cd_up p (t + 1) → lv_has ls 6 [(0, .ref h), (2, .int (nI (cd_msk 8 n))), (3, .int (nI k5)), (4, .int (nI (t + 1))), (5, .int (nI x))] → W pg l e cd_r0 s m args below meth c s.heap [] 0 0 Q (F0 m 21 ls []) := by
          intro v
          induction v with
          | zero => intro x ls h1; exact absurd h1 (Nat.not_lt_zero _)
          | succ v ihx =>
            intro x ls hv hx0 hx31 hux hl
            refine lv_iload hx hb dX1_last_21 (lv_at hl 4 rfl) ?_
            refine lv_aload_n hx hb dX1_last_23 rfl (lv_at hl 0 rfl) ?_
            refine gM1 hx hb hts hown hK hP 0 rfl dX1_last_24 ?_
            refine nw_irem hx hb dX1_last_27 (by omega) (by omega) (by omega) ?_
            refine nw_if_ne (tgt := 43) hx hb dX1_last_28 (by decide) (Nat.lt_trans (Nat.mod_lt _ hp0) (by omega)) (fun h_28 => ?_) (fun h_28 => ?_)
            · refine lv_iload_n hx hb dX1_last_43 rfl (lv_at hl 2 rfl) ?_
              refine lv_iload hx hb dX1_last_44 (lv_at hl 4 rfl) ?_
              refine lv_aload_n hx hb dX1_last_46 rfl (lv_at hl 0 rfl) ?_
              refine gM1 hx hb hts hown hK hP 0 rfl dX1_last_47 ?_
              refine nw_irem hx hb dX1_last_50 (by omega) (by omega) (by omega) ?_
              refine nw_imul hx hb dX1_last_51 ?_
              refine lv_aload_n hx hb dX1_last_52 rfl (lv_at hl 0 rfl) ?_
              refine gM1 hx hb hts hown hK hP 0 rfl dX1_last_53 ?_
              refine nw_irem hx hb dX1_last_56 (cd_m2 hp13 hrp (Nat.mod_lt _ hp0)) hp0 (by omega) ?_
              refine lv_istore_n (lv' := [(3, .int (nI ((k5 * (x % p)) % p))), (0, .ref h), (2, .int (nI (cd_msk 8 n))), (4, .int (nI (t + 1))), (5, .int (nI x))]) hx hb dX1_last_57 rfl hl (by decide) rfl (fun ls hl => ?_)
              refine lv_iinc (v := nI ((t + 1) + 1)) (lv' := [(4, .int (nI ((t + 1) + 1))), (3, .int (nI ((k5 * (x % p)) % p))), (0, .ref h), (2, .int (nI (cd_msk 8 n))), (5, .int (nI x))]) hx hb dX1_last_58 hl (k := 3) rfl (cd_inc (t + 1)) (by decide) rfl (fun ls hl => ?_)
              refine lv_goto (tgt := 11) hx hb dX1_last_61 (by decide) ?_
              exact ih (t + 1) _ ls (by omega) (by omega) (by rw [cd_ls_s, ← hux, cd_up_n h_28, hinv]) (lv_sub hl [2, 3, 1, 0] rfl)
            · refine lv_iload hx hb dX1_last_31 (lv_at hl 4 rfl) ?_
              refine lv_aload_n hx hb dX1_last_33 rfl (lv_at hl 0 rfl) ?_
              refine gM1 hx hb hts hown hK hP 0 rfl dX1_last_34 ?_
              refine nw_idiv hx hb dX1_last_37 (by omega) (by omega) (by omega) ?_
              refine lv_istore (lv' := [(5, .int (nI (x / p))), (0, .ref h), (2, .int (nI (cd_msk 8 n))), (3, .int (nI k5)), (4, .int (nI (t + 1)))]) hx hb dX1_last_38 hl (by decide) rfl (fun ls hl => ?_)
              refine lv_goto (tgt := 21) hx hb dX1_last_40 (by decide) ?_
              exact ihx (x / p) ls (by have := Nat.div_lt_self hx0 (show 1 < p by omega); omega) (cd_divpos hx0 h_28) (cd_divlt hx31) (by rw [← hux, cd_up_y hp2 hx0 h_28]) (lv_sub hl [1, 2, 3, 4, 0] rfl)
        exact loopx (t + 2) (t + 1) ls (by omega) (by omega) (by omega) rfl (lv_sub hl [1, 2, 3, 4, 0] rfl)
  exact loop ((cd_msk 8 n) + 1) 0 1 ls (by omega) (by omega) rfl (lv_sub hl [3, 2, 1, 0] rfl)
end
section
/-! ChooseDeskModel: the methods that write -/
theorem cd_upd_s {f : Nat → Int32} {k : Nat} {v : Int32} {F : Nat → Nat} (hv : v = nI (F k)) (hf : ∀ j, j < k → f j = nI (F j)) : ∀ j, j < k + 1 → upd f k v j = nI (F j) := by
  intro j hj
  by_cases e : j = k
  · subst e
    rw [pk_us]
    exact hv
  · rw [pk_un e]
    exact hf j (by omega)
/-- row q, from its end down to i already row q + 1 -/
def cd_half (q i j : Nat) : Nat := if j ≤ i then cd_bin q j else cd_bin (q + 1) j
theorem cd_half_b {q i : Nat} (h : q + 1 ≤ i) (j : Nat) : cd_half q i j = cd_bin q j := by
  unfold cd_half
  split
  · rfl
  · rw [cd_bin_gt q j (by omega)]
    rename_i hn
    rcases Nat.lt_or_ge (q + 1) j with z | z
    · exact cd_bin_gt _ _ z
    · omega
theorem cd_half_e (q j : Nat) : cd_half q 0 j = cd_bin (q + 1) j := by
  unfold cd_half
  split
  · have e : j = 0 := by omega
    subst e
    rw [cd_bin_0, cd_bin_0]
  · rfl
theorem cd_half_s {f : Nat → Int32} {p q t : Nat} (hf : ∀ j, j < 256 → f j = nI (cd_half q (t + 1) j % p)) : ∀ j, j < 256 → upd f (t + 1) (nI ((cd_bin q (t + 1) % p + cd_bin q t % p) % p)) j = nI (cd_half q t j % p) := by
  intro j hj
  by_cases e : j = t + 1
  · subst e
    rw [pk_us]
    have h1 : cd_half q t (t + 1) = cd_bin q t + cd_bin q (t + 1) := by
      unfold cd_half
      rw [if_neg (by omega), cd_bin_s]
    rw [h1, Nat.add_comm (cd_bin q t), Nat.add_mod (cd_bin q (t + 1))]
  · rw [pk_un e, hf j hj]
    have h1 : cd_half q (t + 1) j = cd_half q t j := by
      unfold cd_half
      by_cases z : j ≤ t
      · rw [if_pos z, if_pos (by omega)]
      · rw [if_neg z, if_neg (by omega)]
    rw [h1]
set_option maxHeartbeats 4000000 in
set_option maxRecDepth 100000 in
/-- rowOf(n): row n modulo p -/
theorem met_M_rowOf (l : Launch) (dC : Nat → ClassId) (dI : Nat → Nat → Nat) (h b0 b1 b2 : Nat) (c0 c1 c2 : ClassId) (sz p : Nat) (f0 f1 f2 : Nat → Int32) (n : Nat) (hn : n < 256) (hp : cd_P p) : Met l yX1_rowOf (ws_ yX1_rowOf cX1_rowOf 4 none) cd_r0 (va_Pc [.ref h, .int (nI n)] (fun U => cd_BM dC dI h b0 b1 b2 c0 c1 c2 sz p f0 f1 f2 U ∧ va_D (fun _ => True) (cd_wM h b0 b1 b2 c0 c1 c2 p f0 f1 f2))) (va_Qv (fun u : Nat → Int32 => ∀ j, j < 256 → u j = nI (cd_bin n j % p)) (fun u t => va_P (dC, dI) cd_CL (cd_wM h b0 b1 b2 c0 c1 c2 p f0 u f2) t.heap ∧ va_D (va_A (cd_wM h b0 b1 b2 c0 c1 c2 p f0 f1 f2) sz) (cd_wM h b0 b1 b2 c0 c1 c2 p f0 u f2)) (va_A (cd_wM h b0 b1 b2 c0 c1 c2 p f0 f1 f2) sz)) 0 0 (va_A (cd_wM h b0 b1 b2 c0 c1 c2 p f0 f1 f2) sz) := by
  have hp0 := hp.pos
  have hp2 := hp.two
  have hp13 := hp.le
  refine cd_start (by decide) (Nat.le_of_ble_eq_true rfl) ?_
  intro pg e s m args below meth c ls Q hx hb hr hml hown hlocks hnm hts hQ hl hB
  obtain ⟨⟨hsz, hP, hK⟩, hD0⟩ := hB
  subst hsz
  have hD := hD0.self (sz := s.heap.size)
  have hA : ∀ q : Nat, s.heap.size ≤ q → va_A (cd_wM h b0 b1 b2 c0 c1 c2 p f0 f1 f2) s.heap.size q := fun q h => Or.inr h
  generalize va_A (cd_wM h b0 b1 b2 c0 c1 c2 p f0 f1 f2) s.heap.size = A at hD hQ hA
  have hown : s.vm.findClass RX1 = some m.cls := hown
  have hl : lv_has ls 4 [(0, .ref h), (1, .int (nI n))] := hl
  have hS : va_S A s.heap s.heap [] := va_S.rf
  have loopB : ∀ (w q : Nat) (g1 : Nat → Int32) (H : Heap) (locs : List Loc) (ls : Array Slot), n < q + w → q ≤ n → (∀ j, j < 256 → g1 j = nI (cd_bin q j % p)) → va_P (dC, dI) cd_CL (cd_wM h b0 b1 b2 c0 c1 c2 p f0 g1 f2) H → va_D A (cd_wM h b0 b1 b2 c0 c1 c2 p f0 g1 f2) → va_S A s.heap H locs → lv_has ls 4 [(0, .ref h), (1, .int (nI n)), (2, .int (nI (q + 1)))] → W pg l e cd_r0 s m args below meth c H locs 0 0 Q (F0 m 32 ls []) := by
    intro w
    induction w with
    | zero => intro q g1 H locs ls h1 h2; exact absurd h1 (by omega)
    | succ w ih =>
      intro q g1 H locs ls hw hqn hg hP hD hS hl
      refine lv_iload_n hx hb dX1_rowOf_32 rfl (lv_at hl 2 rfl) ?_
      refine lv_iload_n hx hb dX1_rowOf_33 rfl (lv_at hl 1 rfl) ?_
      refine nw_icmp_gt (tgt := 81) hx hb dX1_rowOf_34 (by decide) (by omega) (by omega) (fun h_34 => ?_) (fun h_34 => ?_)
      · have eq : q = n := by omega
        subst eq
        subst hQ
        exact W.vret hx hb hr (fun t ht hW => ⟨⟨g1, rfl, hg, by rw [ht]; exact hP, hD⟩, hS.F ht⟩) hS.2.2 dX1_rowOf_81
      · refine lv_iload_n hx hb dX1_rowOf_37 rfl (lv_at hl 2 rfl) ?_
        refine lv_istore_n (lv' := [(3, .int (nI (q + 1))), (0, .ref h), (1, .int (nI n)), (2, .int (nI (q + 1)))]) hx hb dX1_rowOf_38 rfl hl (by decide) rfl (fun ls hl => ?_)
        have loopi : ∀ (v i : Nat) (g1 : Nat → Int32) (H : Heap) (locs : List Loc) (ls : Array Slot), i < v → i ≤ q + 1 → (∀ j, j < 256 → g1 j = nI (cd_half q i j % p)) → va_P (dC, dI) cd_CL (cd_wM h b0 b1 b2 c0 c1 c2 p f0 g1 f2) H → va_D A (cd_wM h b0 b1 b2 c0 c1 c2 p f0 g1 f2) → va_S A s.heap H locs → lv_has ls 4 [(0, .ref h), (1, .int (nI n)), (2, .int (nI (q + 1))), (3, .int (nI i))] → W pg l e cd_r0 s m args below meth c H locs 0 0 Q (F0 m 39 ls []) := by
          intro v
          induction v with
          | zero => intro i g1 H locs ls h1; exact absurd h1 (Nat.not_lt_zero _)
          | succ v ihi =>
            intro i g1 H locs ls hv hiq hg hP hD hS hl
            refine lv_iload_n hx hb dX1_rowOf_39 rfl (lv_at hl 3 rfl) ?_
            refine nw_if_le (tgt := 75) hx hb dX1_rowOf_40 (by decide) (by omega) (fun h_40 => ?_) (fun h_40 => ?_)
            · refine lv_iinc (v := nI ((q + 1) + 1)) (lv' := [(2, .int (nI ((q + 1) + 1))), (0, .ref h), (1, .int (nI n)), (3, .int (nI i))]) hx hb dX1_rowOf_75 hl (k := 2) rfl (cd_inc (q + 1)) (by decide) rfl (fun ls hl => ?_)
              refine lv_goto (tgt := 32) hx hb dX1_rowOf_78 (by decide) ?_
              exact ih (q + 1) g1 H locs ls (by omega) (by omega) (fun j hj => by rw [hg j hj, h_40, cd_half_e]) hP hD hS (lv_sub hl [1, 2, 0] rfl)
            · obtain ⟨t, rfl⟩ : ∃ t, i = t + 1 := ⟨i - 1, by omega⟩
              refine lv_aload_n hx hb dX1_rowOf_43 rfl (lv_at hl 0 rfl) ?_
              refine gM2 hx hb hts hown hK hP 0 rfl dX1_rowOf_44 ?_
              refine lv_iload_n hx hb dX1_rowOf_47 rfl (lv_at hl 3 rfl) ?_
              refine lv_aload_n hx hb dX1_rowOf_48 rfl (lv_at hl 0 rfl) ?_
              refine gM2 hx hb hts hown hK hP 0 rfl dX1_rowOf_49 ?_
              refine lv_iload_n hx hb dX1_rowOf_52 rfl (lv_at hl 3 rfl) ?_
              refine nw_iald hx hb hK hP 2 1 rfl rfl (by omega) (by decide) (v := (nI (cd_bin q (t + 1) % p))) (by rw [hg (t + 1) (by omega), cd_half, if_pos (Nat.le_refl _)]) dX1_rowOf_53 ?_
              refine lv_aload_n hx hb dX1_rowOf_54 rfl (lv_at hl 0 rfl) ?_
              refine gM2 hx hb hts hown hK hP 0 rfl dX1_rowOf_55 ?_
              refine lv_iload_n hx hb dX1_rowOf_58 rfl (lv_at hl 3 rfl) ?_
              refine lv_iconst (v := nI 1) hx hb dX1_rowOf_59 (by decide) ?_
              refine nw_isub hx hb dX1_rowOf_60 (by omega) ?_
              refine nw_iald hx hb hK hP 2 1 rfl rfl (by omega) (by decide) (v := (nI (cd_bin q t % p))) (by show g1 t = _; rw [hg t (by omega), cd_half, if_pos (by omega)]) dX1_rowOf_61 ?_
              refine nw_iadd hx hb dX1_rowOf_62 ?_
              refine lv_aload_n hx hb dX1_rowOf_63 rfl (lv_at hl 0 rfl) ?_
              refine gM1 hx hb hts hown hK hP 0 rfl dX1_rowOf_64 ?_
              refine nw_irem hx hb dX1_rowOf_67 (by have := Nat.mod_lt (cd_bin q (t + 1)) hp0; have := Nat.mod_lt (cd_bin q t) hp0; omega) hp0 (by omega) ?_
              refine nw_iast hx hb hK hP hD hS 2 1 rfl rfl (by omega) (by decide) dX1_rowOf_68 (fun H locs hP hD hS => ?_)
              have hP : va_P (dC, dI) cd_CL (cd_wM h b0 b1 b2 c0 c1 c2 p f0 (upd g1 (t + 1) (nI ((cd_bin q (t + 1) % p + cd_bin q t % p) % p))) f2) H := hP
              have hD : va_D A (cd_wM h b0 b1 b2 c0 c1 c2 p f0 (upd g1 (t + 1) (nI ((cd_bin q (t + 1) % p + cd_bin q t % p) % p))) f2) := hD
              refine lv_iinc (v := nI t) (lv' := [(3, .int (nI t)), (0, .ref h), (1, .int (nI n)), (2, .int (nI (q + 1)))]) hx hb dX1_rowOf_69 hl (k := 3) rfl (cd_dec t) (by decide) rfl (fun ls hl => ?_)
              refine lv_goto (tgt := 39) hx hb dX1_rowOf_72 (by decide) ?_
              exact ihi t _ H locs ls (by omega) (by omega) (cd_half_s hg) hP hD hS (lv_sub hl [1, 2, 3, 0] rfl)
        exact loopi (q + 2) (q + 1) g1 H locs ls (by omega) (by omega) (fun j hj => by rw [hg j hj, cd_half_b (by omega)]) hP hD hS (lv_sub hl [1, 2, 3, 0] rfl)
  have loopA : ∀ (w i : Nat) (g1 : Nat → Int32) (H : Heap) (locs : List Loc) (ls : Array Slot), 256 < i + w → i ≤ 256 → (∀ j, j < i → g1 j = nI (cd_bin 0 j % p)) → va_P (dC, dI) cd_CL (cd_wM h b0 b1 b2 c0 c1 c2 p f0 g1 f2) H → va_D A (cd_wM h b0 b1 b2 c0 c1 c2 p f0 g1 f2) → va_S A s.heap H locs → lv_has ls 4 [(0, .ref h), (1, .int (nI n)), (2, .int (nI i))] → W pg l e cd_r0 s m args below meth c H locs 0 0 Q (F0 m 2 ls []) := by
    intro w
    induction w with
    | zero => intro i g1 H locs ls h1 h2; exact absurd h1 (by omega)
    | succ w ih =>
      intro i g1 H locs ls hw hi256 hg hP hD hS hl
      refine lv_iload_n hx hb dX1_rowOf_2 rfl (lv_at hl 2 rfl) ?_
      refine lv_sipush (v := nI 256) hx hb dX1_rowOf_3 (by decide) ?_
      refine nw_icmp_ge (tgt := 30) hx hb dX1_rowOf_6 (by decide) (by omega) (by omega) (fun h_6 => ?_) (fun h_6 => ?_)
      · refine lv_iconst (v := nI 1) hx hb dX1_rowOf_30 (by decide) ?_
        refine lv_istore_n (lv' := [(2, .int (nI 1)), (0, .ref h), (1, .int (nI n))]) hx hb dX1_rowOf_31 rfl hl (by decide) rfl (fun ls hl => ?_)
        exact loopB (n + 1) 0 g1 H locs ls (by omega) (by omega) (fun j hj => hg j (by omega)) hP hD hS (lv_sub hl [1, 2, 0] rfl)
      · refine lv_aload_n hx hb dX1_rowOf_9 rfl (lv_at hl 0 rfl) ?_
        refine gM2 hx hb hts hown hK hP 0 rfl dX1_rowOf_10 ?_
        refine lv_iload_n hx hb dX1_rowOf_13 rfl (lv_at hl 2 rfl) ?_
        refine lv_iload_n hx hb dX1_rowOf_14 rfl (lv_at hl 2 rfl) ?_
        refine nw_if_ne (tgt := 22) hx hb dX1_rowOf_15 (by decide) (by omega) (fun h_15 => ?_) (fun h_15 => ?_)
        · have hval : nI 0 = nI (cd_bin 0 i % p) := by rw [cd_bin_gt 0 i (by omega), Nat.zero_mod]
          refine lv_iconst (v := nI 0) hx hb dX1_rowOf_22 (by decide) ?_
          refine nw_iast hx hb hK hP hD hS 2 1 rfl rfl h_6 (by decide) dX1_rowOf_23 (fun H locs hP hD hS => ?_)
          have hP : va_P (dC, dI) cd_CL (cd_wM h b0 b1 b2 c0 c1 c2 p f0 (upd g1 i (nI 0)) f2) H := hP
          have hD : va_D A (cd_wM h b0 b1 b2 c0 c1 c2 p f0 (upd g1 i (nI 0)) f2) := hD
          refine lv_iinc (v := nI (i + 1)) (lv' := [(2, .int (nI (i + 1))), (0, .ref h), (1, .int (nI n))]) hx hb dX1_rowOf_24 hl (k := 2) rfl (cd_inc i) (by decide) rfl (fun ls hl => ?_)
          refine lv_goto (tgt := 2) hx hb dX1_rowOf_27 (by decide) ?_
          exact ih (i + 1) _ H locs ls (by omega) (by omega) (cd_upd_s (F := fun j => cd_bin 0 j % p) hval hg) hP hD hS (lv_sub hl [1, 2, 0] rfl)
        · have hval : nI 1 = nI (cd_bin 0 i % p) := by rw [h_15, cd_bin_0, cd_1 hp]
          refine lv_iconst (v := nI 1) hx hb dX1_rowOf_18 (by decide) ?_
          refine lv_goto (tgt := 23) hx hb dX1_rowOf_19 (by decide) ?_
          refine nw_iast hx hb hK hP hD hS 2 1 rfl rfl h_6 (by decide) dX1_rowOf_23 (fun H locs hP hD hS => ?_)
          have hP : va_P (dC, dI) cd_CL (cd_wM h b0 b1 b2 c0 c1 c2 p f0 (upd g1 i (nI 1)) f2) H := hP
          have hD : va_D A (cd_wM h b0 b1 b2 c0 c1 c2 p f0 (upd g1 i (nI 1)) f2) := hD
          refine lv_iinc (v := nI (i + 1)) (lv' := [(2, .int (nI (i + 1))), (0, .ref h), (1, .int (nI n))]) hx hb dX1_rowOf_24 hl (k := 2) rfl (cd_inc i) (by decide) rfl (fun ls hl => ?_)
          refine lv_goto (tgt := 2) hx hb dX1_rowOf_27 (by decide) ?_
          exact ih (i + 1) _ H locs ls (by omega) (by omega) (cd_upd_s (F := fun j => cd_bin 0 j % p) hval hg) hP hD hS (lv_sub hl [1, 2, 0] rfl)
  refine lv_iconst (v := nI 0) hx hb dX1_rowOf_0 (by decide) ?_
  refine lv_istore_n (lv' := [(2, .int (nI 0)), (0, .ref h), (1, .int (nI n))]) hx hb dX1_rowOf_1 rfl hl (by decide) rfl (fun ls hl => ?_)
  exact loopA 257 0 f1 s.heap [] ls (by omega) (by omega) (fun j hj => absurd hj (Nat.not_lt_zero j)) hP hD hS (lv_sub hl [1, 2, 0] rfl)
set_option maxHeartbeats 4000000 in
set_option maxRecDepth 100000 in
/-- choose(n, k): out of row n -/
theorem met_M_choose (l : Launch) (dC : Nat → ClassId) (dI : Nat → Nat → Nat) (h b0 b1 b2 : Nat) (c0 c1 c2 : ClassId) (sz p : Nat) (f0 f1 f2 : Nat → Int32) (n k : Int32) (hp : cd_P p) : Met l yX1_choose (ws_ yX1_choose cX1_choose 5 (some .int)) cd_r1 (va_Pc [.ref h, .int n, .int k] (fun U => cd_BM dC dI h b0 b1 b2 c0 c1 c2 sz p f0 f1 f2 U ∧ va_D (fun _ => True) (cd_wM h b0 b1 b2 c0 c1 c2 p f0 f1 f2))) (va_Qi (fun (r : Int32) (_ : Nat → Int32) => r = nI (cd_bin (cd_msk 8 n) (cd_msk 8 k) % p)) (fun u t => va_P (dC, dI) cd_CL (cd_wM h b0 b1 b2 c0 c1 c2 p f0 u f2) t.heap ∧ va_D (va_A (cd_wM h b0 b1 b2 c0 c1 c2 p f0 f1 f2) sz) (cd_wM h b0 b1 b2 c0 c1 c2 p f0 u f2)) (va_A (cd_wM h b0 b1 b2 c0 c1 c2 p f0 f1 f2) sz)) 0 0 (va_A (cd_wM h b0 b1 b2 c0 c1 c2 p f0 f1 f2) sz) := by
  have hp0 := hp.pos
  have hp2 := hp.two
  have hp13 := hp.le
  refine cd_start (by decide) (Nat.le_of_ble_eq_true rfl) ?_
  intro pg e s m args below meth c ls Q hx hb hr hml hown hlocks hnm hts hQ hl hB
  obtain ⟨⟨hsz, hP, hK⟩, hD0⟩ := hB
  subst hsz
  have hD := hD0.self (sz := s.heap.size)
  have hA : ∀ q : Nat, s.heap.size ≤ q → va_A (cd_wM h b0 b1 b2 c0 c1 c2 p f0 f1 f2) s.heap.size q := fun q h => Or.inr h
  generalize va_A (cd_wM h b0 b1 b2 c0 c1 c2 p f0 f1 f2) s.heap.size = A at hD hQ hA
  have hown : s.vm.findClass RX1 = some m.cls := hown
  have hl : lv_has ls 5 [(0, .ref h), (1, .int n), (2, .int k)] := hl
  have hS : va_S A s.heap s.heap [] := va_S.rf
  have hm := cd_msk_lt 8 n
  have hj := cd_msk_lt 8 k
  refine lv_iload_n hx hb dX1_choose_0 rfl (lv_at hl 1 rfl) ?_
  refine lv_sipush (v := nI 255) hx hb dX1_choose_1 (by decide) ?_
  refine nw_iand hx hb 8 (by decide) dX1_choose_4 ?_
  refine lv_istore_n (lv' := [(3, .int (nI (cd_msk 8 n))), (0, .ref h), (1, .int n), (2, .int k)]) hx hb dX1_choose_5 rfl hl (by decide) rfl (fun ls hl => ?_)
  refine lv_iload_n hx hb dX1_choose_6 rfl (lv_at hl 3 rfl) ?_
  refine lv_sipush (v := nI 255) hx hb dX1_choose_7 (by decide) ?_
  refine nw_iand hx hb 8 (by decide) dX1_choose_10 ?_
  refine lv_istore (lv' := [(4, .int (nI (cd_msk 8 k))), (3, .int (nI (cd_msk 8 n))), (0, .ref h), (1, .int n), (2, .int k)]) hx hb dX1_choose_11 hl (by decide) rfl (fun ls hl => ?_)
  refine lv_iload hx hb dX1_choose_13 (lv_at hl 0 rfl) ?_
  refine lv_iload_n hx hb dX1_choose_15 rfl (lv_at hl 1 rfl) ?_
  refine nw_icmp_le (tgt := 21) hx hb dX1_choose_16 (by decide) (by omega) (by omega) (fun h_16 => ?_) (fun h_16 => ?_)
  · refine lv_aload_n hx hb dX1_choose_21 rfl (lv_at hl 2 rfl) ?_
    refine lv_iload_n hx hb dX1_choose_22 rfl (lv_at hl 1 rfl) ?_
    have hFc := va_free (wc := cd_wM h b0 b1 b2 c0 c1 c2 p f0 f1 f2) hD hS hA [0, 1, 2, 3] rfl
    refine va_callv (va_runV (As := [.int (nI (cd_msk 8 n))]) (rest := []) ⟨hx, hb, hml, hown, hts⟩ (met_M_rowOf l dC dI h b0 b1 b2 c0 c1 c2 s.heap.size p f0 f1 f2 (cd_msk 8 n) (by omega) hp) (cwV 1 hts (lw_V q93 q95 qs2 q6 q96) rfl rfl rfl (by decide +kernel) ⟨Nat.le_of_ble_eq_true rfl, Nat.le_of_ble_eq_true rfl⟩) (cd_preD hK hP hD [0, 1, 2, 3] [0, 1, 2] rfl rfl rfl rfl rfl rfl rfl) rfl rfl hl.1 rfl (lv_room (Nat.le_of_ble_eq_true rfl)) dX1_choose_23 ⟨Nat.le_of_ble_eq_true rfl, Nat.le_of_ble_eq_true rfl⟩) hS (fun q _ h => hFc q h) hFc (fun r1 t H1 locs ht hvm hr1 hB hz1 hk1 hS => ?_)
    obtain ⟨hP1, hD1⟩ := hB
    rw [ht] at hP1
    obtain ⟨hP, hD⟩ := va_join (wr := []) (w1 := cd_wM h b0 b1 b2 c0 c1 c2 p f0 r1 f2) hP hD [0, 1, 2, 3] [] rfl rfl (by decide) (by decide) hk1 hFc hP1 hD1
    generalize H1 = H at hP hS ⊢
    have hP : va_P (dC, dI) cd_CL (cd_wM h b0 b1 b2 c0 c1 c2 p f0 r1 f2) H := hP
    have hD : va_D A (cd_wM h b0 b1 b2 c0 c1 c2 p f0 r1 f2) := hD
    have hr1 : ∀ j, j < 256 → r1 j = nI (cd_bin (cd_msk 8 n) j % p) := hr1
    refine lv_aload_n hx hb dX1_choose_26 rfl (lv_at hl 2 rfl) ?_
    refine gM2 hx hb hts hown hK hP 0 rfl dX1_choose_27 ?_
    refine lv_iload hx hb dX1_choose_30 (lv_at hl 0 rfl) ?_
    refine nw_iald hx hb hK hP 2 1 rfl rfl (by omega) (by decide) (v := (nI (cd_bin (cd_msk 8 n) (cd_msk 8 k) % p))) (hr1 (cd_msk 8 k) (by omega)) dX1_choose_32 ?_
    subst hQ
    exact W.iret hx hb hr (fun t ht hW => ⟨⟨_, r1, rfl, rfl, by rw [ht]; exact hP, hD⟩, hS.F ht⟩) hS.2.2 dX1_choose_33
  · refine lv_iconst (v := nI 0) hx hb dX1_choose_19 (by decide) ?_
    subst hQ
    exact W.iret hx hb hr (fun t ht hW => ⟨⟨_, f1, rfl, (by rw [cd_bin_gt (cd_msk 8 n) (cd_msk 8 k) (by omega), Nat.zero_mod]), by rw [ht]; exact hP, hD⟩, hS.F ht⟩) hS.2.2 dX1_choose_20
set_option maxHeartbeats 4000000 in
set_option maxRecDepth 100000 in
/-- left(n): counted -/
theorem met_M_left (l : Launch) (dC : Nat → ClassId) (dI : Nat → Nat → Nat) (h b0 b1 b2 : Nat) (c0 c1 c2 : ClassId) (sz p : Nat) (f0 f1 f2 : Nat → Int32) (n : Int32) (hp : cd_P p) : Met l yX1_left (ws_ yX1_left cX1_left 5 (some .int)) cd_r1 (va_Pc [.ref h, .int n] (fun U => cd_BM dC dI h b0 b1 b2 c0 c1 c2 sz p f0 f1 f2 U ∧ va_D (fun _ => True) (cd_wM h b0 b1 b2 c0 c1 c2 p f0 f1 f2))) (va_Qi (fun (r : Int32) (_ : Nat → Int32) => r = nI (cd_left p (cd_msk 8 n))) (fun u t => va_P (dC, dI) cd_CL (cd_wM h b0 b1 b2 c0 c1 c2 p f0 u f2) t.heap ∧ va_D (va_A (cd_wM h b0 b1 b2 c0 c1 c2 p f0 f1 f2) sz) (cd_wM h b0 b1 b2 c0 c1 c2 p f0 u f2)) (va_A (cd_wM h b0 b1 b2 c0 c1 c2 p f0 f1 f2) sz)) 0 0 (va_A (cd_wM h b0 b1 b2 c0 c1 c2 p f0 f1 f2) sz) := by
  have hp0 := hp.pos
  have hp2 := hp.two
  have hp13 := hp.le
  refine cd_start (by decide) (Nat.le_of_ble_eq_true rfl) ?_
  intro pg e s m args below meth c ls Q hx hb hr hml hown hlocks hnm hts hQ hl hB
  obtain ⟨⟨hsz, hP, hK⟩, hD0⟩ := hB
  subst hsz
  have hD := hD0.self (sz := s.heap.size)
  have hA : ∀ q : Nat, s.heap.size ≤ q → va_A (cd_wM h b0 b1 b2 c0 c1 c2 p f0 f1 f2) s.heap.size q := fun q h => Or.inr h
  generalize va_A (cd_wM h b0 b1 b2 c0 c1 c2 p f0 f1 f2) s.heap.size = A at hD hQ hA
  have hown : s.vm.findClass RX1 = some m.cls := hown
  have hl : lv_has ls 5 [(0, .ref h), (1, .int n)] := hl
  have hS : va_S A s.heap s.heap [] := va_S.rf
  have hm := cd_msk_lt 8 n
  refine lv_iload_n hx hb dX1_left_0 rfl (lv_at hl 1 rfl) ?_
  refine lv_sipush (v := nI 255) hx hb dX1_left_1 (by decide) ?_
  refine nw_iand hx hb 8 (by decide) dX1_left_4 ?_
  refine lv_istore_n (lv' := [(2, .int (nI (cd_msk 8 n))), (0, .ref h), (1, .int n)]) hx hb dX1_left_5 rfl hl (by decide) rfl (fun ls hl => ?_)
  refine lv_iconst (v := nI 0) hx hb dX1_left_6 (by decide) ?_
  refine lv_istore_n (lv' := [(3, .int (nI 0)), (2, .int (nI (cd_msk 8 n))), (0, .ref h), (1, .int n)]) hx hb dX1_left_7 rfl hl (by decide) rfl (fun ls hl => ?_)
  refine lv_aload_n hx hb dX1_left_8 rfl (lv_at hl 2 rfl) ?_
  refine lv_iload_n hx hb dX1_left_9 rfl (lv_at hl 1 rfl) ?_
  have hFc := va_free (wc := cd_wM h b0 b1 b2 c0 c1 c2 p f0 f1 f2) hD hS hA [0, 1, 2, 3] rfl
  refine va_callv (va_runV (As := [.int (nI (cd_msk 8 n))]) (rest := []) ⟨hx, hb, hml, hown, hts⟩ (met_M_rowOf l dC dI h b0 b1 b2 c0 c1 c2 s.heap.size p f0 f1 f2 (cd_msk 8 n) (by omega) hp) (cwV 1 hts (lw_V q93 q95 qs2 q6 q96) rfl rfl rfl (by decide +kernel) ⟨Nat.le_of_ble_eq_true rfl, Nat.le_of_ble_eq_true rfl⟩) (cd_preD hK hP hD [0, 1, 2, 3] [0, 1, 2] rfl rfl rfl rfl rfl rfl rfl) rfl rfl hl.1 rfl (lv_room (Nat.le_of_ble_eq_true rfl)) dX1_left_10 ⟨Nat.le_of_ble_eq_true rfl, Nat.le_of_ble_eq_true rfl⟩) hS (fun q _ h => hFc q h) hFc (fun r1 t H1 locs ht hvm hr1 hB hz1 hk1 hS => ?_)
  obtain ⟨hP1, hD1⟩ := hB
  rw [ht] at hP1
  obtain ⟨hP, hD⟩ := va_join (wr := []) (w1 := cd_wM h b0 b1 b2 c0 c1 c2 p f0 r1 f2) hP hD [0, 1, 2, 3] [] rfl rfl (by decide) (by decide) hk1 hFc hP1 hD1
  generalize H1 = H at hP hS ⊢
  have hP : va_P (dC, dI) cd_CL (cd_wM h b0 b1 b2 c0 c1 c2 p f0 r1 f2) H := hP
  have hD : va_D A (cd_wM h b0 b1 b2 c0 c1 c2 p f0 r1 f2) := hD
  have hr1 : ∀ j, j < 256 → r1 j = nI (cd_bin (cd_msk 8 n) j % p) := hr1
  refine lv_iconst (v := nI 0) hx hb dX1_left_13 (by decide) ?_
  refine lv_istore (lv' := [(4, .int (nI 0)), (3, .int (nI 0)), (2, .int (nI (cd_msk 8 n))), (0, .ref h), (1, .int n)]) hx hb dX1_left_14 hl (by decide) rfl (fun ls hl => ?_)
  have loop : ∀ (w i k5 : Nat) (ls : Array Slot), (cd_msk 8 n) + 1 < i + w → i ≤ (cd_msk 8 n) + 1 → k5 = cd_cnt p (cd_msk 8 n) i → lv_has ls 5 [(0, .ref h), (2, .int (nI (cd_msk 8 n))), (3, .int (nI k5)), (4, .int (nI i))] → W pg l e cd_r1 s m args below meth c H locs 0 0 Q (F0 m 16 ls []) := by
    intro w
    induction w with
    | zero => intro i k5 ls h1 h2; exact absurd h1 (by omega)
    | succ w ih =>
      intro i k5 ls hw him hinv hl
      refine lv_iload hx hb dX1_left_16 (lv_at hl 3 rfl) ?_
      refine lv_iload_n hx hb dX1_left_18 rfl (lv_at hl 1 rfl) ?_
      refine nw_icmp_gt (tgt := 42) hx hb dX1_left_19 (by decide) (by omega) (by omega) (fun h_19 => ?_) (fun h_19 => ?_)
      · refine lv_iload_n hx hb dX1_left_42 rfl (lv_at hl 2 rfl) ?_
        subst hQ
        exact W.iret hx hb hr (fun t ht hW => ⟨⟨_, r1, rfl, (by rw [hinv, show i = (cd_msk 8 n) + 1 by omega]; rfl), by rw [ht]; exact hP, hD⟩, hS.F ht⟩) hS.2.2 dX1_left_43
      · refine lv_aload_n hx hb dX1_left_22 rfl (lv_at hl 0 rfl) ?_
        refine gM2 hx hb hts hown hK hP 0 rfl dX1_left_23 ?_
        refine lv_iload hx hb dX1_left_26 (lv_at hl 3 rfl) ?_
        refine nw_iald hx hb hK hP 2 1 rfl rfl (by omega) (by decide) (v := (nI (cd_bin (cd_msk 8 n) i % p))) (hr1 i (by omega)) dX1_left_28 ?_
        refine nw_if_eq (tgt := 36) hx hb dX1_left_29 (by decide) (Nat.lt_trans (Nat.mod_lt _ hp0) (by omega)) (fun h_29 => ?_) (fun h_29 => ?_)
        · refine lv_iinc (v := nI (i + 1)) (lv' := [(4, .int (nI (i + 1))), (0, .ref h), (2, .int (nI (cd_msk 8 n))), (3, .int (nI k5))]) hx hb dX1_left_36 hl (k := 3) rfl (cd_inc i) (by decide) rfl (fun ls hl => ?_)
          refine lv_goto (tgt := 16) hx hb dX1_left_39 (by decide) ?_
          exact ih (i + 1) _ ls (by omega) (by omega) (by rw [cd_cnt_s, cd_nz, if_pos h_29, hinv, Nat.add_zero]) (lv_sub hl [1, 2, 3, 0] rfl)
        · refine lv_iload_n hx hb dX1_left_32 rfl (lv_at hl 2 rfl) ?_
          refine lv_iconst (v := nI 1) hx hb dX1_left_33 (by decide) ?_
          refine nw_iadd hx hb dX1_left_34 ?_
          refine lv_istore_n (lv' := [(3, .int (nI (k5 + 1))), (0, .ref h), (2, .int (nI (cd_msk 8 n))), (4, .int (nI i))]) hx hb dX1_left_35 rfl hl (by decide) rfl (fun ls hl => ?_)
          refine lv_iinc (v := nI (i + 1)) (lv' := [(4, .int (nI (i + 1))), (3, .int (nI (k5 + 1))), (0, .ref h), (2, .int (nI (cd_msk 8 n)))]) hx hb dX1_left_36 hl (k := 3) rfl (cd_inc i) (by decide) rfl (fun ls hl => ?_)
          refine lv_goto (tgt := 16) hx hb dX1_left_39 (by decide) ?_
          exact ih (i + 1) _ ls (by omega) (by omega) (by rw [cd_cnt_s, cd_nz, if_neg h_29, hinv]) (lv_sub hl [2, 3, 1, 0] rfl)
  exact loop ((cd_msk 8 n) + 2) 0 0 ls (by omega) (by omega) rfl (lv_sub hl [3, 2, 1, 0] rfl)
set_option maxHeartbeats 4000000 in
set_option maxRecDepth 100000 in
/-- many(n, a, b): out of two rows -/
theorem met_M_many (l : Launch) (dC : Nat → ClassId) (dI : Nat → Nat → Nat) (h b0 b1 b2 : Nat) (c0 c1 c2 : ClassId) (sz p : Nat) (f0 f1 f2 : Nat → Int32) (n a b : Int32) (hp : cd_P p) : Met l yX1_many (ws_ yX1_many cX1_many 8 (some .int)) cd_r1 (va_Pc [.ref h, .int n, .int a, .int b] (fun U => cd_BM dC dI h b0 b1 b2 c0 c1 c2 sz p f0 f1 f2 U ∧ va_D (fun _ => True) (cd_wM h b0 b1 b2 c0 c1 c2 p f0 f1 f2))) (va_Qi (fun (r : Int32) (_ : Nat → Int32) => r = nI (cd_many p (cd_msk 6 n) (cd_msk 6 a) (cd_msk 6 b))) (fun u t => va_P (dC, dI) cd_CL (cd_wM h b0 b1 b2 c0 c1 c2 p f0 u f2) t.heap ∧ va_D (va_A (cd_wM h b0 b1 b2 c0 c1 c2 p f0 f1 f2) sz) (cd_wM h b0 b1 b2 c0 c1 c2 p f0 u f2)) (va_A (cd_wM h b0 b1 b2 c0 c1 c2 p f0 f1 f2) sz)) 0 0 (va_A (cd_wM h b0 b1 b2 c0 c1 c2 p f0 f1 f2) sz) := by
  have hp0 := hp.pos
  have hp2 := hp.two
  have hp13 := hp.le
  refine cd_start (by decide) (Nat.le_of_ble_eq_true rfl) ?_
  intro pg e s m args below meth c ls Q hx hb hr hml hown hlocks hnm hts hQ hl hB
  obtain ⟨⟨hsz, hP, hK⟩, hD0⟩ := hB
  subst hsz
  have hD := hD0.self (sz := s.heap.size)
  have hA : ∀ q : Nat, s.heap.size ≤ q → va_A (cd_wM h b0 b1 b2 c0 c1 c2 p f0 f1 f2) s.heap.size q := fun q h => Or.inr h
  generalize va_A (cd_wM h b0 b1 b2 c0 c1 c2 p f0 f1 f2) s.heap.size = A at hD hQ hA
  have hown : s.vm.findClass RX1 = some m.cls := hown
  have hl : lv_has ls 8 [(0, .ref h), (1, .int n), (2, .int a), (3, .int b)] := hl
  have hS : va_S A s.heap s.heap [] := va_S.rf
  have hn6 := cd_msk_lt 6 n
  have ha6 := cd_msk_lt 6 a
  have hb6 := cd_msk_lt 6 b
  refine lv_iload_n hx hb dX1_many_0 rfl (lv_at hl 1 rfl) ?_
  refine lv_bipush (v := nI 63) hx hb dX1_many_1 (by decide) ?_
  refine nw_iand hx hb 6 (by decide) dX1_many_3 ?_
  refine lv_istore (lv' := [(4, .int (nI (cd_msk 6 n))), (0, .ref h), (1, .int n), (2, .int a), (3, .int b)]) hx hb dX1_many_4 hl (by decide) rfl (fun ls hl => ?_)
  refine lv_iload_n hx hb dX1_many_6 rfl (lv_at hl 3 rfl) ?_
  refine lv_bipush (v := nI 63) hx hb dX1_many_7 (by decide) ?_
  refine nw_iand hx hb 6 (by decide) dX1_many_9 ?_
  refine lv_istore (lv' := [(5, .int (nI (cd_msk 6 a))), (4, .int (nI (cd_msk 6 n))), (0, .ref h), (1, .int n), (2, .int a), (3, .int b)]) hx hb dX1_many_10 hl (by decide) rfl (fun ls hl => ?_)
  refine lv_iload_n hx hb dX1_many_12 rfl (lv_at hl 5 rfl) ?_
  refine lv_bipush (v := nI 63) hx hb dX1_many_13 (by decide) ?_
  refine nw_iand hx hb 6 (by decide) dX1_many_15 ?_
  refine lv_istore (lv' := [(6, .int (nI (cd_msk 6 b))), (5, .int (nI (cd_msk 6 a))), (4, .int (nI (cd_msk 6 n))), (0, .ref h), (1, .int n), (2, .int a), (3, .int b)]) hx hb dX1_many_16 hl (by decide) rfl (fun ls hl => ?_)
  refine lv_iload hx hb dX1_many_18 (lv_at hl 1 rfl) ?_
  refine lv_iload hx hb dX1_many_20 (lv_at hl 0 rfl) ?_
  refine nw_iadd hx hb dX1_many_22 ?_
  refine lv_iload hx hb dX1_many_23 (lv_at hl 2 rfl) ?_
  refine nw_icmp_le (tgt := 30) hx hb dX1_many_25 (by decide) (by omega) (by omega) (fun h_25 => ?_) (fun h_25 => ?_)
  · refine lv_aload_n hx hb dX1_many_30 rfl (lv_at hl 3 rfl) ?_
    refine lv_iload hx hb dX1_many_31 (lv_at hl 2 rfl) ?_
    have hFc := va_free (wc := cd_wM h b0 b1 b2 c0 c1 c2 p f0 f1 f2) hD hS hA [0, 1, 2, 3] rfl
    refine va_callv (va_runV (As := [.int (nI (cd_msk 6 n))]) (rest := []) ⟨hx, hb, hml, hown, hts⟩ (met_M_rowOf l dC dI h b0 b1 b2 c0 c1 c2 s.heap.size p f0 f1 f2 (cd_msk 6 n) (by omega) hp) (cwV 1 hts (lw_V q93 q95 qs2 q6 q96) rfl rfl rfl (by decide +kernel) ⟨Nat.le_of_ble_eq_true rfl, Nat.le_of_ble_eq_true rfl⟩) (cd_preD hK hP hD [0, 1, 2, 3] [0, 1, 2] rfl rfl rfl rfl rfl rfl rfl) rfl rfl hl.1 rfl (lv_room (Nat.le_of_ble_eq_true rfl)) dX1_many_33 ⟨Nat.le_of_ble_eq_true rfl, Nat.le_of_ble_eq_true rfl⟩) hS (fun q _ h => hFc q h) hFc (fun r1 t H1 locs ht hvm hr1 hB hz1 hk1 hS => ?_)
    obtain ⟨hP1, hD1⟩ := hB
    rw [ht] at hP1
    obtain ⟨hP, hD⟩ := va_join (wr := []) (w1 := cd_wM h b0 b1 b2 c0 c1 c2 p f0 r1 f2) hP hD [0, 1, 2, 3] [] rfl rfl (by decide) (by decide) hk1 hFc hP1 hD1
    generalize H1 = H at hP hS ⊢
    have hP : va_P (dC, dI) cd_CL (cd_wM h b0 b1 b2 c0 c1 c2 p f0 r1 f2) H := hP
    have hD : va_D A (cd_wM h b0 b1 b2 c0 c1 c2 p f0 r1 f2) := hD
    have hr1 : ∀ j, j < 256 → r1 j = nI (cd_bin (cd_msk 6 n) j % p) := hr1
    refine lv_aload_n hx hb dX1_many_36 rfl (lv_at hl 3 rfl) ?_
    refine gM2 hx hb hts hown hK hP 0 rfl dX1_many_37 ?_
    refine lv_iload hx hb dX1_many_40 (lv_at hl 1 rfl) ?_
    refine nw_iald hx hb hK hP 2 1 rfl rfl (by omega) (by decide) (v := (nI (cd_bin (cd_msk 6 n) (cd_msk 6 a) % p))) (hr1 (cd_msk 6 a) (by omega)) dX1_many_42 ?_
    refine lv_istore (lv' := [(7, .int (nI (cd_bin (cd_msk 6 n) (cd_msk 6 a) % p))), (6, .int (nI (cd_msk 6 b))), (5, .int (nI (cd_msk 6 a))), (4, .int (nI (cd_msk 6 n))), (0, .ref h), (1, .int n), (2, .int a), (3, .int b)]) hx hb dX1_many_43 hl (by decide) rfl (fun ls hl => ?_)
    refine lv_aload_n hx hb dX1_many_45 rfl (lv_at hl 4 rfl) ?_
    refine lv_iload hx hb dX1_many_46 (lv_at hl 3 rfl) ?_
    refine lv_iload hx hb dX1_many_48 (lv_at hl 2 rfl) ?_
    refine nw_isub hx hb dX1_many_50 (by omega) ?_
    have hFc := va_free (wc := cd_wM h b0 b1 b2 c0 c1 c2 p f0 r1 f2) hD hS hA [0, 1, 2, 3] rfl
    refine va_callv (va_runV (As := [.int (nI ((cd_msk 6 n) - (cd_msk 6 a)))]) (rest := []) ⟨hx, hb, hml, hown, hts⟩ (met_M_rowOf l dC dI h b0 b1 b2 c0 c1 c2 H.size p f0 r1 f2 ((cd_msk 6 n) - (cd_msk 6 a)) (by omega) hp) (cwV 1 hts (lw_V q93 q95 qs2 q6 q96) rfl rfl rfl (by decide +kernel) ⟨Nat.le_of_ble_eq_true rfl, Nat.le_of_ble_eq_true rfl⟩) (cd_preD hK hP hD [0, 1, 2, 3] [0, 1, 2] rfl rfl rfl rfl rfl rfl rfl) rfl rfl hl.1 rfl (lv_room (Nat.le_of_ble_eq_true rfl)) dX1_many_51 ⟨Nat.le_of_ble_eq_true rfl, Nat.le_of_ble_eq_true rfl⟩) hS (fun q _ h => hFc q h) hFc (fun r2 t H1 locs ht hvm hr2 hB hz1 hk1 hS => ?_)
    obtain ⟨hP1, hD1⟩ := hB
    rw [ht] at hP1
    obtain ⟨hP, hD⟩ := va_join (wr := []) (w1 := cd_wM h b0 b1 b2 c0 c1 c2 p f0 r2 f2) hP hD [0, 1, 2, 3] [] rfl rfl (by decide) (by decide) hk1 hFc hP1 hD1
    generalize H1 = H at hP hS ⊢
    have hP : va_P (dC, dI) cd_CL (cd_wM h b0 b1 b2 c0 c1 c2 p f0 r2 f2) H := hP
    have hD : va_D A (cd_wM h b0 b1 b2 c0 c1 c2 p f0 r2 f2) := hD
    have hr2 : ∀ j, j < 256 → r2 j = nI (cd_bin ((cd_msk 6 n) - (cd_msk 6 a)) j % p) := hr2
    refine lv_iload hx hb dX1_many_54 (lv_at hl 0 rfl) ?_
    refine lv_aload_n hx hb dX1_many_56 rfl (lv_at hl 4 rfl) ?_
    refine gM2 hx hb hts hown hK hP 0 rfl dX1_many_57 ?_
    refine lv_iload hx hb dX1_many_60 (lv_at hl 1 rfl) ?_
    refine nw_iald hx hb hK hP 2 1 rfl rfl (by omega) (by decide) (v := (nI (cd_bin ((cd_msk 6 n) - (cd_msk 6 a)) (cd_msk 6 b) % p))) (hr2 (cd_msk 6 b) (by omega)) dX1_many_62 ?_
    refine nw_imul hx hb dX1_many_63 ?_
    refine lv_aload_n hx hb dX1_many_64 rfl (lv_at hl 4 rfl) ?_
    refine gM1 hx hb hts hown hK hP 0 rfl dX1_many_65 ?_
    refine nw_irem hx hb dX1_many_68 (cd_m2 hp13 (Nat.mod_lt _ hp0) (Nat.mod_lt _ hp0)) hp0 (by omega) ?_
    subst hQ
    exact W.iret hx hb hr (fun t ht hW => ⟨⟨_, r2, rfl, (by rw [cd_many, if_pos h_25]), by rw [ht]; exact hP, hD⟩, hS.F ht⟩) hS.2.2 dX1_many_69
  · refine lv_iconst (v := nI 0) hx hb dX1_many_28 (by decide) ?_
    subst hQ
    exact W.iret hx hb hr (fun t ht hW => ⟨⟨_, f1, rfl, (by rw [cd_many, if_neg (by omega)]), by rw [ht]; exact hP, hD⟩, hS.F ht⟩) hS.2.2 dX1_many_29
set_option maxHeartbeats 4000000 in
set_option maxRecDepth 100000 in
/-- prime(k) -/
theorem met_M_prime (l : Launch) (dC : Nat → ClassId) (dI : Nat → Nat → Nat) (h b0 b1 b2 : Nat) (c0 c1 c2 : ClassId) (sz p : Nat) (f0 f1 f2 : Nat → Int32) (n : Int32) (hf0 : ∀ i, i < 6 → f0 i = nI (cd_pn i)) : Met l yX1_prime (ws_ yX1_prime cX1_prime 2 none) cd_r0 (va_Pc [.ref h, .int n] (fun U => cd_BM dC dI h b0 b1 b2 c0 c1 c2 sz p f0 f1 f2 U ∧ va_D (fun _ => True) (cd_wM h b0 b1 b2 c0 c1 c2 p f0 f1 f2))) (va_Qv (fun _ : Unit => True) (fun _ t => va_P (dC, dI) cd_CL (cd_wM h b0 b1 b2 c0 c1 c2 (cd_pn (cd_msk 31 n % 6)) f0 f1 f2) t.heap ∧ va_D (va_A (cd_wM h b0 b1 b2 c0 c1 c2 p f0 f1 f2) sz) (cd_wM h b0 b1 b2 c0 c1 c2 (cd_pn (cd_msk 31 n % 6)) f0 f1 f2)) (va_A (cd_wM h b0 b1 b2 c0 c1 c2 p f0 f1 f2) sz)) 0 0 (va_A (cd_wM h b0 b1 b2 c0 c1 c2 p f0 f1 f2) sz) := by
  refine cd_start (by decide) (Nat.le_of_ble_eq_true rfl) ?_
  intro pg e s m args below meth c ls Q hx hb hr hml hown hlocks hnm hts hQ hl hB
  obtain ⟨⟨hsz, hP, hK⟩, hD0⟩ := hB
  subst hsz
  have hD := hD0.self (sz := s.heap.size)
  have hA : ∀ q : Nat, s.heap.size ≤ q → va_A (cd_wM h b0 b1 b2 c0 c1 c2 p f0 f1 f2) s.heap.size q := fun q h => Or.inr h
  generalize va_A (cd_wM h b0 b1 b2 c0 c1 c2 p f0 f1 f2) s.heap.size = A at hD hQ hA
  have hown : s.vm.findClass RX1 = some m.cls := hown
  have hl : lv_has ls 2 [(0, .ref h), (1, .int n)] := hl
  have hS : va_S A s.heap s.heap [] := va_S.rf
  refine lv_aload_n hx hb dX1_prime_0 rfl (lv_at hl 0 rfl) ?_
  refine lv_aload_n hx hb dX1_prime_1 rfl (lv_at hl 0 rfl) ?_
  refine gM0 hx hb hts hown hK hP 0 rfl dX1_prime_2 ?_
  refine lv_iload_n hx hb dX1_prime_5 rfl (lv_at hl 1 rfl) ?_
  refine lv_ldc hx hb hown (hts _ q88) dX1_prime_6 ?_
  refine nw_iand hx hb 31 (by decide) dX1_prime_8 ?_
  refine lv_bipush (v := nI 6) hx hb dX1_prime_9 (by decide) ?_
  refine nw_irem hx hb dX1_prime_11 (cd_msk_lt 31 n) (by decide) (by decide) ?_
  refine nw_iald hx hb hK hP 1 0 rfl rfl (Nat.mod_lt _ (by decide)) (by decide) (v := (nI (cd_pn (cd_msk 31 n % 6)))) (hf0 _ (Nat.mod_lt _ (by decide))) dX1_prime_12 ?_
  refine va_put (D := (dC, dI)) (ci := 1) (v := .int (nI (cd_pn (cd_msk 31 n % 6)))) (ty := .int) (C := RX1) (T := TX1) (N := 4) hx hb hts in_X1 tyX1 tyX1_ok nmX1 hown hK hP hD hS 0 rfl rfl 1 (by decide) (hts _ q72) (fun _ h9 => h9) rfl (by decide +kernel) rfl rfl (Nat.le_of_ble_eq_true rfl) dX1_prime_13 (fun H locs hP hD hS => ?_)
  have hP : va_P (dC, dI) cd_CL (cd_wM h b0 b1 b2 c0 c1 c2 (cd_pn (cd_msk 31 n % 6)) f0 f1 f2) H := hP
  have hD : va_D A (cd_wM h b0 b1 b2 c0 c1 c2 (cd_pn (cd_msk 31 n % 6)) f0 f1 f2) := hD
  subst hQ
  exact W.vret hx hb hr (fun t ht hW => ⟨⟨(), rfl, trivial, by rw [ht]; exact hP, hD⟩, hS.F ht⟩) hS.2.2 dX1_prime_16
abbrev cd_rm : Room := { frames := 1, cells := 3, slots := 326, locals := 27 }
set_option maxHeartbeats 4000000 in
set_option maxRecDepth 100000 in
/-- ChooseDeskModel(): p is 2 -/
theorem met_M_init (l : Launch) (dC : Nat → ClassId) (dI : Nat → Nat → Nat) (h : Nat) (sz : Nat) : Met l yX1_init (ws_ yX1_init cX1_init 1 none) cd_rm (va_Pc [.ref h] (fun U => (U.heap.size = sz ∧ va_P (dC, dI) cd_CL [(h, .inr (1, [.null, .int 0, .null, .null]))] U.heap ∧ va_K (dC, dI) cd_CL [] U) ∧ va_D (fun _ => True) [(h, .inr (1, [.null, .int 0, .null, .null]))])) (va_Qv (fun u : Nat × Nat × Nat × ClassId × ClassId × ClassId × (Nat → Int32) × (Nat → Int32) × (Nat → Int32) => ∀ i, i < 6 → u.2.2.2.2.2.2.1 i = nI (cd_pn i)) (fun u t => va_P (dC, dI) cd_CL (cd_wM h u.1 u.2.1 u.2.2.1 u.2.2.2.1 u.2.2.2.2.1 u.2.2.2.2.2.1 2 u.2.2.2.2.2.2.1 u.2.2.2.2.2.2.2.1 u.2.2.2.2.2.2.2.2) t.heap ∧ va_K (dC, dI) cd_CL [(u.2.2.2.1, .int), (u.2.2.2.2.1, .int), (u.2.2.2.2.2.1, .int)] t ∧ va_D (va_A [(h, .inr (1, [.null, .int 0, .null, .null]))] sz) (cd_wM h u.1 u.2.1 u.2.2.1 u.2.2.2.1 u.2.2.2.2.1 u.2.2.2.2.2.1 2 u.2.2.2.2.2.2.1 u.2.2.2.2.2.2.2.1 u.2.2.2.2.2.2.2.2)) (va_A [(h, .inr (1, [.null, .int 0, .null, .null]))] sz)) 3 326 (va_A [(h, .inr (1, [.null, .int 0, .null, .null]))] sz) := by
  refine cd_start (by decide) (Nat.le_of_ble_eq_true rfl) ?_
  intro pg e s m args below meth c ls Q hx hb hr hml hown hlocks hnm hts hQ hl hB
  obtain ⟨⟨hsz, hP, hK⟩, hD0⟩ := hB
  subst hsz
  have hD := hD0.self (sz := s.heap.size)
  have hA : ∀ q : Nat, s.heap.size ≤ q → va_A [(h, .inr (1, [.null, .int 0, .null, .null]))] s.heap.size q := fun q h => Or.inr h
  generalize va_A [(h, .inr (1, [.null, .int 0, .null, .null]))] s.heap.size = A at hD hQ hA
  have hown : s.vm.findClass RX1 = some m.cls := hown
  have hnm : meth.name = "<init>" := hnm
  have hl : lv_has ls 1 [(0, .ref h)] := hl
  have hS : va_S A s.heap s.heap [] := va_S.rf
  refine lv_aload_n hx hb dX1_init_0 rfl (lv_at hl 0 rfl) ?_
  refine W.objInit hx hb hown (hts _ q70) (hts _ q13) (hts _ q14) rfl (by rw [hml]; exact hl.1) rfl dX1_init_1 (Nat.le_of_ble_eq_true rfl) (Nat.le_of_ble_eq_true rfl) ?_
  refine W.eq (g2 := F0 m 4 ls []) rfl ?_
  refine lv_aload_n hx hb dX1_init_4 rfl (lv_at hl 0 rfl) ?_
  refine lv_bipush (v := nI 6) hx hb dX1_init_5 (by decide) ?_
  refine va_newa (atype := .int) (a0 := (6, .inl (fun _ => 0))) (N' := 6) hx hb (hts _ q29) rfl hK hP hD hS hA (fun _ => rfl) (by decide) (by decide) (by decide) (Nat.le_of_ble_eq_true rfl) (Nat.le_of_ble_eq_true rfl) dX1_init_7 (fun b0 c0 H hK hP hD hS => ?_)
  have hP : va_P (dC, dI) cd_CL [(h, .inr (1, [.null, .int 0, .null, .null])), (b0, .inl (c0, 6, .inl (fun _ => 0)))] H := hP
  have hD : va_D A [(h, .inr (1, [.null, .int 0, .null, .null])), (b0, .inl (c0, 6, .inl (fun _ => 0)))] := hD
  refine W.widen (k := 1) (n := 6) (by omega) (by omega) ?_
  refine lv_dup hx hb dX1_init_9 rfl ?_
  refine lv_iconst (v := nI 0) hx hb dX1_init_10 (by decide) ?_
  refine lv_iconst (v := nI 2) hx hb dX1_init_11 (by decide) ?_
  refine nw_iast hx hb hK hP hD hS 1 0 rfl rfl (by decide) (by decide) dX1_init_12 (fun H locs hP hD hS => ?_)
  have hP : va_P (dC, dI) cd_CL ([(h, .inr (1, [.null, .int 0, .null, .null])), (b0, .inl (c0, 6, .inl (upd (fun _ => 0) 0 (nI 2))))]) H := hP
  have hD : va_D A ([(h, .inr (1, [.null, .int 0, .null, .null])), (b0, .inl (c0, 6, .inl (upd (fun _ => 0) 0 (nI 2))))]) := hD
  refine lv_dup hx hb dX1_init_13 rfl ?_
  refine lv_iconst (v := nI 1) hx hb dX1_init_14 (by decide) ?_
  refine lv_iconst (v := nI 3) hx hb dX1_init_15 (by decide) ?_
  refine nw_iast hx hb hK hP hD hS 1 0 rfl rfl (by decide) (by decide) dX1_init_16 (fun H locs hP hD hS => ?_)
  have hP : va_P (dC, dI) cd_CL ([(h, .inr (1, [.null, .int 0, .null, .null])), (b0, .inl (c0, 6, .inl (upd (upd (fun _ => 0) 0 (nI 2)) 1 (nI 3))))]) H := hP
  have hD : va_D A ([(h, .inr (1, [.null, .int 0, .null, .null])), (b0, .inl (c0, 6, .inl (upd (upd (fun _ => 0) 0 (nI 2)) 1 (nI 3))))]) := hD
  refine lv_dup hx hb dX1_init_17 rfl ?_
  refine lv_iconst (v := nI 2) hx hb dX1_init_18 (by decide) ?_
  refine lv_iconst (v := nI 5) hx hb dX1_init_19 (by decide) ?_
  refine nw_iast hx hb hK hP hD hS 1 0 rfl rfl (by decide) (by decide) dX1_init_20 (fun H locs hP hD hS => ?_)
  have hP : va_P (dC, dI) cd_CL ([(h, .inr (1, [.null, .int 0, .null, .null])), (b0, .inl (c0, 6, .inl (upd (upd (upd (fun _ => 0) 0 (nI 2)) 1 (nI 3)) 2 (nI 5))))]) H := hP
  have hD : va_D A ([(h, .inr (1, [.null, .int 0, .null, .null])), (b0, .inl (c0, 6, .inl (upd (upd (upd (fun _ => 0) 0 (nI 2)) 1 (nI 3)) 2 (nI 5))))]) := hD
  refine lv_dup hx hb dX1_init_21 rfl ?_
  refine lv_iconst (v := nI 3) hx hb dX1_init_22 (by decide) ?_
  refine lv_bipush (v := nI 7) hx hb dX1_init_23 (by decide) ?_
  refine nw_iast hx hb hK hP hD hS 1 0 rfl rfl (by decide) (by decide) dX1_init_25 (fun H locs hP hD hS => ?_)
  have hP : va_P (dC, dI) cd_CL ([(h, .inr (1, [.null, .int 0, .null, .null])), (b0, .inl (c0, 6, .inl (upd (upd (upd (upd (fun _ => 0) 0 (nI 2)) 1 (nI 3)) 2 (nI 5)) 3 (nI 7))))]) H := hP
  have hD : va_D A ([(h, .inr (1, [.null, .int 0, .null, .null])), (b0, .inl (c0, 6, .inl (upd (upd (upd (upd (fun _ => 0) 0 (nI 2)) 1 (nI 3)) 2 (nI 5)) 3 (nI 7))))]) := hD
  refine lv_dup hx hb dX1_init_26 rfl ?_
  refine lv_iconst (v := nI 4) hx hb dX1_init_27 (by decide) ?_
  refine lv_bipush (v := nI 11) hx hb dX1_init_28 (by decide) ?_
  refine nw_iast hx hb hK hP hD hS 1 0 rfl rfl (by decide) (by decide) dX1_init_30 (fun H locs hP hD hS => ?_)
  have hP : va_P (dC, dI) cd_CL ([(h, .inr (1, [.null, .int 0, .null, .null])), (b0, .inl (c0, 6, .inl (upd (upd (upd (upd (upd (fun _ => 0) 0 (nI 2)) 1 (nI 3)) 2 (nI 5)) 3 (nI 7)) 4 (nI 11))))]) H := hP
  have hD : va_D A ([(h, .inr (1, [.null, .int 0, .null, .null])), (b0, .inl (c0, 6, .inl (upd (upd (upd (upd (upd (fun _ => 0) 0 (nI 2)) 1 (nI 3)) 2 (nI 5)) 3 (nI 7)) 4 (nI 11))))]) := hD
  refine lv_dup hx hb dX1_init_31 rfl ?_
  refine lv_iconst (v := nI 5) hx hb dX1_init_32 (by decide) ?_
  refine lv_bipush (v := nI 13) hx hb dX1_init_33 (by decide) ?_
  refine nw_iast hx hb hK hP hD hS 1 0 rfl rfl (by decide) (by decide) dX1_init_35 (fun H locs hP hD hS => ?_)
  have hP : va_P (dC, dI) cd_CL ([(h, .inr (1, [.null, .int 0, .null, .null])), (b0, .inl (c0, 6, .inl (upd (upd (upd (upd (upd (upd (fun _ => 0) 0 (nI 2)) 1 (nI 3)) 2 (nI 5)) 3 (nI 7)) 4 (nI 11)) 5 (nI 13))))]) H := hP
  have hD : va_D A ([(h, .inr (1, [.null, .int 0, .null, .null])), (b0, .inl (c0, 6, .inl (upd (upd (upd (upd (upd (upd (fun _ => 0) 0 (nI 2)) 1 (nI 3)) 2 (nI 5)) 3 (nI 7)) 4 (nI 11)) 5 (nI 13))))]) := hD
  refine va_putF (D := (dC, dI)) (ci := 1) (v := .ref b0) (ty := .array .int) (C := RX1) (T := TX1) (N := 4) hx hb hts in_X1 tyX1 tyX1_ok nmX1 hown hK hP hD hS 0 rfl rfl 0 (by decide) (hts _ q71) (fun _ h9 => h9) rfl hnm rfl (by decide +kernel) rfl rfl (Nat.le_of_ble_eq_true rfl) dX1_init_36 (fun H locs hP hD hS => ?_)
  have hP : va_P (dC, dI) cd_CL [(h, .inr (1, [.ref b0, .int 0, .null, .null])), (b0, .inl (c0, 6, .inl (upd (upd (upd (upd (upd (upd (fun _ => 0) 0 (nI 2)) 1 (nI 3)) 2 (nI 5)) 3 (nI 7)) 4 (nI 11)) 5 (nI 13))))] H := hP
  have hD : va_D A [(h, .inr (1, [.ref b0, .int 0, .null, .null])), (b0, .inl (c0, 6, .inl (upd (upd (upd (upd (upd (upd (fun _ => 0) 0 (nI 2)) 1 (nI 3)) 2 (nI 5)) 3 (nI 7)) 4 (nI 11)) 5 (nI 13))))] := hD
  refine lv_aload_n hx hb dX1_init_39 rfl (lv_at hl 0 rfl) ?_
  refine lv_iconst (v := nI 2) hx hb dX1_init_40 (by decide) ?_
  refine va_put (D := (dC, dI)) (ci := 1) (v := .int (nI 2)) (ty := .int) (C := RX1) (T := TX1) (N := 4) hx hb hts in_X1 tyX1 tyX1_ok nmX1 hown hK hP hD hS 0 rfl rfl 1 (by decide) (hts _ q72) (fun _ h9 => h9) rfl (by decide +kernel) rfl rfl (Nat.le_of_ble_eq_true rfl) dX1_init_41 (fun H locs hP hD hS => ?_)
  have hP : va_P (dC, dI) cd_CL [(h, .inr (1, [.ref b0, .int (nI 2), .null, .null])), (b0, .inl (c0, 6, .inl (upd (upd (upd (upd (upd (upd (fun _ => 0) 0 (nI 2)) 1 (nI 3)) 2 (nI 5)) 3 (nI 7)) 4 (nI 11)) 5 (nI 13))))] H := hP
  have hD : va_D A [(h, .inr (1, [.ref b0, .int (nI 2), .null, .null])), (b0, .inl (c0, 6, .inl (upd (upd (upd (upd (upd (upd (fun _ => 0) 0 (nI 2)) 1 (nI 3)) 2 (nI 5)) 3 (nI 7)) 4 (nI 11)) 5 (nI 13))))] := hD
  refine lv_aload_n hx hb dX1_init_44 rfl (lv_at hl 0 rfl) ?_
  refine lv_sipush (v := nI 256) hx hb dX1_init_45 (by decide) ?_
  refine va_newa (atype := .int) (a0 := (256, .inl (fun _ => 0))) (N' := 256) hx hb (hts _ q29) rfl hK hP hD hS hA (fun _ => rfl) (by decide) (by decide) (by decide) (Nat.le_of_ble_eq_true rfl) (Nat.le_of_ble_eq_true rfl) dX1_init_48 (fun b1 c1 H hK hP hD hS => ?_)
  have hP : va_P (dC, dI) cd_CL [(h, .inr (1, [.ref b0, .int (nI 2), .null, .null])), (b0, .inl (c0, 6, .inl (upd (upd (upd (upd (upd (upd (fun _ => 0) 0 (nI 2)) 1 (nI 3)) 2 (nI 5)) 3 (nI 7)) 4 (nI 11)) 5 (nI 13)))), (b1, .inl (c1, 256, .inl (fun _ => 0)))] H := hP
  have hD : va_D A [(h, .inr (1, [.ref b0, .int (nI 2), .null, .null])), (b0, .inl (c0, 6, .inl (upd (upd (upd (upd (upd (upd (fun _ => 0) 0 (nI 2)) 1 (nI 3)) 2 (nI 5)) 3 (nI 7)) 4 (nI 11)) 5 (nI 13)))), (b1, .inl (c1, 256, .inl (fun _ => 0)))] := hD
  refine W.widen (k := 2) (n := 262) (by omega) (by omega) ?_
  refine va_putF (D := (dC, dI)) (ci := 1) (v := .ref b1) (ty := .array .int) (C := RX1) (T := TX1) (N := 4) hx hb hts in_X1 tyX1 tyX1_ok nmX1 hown hK hP hD hS 0 rfl rfl 2 (by decide) (hts _ q73) (fun _ h9 => h9) rfl hnm rfl (by decide +kernel) rfl rfl (Nat.le_of_ble_eq_true rfl) dX1_init_50 (fun H locs hP hD hS => ?_)
  have hP : va_P (dC, dI) cd_CL [(h, .inr (1, [.ref b0, .int (nI 2), .ref b1, .null])), (b0, .inl (c0, 6, .inl (upd (upd (upd (upd (upd (upd (fun _ => 0) 0 (nI 2)) 1 (nI 3)) 2 (nI 5)) 3 (nI 7)) 4 (nI 11)) 5 (nI 13)))), (b1, .inl (c1, 256, .inl (fun _ => 0)))] H := hP
  have hD : va_D A [(h, .inr (1, [.ref b0, .int (nI 2), .ref b1, .null])), (b0, .inl (c0, 6, .inl (upd (upd (upd (upd (upd (upd (fun _ => 0) 0 (nI 2)) 1 (nI 3)) 2 (nI 5)) 3 (nI 7)) 4 (nI 11)) 5 (nI 13)))), (b1, .inl (c1, 256, .inl (fun _ => 0)))] := hD
  refine lv_aload_n hx hb dX1_init_53 rfl (lv_at hl 0 rfl) ?_
  refine lv_bipush (v := nI 64) hx hb dX1_init_54 (by decide) ?_
  refine va_newa (atype := .int) (a0 := (64, .inl (fun _ => 0))) (N' := 64) hx hb (hts _ q29) rfl hK hP hD hS hA (fun _ => rfl) (by decide) (by decide) (by decide) (Nat.le_of_ble_eq_true rfl) (Nat.le_of_ble_eq_true rfl) dX1_init_56 (fun b2 c2 H hK hP hD hS => ?_)
  have hP : va_P (dC, dI) cd_CL [(h, .inr (1, [.ref b0, .int (nI 2), .ref b1, .null])), (b0, .inl (c0, 6, .inl (upd (upd (upd (upd (upd (upd (fun _ => 0) 0 (nI 2)) 1 (nI 3)) 2 (nI 5)) 3 (nI 7)) 4 (nI 11)) 5 (nI 13)))), (b1, .inl (c1, 256, .inl (fun _ => 0))), (b2, .inl (c2, 64, .inl (fun _ => 0)))] H := hP
  have hD : va_D A [(h, .inr (1, [.ref b0, .int (nI 2), .ref b1, .null])), (b0, .inl (c0, 6, .inl (upd (upd (upd (upd (upd (upd (fun _ => 0) 0 (nI 2)) 1 (nI 3)) 2 (nI 5)) 3 (nI 7)) 4 (nI 11)) 5 (nI 13)))), (b1, .inl (c1, 256, .inl (fun _ => 0))), (b2, .inl (c2, 64, .inl (fun _ => 0)))] := hD
  refine W.widen (k := 3) (n := 326) (by omega) (by omega) ?_
  refine va_putF (D := (dC, dI)) (ci := 1) (v := .ref b2) (ty := .array .int) (C := RX1) (T := TX1) (N := 4) hx hb hts in_X1 tyX1 tyX1_ok nmX1 hown hK hP hD hS 0 rfl rfl 3 (by decide) (hts _ q74) (fun _ h9 => h9) rfl hnm rfl (by decide +kernel) rfl rfl (Nat.le_of_ble_eq_true rfl) dX1_init_58 (fun H locs hP hD hS => ?_)
  have hP : va_P (dC, dI) cd_CL [(h, .inr (1, [.ref b0, .int (nI 2), .ref b1, .ref b2])), (b0, .inl (c0, 6, .inl (upd (upd (upd (upd (upd (upd (fun _ => 0) 0 (nI 2)) 1 (nI 3)) 2 (nI 5)) 3 (nI 7)) 4 (nI 11)) 5 (nI 13)))), (b1, .inl (c1, 256, .inl (fun _ => 0))), (b2, .inl (c2, 64, .inl (fun _ => 0)))] H := hP
  have hD : va_D A [(h, .inr (1, [.ref b0, .int (nI 2), .ref b1, .ref b2])), (b0, .inl (c0, 6, .inl (upd (upd (upd (upd (upd (upd (fun _ => 0) 0 (nI 2)) 1 (nI 3)) 2 (nI 5)) 3 (nI 7)) 4 (nI 11)) 5 (nI 13)))), (b1, .inl (c1, 256, .inl (fun _ => 0))), (b2, .inl (c2, 64, .inl (fun _ => 0)))] := hD
  have hF : ∀ i, i < 6 → (upd (upd (upd (upd (upd (upd (fun _ => 0) 0 (nI 2)) 1 (nI 3)) 2 (nI 5)) 3 (nI 7)) 4 (nI 11)) 5 (nI 13)) i = nI (cd_pn i) := by
    intro i hi
    match i, hi with
    | 0, _ => rfl
    | 1, _ => rfl
    | 2, _ => rfl
    | 3, _ => rfl
    | 4, _ => rfl
    | 5, _ => rfl
  subst hQ
  exact W.vret hx hb hr (fun t ht hW => ⟨⟨(b0, b1, b2, c0, c1, c2, (upd (upd (upd (upd (upd (upd (fun _ => 0) 0 (nI 2)) 1 (nI 3)) 2 (nI 5)) 3 (nI 7)) 4 (nI 11)) 5 (nI 13)), (fun _ => 0), (fun _ => 0)), rfl, hF, by rw [ht]; exact hP, va_K.moved hW.alike hK, hD⟩, hS.F ht⟩) hS.2.2 dX1_init_61
end
section
/-! THE CLAIM OUT OF ONE WALK OF THE LAW'S BODY. Your part is whole_start (and what it stands on); all else here is the same for every law, but numbers. -/
def R_law : String := "ChooseDeskLaw"
def lw_P (b : Addr) (xs : List Int32) (args : Array Value) (s : State) : Prop := args = #[.ref b] ∧ s.IntsAt b xs ∧ xs.length ≤ 256 ∧ (Jvm.Cond.and given_1 narrow_1).before args s = true
def lw_Q (_ : Array Value) (s : State) (o : Outcome) (t : State) : Prop := o = .returned (some (.int 1)) ∧ Framed s o t [] 600000 7290000
def lw_Z (below : List Frame) (a : Array Value) (s : State) : State → Prop := fun t => ∃ o, t.status = .running ∧ Ended t below o ∧ lw_Q a s o t
/-- the law's own end, with 1 on the stack, nothing written that was there before, its room as the claim has it -/
theorem lw_ret {p : Program} {l : Launch} {e : Env} {s : State} {m : MethodId} {below : List Frame} {meth : Method} {c : Code} {b : Nat} (hx : p.tables.exec = Jvm.exec) (hb : c.code = code) (hr : meth.sig.returnType = ret) (hlocks : meth.locks = false) {pc : Nat} {H : Heap} {ls : Array Slot} (hdg : decode code pc = .ok (.ireturn, 1)) : W p l e room_1 s m #[Value.ref b] below meth c H [] 600000 7290000 (lw_Z below #[Value.ref b] s) (F0 m pc ls [.int 1]) := by
  intro T hT X
  obtain ⟨fs, hret, hrun, hended, hW, hframe⟩ := X.leave (v := some (.int 1)) (hlocks := hlocks) (fun h => by rw [hr] at h; cases h)
  have hmeth' : T.vm.method? m = some meth := X.method'
  refine ⟨T.setFrames fs, ?_, .returned (some (.int 1)), hrun, hended, rfl, ⟨_, rfl⟩, hW, hframe⟩
  jvm_step X.here [X.here.top, hx, hb, hdg, hmeth', hr, ret, narrow_b1]
  (try refine ⟨rfl, ?_⟩); (try refine ⟨rfl, ?_⟩)
  first | (intro acts; rw [hret _ acts rfl rfl rfl]) | rw [hret _ _ rfl rfl rfl]
  exact Steps.refl _
/-- what holds at the law's entry: the machine, the code, the tables' words (any of lw_tbl by 'hts w (by decide +kernel)'), the script of L ints xs at the cell b, what the Statement gives of the start (any of its parts by flat_of_before) -/
def lw_At (p : Program) (s : State) (m : MethodId) (meth : Method) (c : Code) (b L : Nat) (xs : Nat → Int32) : Prop :=
  p.tables.exec = Jvm.exec ∧ c.code = code ∧ meth.sig.returnType = ret ∧ c.maxLocals = 4 ∧ s.vm.findClass R_law = some m.cls ∧ (∀ w ∈ lw_tbl, w.before #[Value.ref b] s = true) ∧ va_X b L xs s s.heap ∧ b < s.heap.size ∧ meth.locks = false ∧ (Jvm.Cond.and given_1 narrow_1).before #[Value.ref b] s = true
theorem cd_head {L i : Nat} (hL : L ≤ 256) (hi : i ≤ 256) (h : ¬ nI L - nI 4 < nI i) : i + 4 ≤ L := by
  rw [Int32.lt_iff_toInt_lt, pk_sub_toInt (by omega) (by omega), nI_toInt (by omega)] at h
  omega
section SLD
variable {p : Program} {l : Launch} {e : Env} {R : Room} {s : State} {m : MethodId} {args : Array Value} {below : List Frame} {meth : Method} {c : Code} {H : Heap} {locs : List Loc} {cells slots : Nat} {Q : State → Prop}
variable {cc : ByteArray} {pc : Nat} {ls : Array Slot} {rest : List Value}
theorem nw_sld (hx : p.tables.exec = Jvm.exec) (hb : c.code = cc) {A : Nat → Prop} {H0 : Heap} {b L : Nat} {xs : Nat → Int32} (hX : va_X b L xs s H0) (hbl : b < H0.size) (hbA : ¬ A b) (hS : va_S A H0 H locs) {j : Nat} (hj : j < L) (hL : L < 2 ^ 31) (hd : decode cc pc = .ok (.iaload, 1)) (k : W p l e R s m args below meth c H locs cells slots Q (F0 m (pc + 1) ls (.int (xs j) :: rest))) : W p l e R s m args below meth c H locs cells slots Q (F0 m pc ls (.int (nI j) :: .ref b :: rest)) := va_sld hx hb hX hbl hbA hS (vp_in_nI hj hL) hd (by rw [nI_clamp (Nat.lt_trans hj hL)]; exact k)
end SLD
/-- the start of ChooseDesk.prime: its own cells, and the six primes that nobody writes -/
theorem cd_preZ {s : State} {H : Heap} {locs : List Loc} {D : va_G} {A : Nat → Prop} {ws wc : va_W} {tys tyc : List (ClassId × FieldType)} {C : String} {b ci t0 : Nat} {fs : List Value} {q : vw_C} {As : List Value} (hK : va_K D cd_CL tys s) (hP : va_P D cd_CL ws H) (hD : va_D A ws) (hS : va_S A s.heap H locs) (hF : ∀ q, va_A wc H.size q → A q) (hZ : va_Z "ChooseDesk" "PRIMES" "[I" (.ref t0) A s s.heap) (hT : va_T .int t0 6 (fun j => .int (nI (cd_pn j))) A s s.heap) (is js : List Nat) (hn : va_nd is = true) (h0 : is.map (fun i => ws[i]?) = wc.map some) (h1 : is.filterMap (fun i => ws[i]?) = wc) (h2 : js.filterMap (fun i => tys[i]?) = tyc) (hc : cd_CL[ci]? = some q) (hC : q.1 = C) (he : wc[0]? = some (b, .inr (ci, fs))) :
    PreV s H C b (va_Pc (.ref b :: As) (fun U => ((U.heap.size = H.size ∧ va_P D cd_CL wc U.heap ∧ va_K D cd_CL tyc U) ∧ va_D (fun _ => True) wc) ∧ cd_BZ t0 (va_A wc H.size) U)) As := by
  subst hC
  have hPc := hP.sub is h1
  have hKc := hK.sub js h2
  have hDc := hD.sub is hn h0
  refine ⟨fun a U g mk q => ?_, va_recv hKc hPc hc he, fun U hU hW => ⟨rfl, ⟨⟨by rw [hU], by rw [hU]; exact hPc, va_K.moved hW.alike hKc⟩, hDc.weaken (fun _ _ _ _ => trivial)⟩, ?_, ?_⟩⟩
  · obtain ⟨q0, ⟨⟨q1, qP, qK⟩, qD⟩, qZ, qT⟩ := q
    exact ⟨q0, ⟨⟨q1, qP, va_K.moved (u := U) (U := U.calling g mk a) (Vm.Alike.refl U.vm) qK⟩, qD⟩, va_Z.moved (u := U) (U := U.calling g mk a) (Vm.Alike.refl U.vm) qZ, va_T.moved (u := U) (U := U.calling g mk a) (Vm.Alike.refl U.vm) qT⟩
  · rw [hU]
    exact (va_Z.moved hW.alike (hZ.kept hS.2.1)).narrow hF
  · rw [hU]
    exact (va_T.moved hW.alike (hT.kept hS.2.1)).narrow hF
abbrev cd_wL (qx a1 a2 : Nat) (c1 c2 : ClassId) (qm b0 b1 b2 : Nat) (d0 d1 d2 : ClassId) (p : Nat) (f g f0 f1 f2 : Nat → Int32) : va_W := [(qx, .inr (0, [.int (nI p), .ref a1, .ref a2])), (a1, .inl (c1, 13, .inl f)), (a2, .inl (c2, 13, .inl g)), (qm, .inr (1, [.ref b0, .int (nI p), .ref b1, .ref b2])), (b0, .inl (d0, 6, .inl f0)), (b1, .inl (d1, 256, .inl f1)), (b2, .inl (d2, 64, .inl f2))]
/-- the same while the two stand at different primes -/
abbrev cd_wL2 (qx a1 a2 : Nat) (c1 c2 : ClassId) (qm b0 b1 b2 : Nat) (d0 d1 d2 : ClassId) (p p2 : Nat) (f g f0 f1 f2 : Nat → Int32) : va_W := [(qx, .inr (0, [.int (nI p), .ref a1, .ref a2])), (a1, .inl (c1, 13, .inl f)), (a2, .inl (c2, 13, .inl g)), (qm, .inr (1, [.ref b0, .int (nI p2), .ref b1, .ref b2])), (b0, .inl (d0, 6, .inl f0)), (b1, .inl (d1, 256, .inl f1)), (b2, .inl (d2, 64, .inl f2))]
set_option maxHeartbeats 8000000 in
set_option maxRecDepth 100000 in
/-- THE LAW'S LOOP: at its head both desks stand at the same prime, ChooseDesk's tables are right -/
theorem law_loop {p : Program} {l : Launch} {e : Env} {s : State} {m : MethodId} {below : List Frame} {meth : Method} {c : Code} {dC : Nat → ClassId} {dI : Nat → Nat → Nat} {b L t0 : Nat} {xs : Nat → Int32} (hL : L ≤ 256) (C0 : lw_At p s m meth c b L xs) (hZ : va_Z "ChooseDesk" "PRIMES" "[I" (.ref t0) (cd_ro s.heap.size) s s.heap) (hT : va_T .int t0 6 (fun j => .int (nI (cd_pn j))) (cd_ro s.heap.size) s s.heap) (qx a1 a2 : Nat) (c1 c2 : ClassId) (qm b0 b1 b2 : Nat) (d0 d1 d2 : ClassId) (f0 f2 : Nat → Int32) (hf0 : ∀ i, i < 6 → f0 i = nI (cd_pn i)) (hK : va_K (dC, dI) cd_CL [(c1, .int), (c2, .int), (d0, .int), (d1, .int), (d2, .int)] s) :
    ∀ (w i pr : Nat) (f g f1 : Nat → Int32) (H : Heap) (locs : List Loc) (ls : Array Slot), L + 1 ≤ i + w → i ≤ L → cd_okX pr f g → va_P (dC, dI) cd_CL (cd_wL qx a1 a2 c1 c2 qm b0 b1 b2 d0 d1 d2 pr f g f0 f1 f2) H → va_D (cd_ro s.heap.size) (cd_wL qx a1 a2 c1 c2 qm b0 b1 b2 d0 d1 d2 pr f g f0 f1 f2) → va_S (cd_ro s.heap.size) s.heap H locs → lv_has ls 4 [(0, .ref b), (1, .ref qx), (2, .ref qm), (3, .int (nI i))] → W p l e room_1 s m #[Value.ref b] below meth c H locs 600000 7290000 (lw_Z below #[Value.ref b] s) (F0 m 18 ls []) := by
  obtain ⟨hx, hb, hr, hml, hown, hts0, hX, hbl, hlocks, hgv⟩ := C0
  have hts : ∀ w ∈ lw_all, w.before #[Value.ref b] s = true := fun w h => hts0 w (lw_all_tbl h)
  have hA : ∀ q : Nat, s.heap.size ≤ q → (cd_ro s.heap.size) q := fun _ h => h
  have hbA : ¬ (cd_ro s.heap.size) b := Nat.not_le.mpr hbl
  intro w
  induction w with
  | zero =>
    intro i pr f g f1 H locs ls h1 h2
    exact absurd h1 (by omega)
  | succ w ih =>
    intro i pr f g f1 H locs ls hw hiL ok hP hD hS hl
    refine lv_iload_n hx hb dL_law_18 rfl (lv_at hl 3 rfl) ?_
    refine lv_aload_n hx hb dL_law_19 rfl (lv_at hl 0 rfl) ?_
    refine va_slen hx hb hX hbl hbA hS dL_law_20 ?_
    refine lv_iconst (v := nI 4) hx hb dL_law_21 (by decide) ?_
    refine lv_isub hx hb dL_law_22 ?_
    refine lv_icmp_gt (tgt := 281) hx hb dL_law_23 (by decide) (fun h_23 => ?_) (fun h_23 => ?_)
    · refine lv_iconst (v := 1) hx hb dL_law_281 (by decide) ?_
      refine va_forget (fun q hq => hS.2.2 q hq) ?_
      exact lw_ret hx hb hr hlocks dL_law_282
    have hi4 : i + 4 ≤ L := cd_head hL (by omega) h_23
    have next : ∀ (pr : Nat) (f g f1 : Nat → Int32) (H : Heap) (locs : List Loc) (ls : Array Slot), cd_okX pr f g → va_P (dC, dI) cd_CL (cd_wL qx a1 a2 c1 c2 qm b0 b1 b2 d0 d1 d2 pr f g f0 f1 f2) H → va_D (cd_ro s.heap.size) (cd_wL qx a1 a2 c1 c2 qm b0 b1 b2 d0 d1 d2 pr f g f0 f1 f2) → va_S (cd_ro s.heap.size) s.heap H locs → lv_has ls 4 [(0, .ref b), (1, .ref qx), (2, .ref qm), (3, .int (nI i))] → W p l e room_1 s m #[Value.ref b] below meth c H locs 600000 7290000 (lw_Z below #[Value.ref b] s) (F0 m 275 ls []) := by
      intro pr f g f1 H locs ls ok hP hD hS hl
      refine lv_iinc (v := nI (i + 4)) (lv' := [(3, .int (nI (i + 4))), (0, .ref b), (1, .ref qx), (2, .ref qm)]) hx hb dL_law_275 hl (k := 3) rfl (cd_inc4 i) (by decide) rfl (fun ls hl => ?_)
      refine lv_goto (tgt := 18) hx hb dL_law_278 (by decide) ?_
      exact ih (i + 4) pr f g f1 H locs ls (by omega) hi4 ok hP hD hS (lv_sub hl [1, 2, 3, 0] rfl)
    refine lv_aload_n hx hb dL_law_26 rfl (lv_at hl 0 rfl) ?_
    refine lv_iload_n hx hb dL_law_27 rfl (lv_at hl 3 rfl) ?_
    refine nw_sld hx hb hX hbl hbA hS (by omega) (by omega) dL_law_28 ?_
    refine lv_bipush (v := nI 7) hx hb dL_law_29 (by decide) ?_
    refine nw_iand hx hb 3 (by decide) dL_law_31 ?_
    have hk8 := cd_msk_lt 3 (xs i)
    rcases (show cd_msk 3 (xs i) = 0 ∨ cd_msk 3 (xs i) = 1 ∨ cd_msk 3 (xs i) = 2 ∨ cd_msk 3 (xs i) = 3 ∨ cd_msk 3 (xs i) = 4 ∨ cd_msk 3 (xs i) = 5 ∨ cd_msk 3 (xs i) = 6 ∨ cd_msk 3 (xs i) = 7 by omega) with hk | hk | hk | hk | hk | hk | hk | hk
    · rw [hk]
      refine lv_tableIn (off := 44) (tgt := 76) hx hb dL_law_32 (by decide) (by decide) (by decide) (by decide) ?_
      refine lv_aload_n hx hb dL_law_76 rfl (lv_at hl 1 rfl) ?_
      refine lv_aload_n hx hb dL_law_77 rfl (lv_at hl 0 rfl) ?_
      refine lv_iload_n hx hb dL_law_78 rfl (lv_at hl 3 rfl) ?_
      refine lv_iconst (v := nI 1) hx hb dL_law_79 (by decide) ?_
      refine nw_iadd hx hb dL_law_80 ?_
      refine nw_sld hx hb hX hbl hbA hS (by omega) (by omega) dL_law_81 ?_
      have hFc := va_free (wc := cd_wX qx a1 a2 c1 c2 pr f g) hD hS hA [0, 1, 2] rfl
      refine va_callv (va_runV (As := [.int (xs (i + 1))]) (rest := []) ⟨hx, hb, hml, hown, hts⟩ (met_X_prime l dC dI qx a1 a2 c1 c2 H.size pr f g t0 (xs (i + 1))) (cwV 1 hts (lw_V q30 q31 q32 q5 q33) rfl rfl rfl (by decide +kernel) ⟨Nat.le_of_ble_eq_true rfl, Nat.le_of_ble_eq_true rfl⟩) (cd_preZ hK hP hD hS hFc hZ hT [0, 1, 2] [0, 1] rfl rfl rfl rfl rfl rfl rfl) rfl rfl hl.1 rfl (lv_room (Nat.le_of_ble_eq_true rfl)) dL_law_82 ⟨Nat.le_of_ble_eq_true rfl, Nat.le_of_ble_eq_true rfl⟩) hS (fun q _ h => hFc q h) hFc (fun u t H1 locs ht hvm hw hB hz1 hk1 hS => ?_)
      obtain ⟨g1, g2⟩ := u
      obtain ⟨hP1, hD1⟩ := hB
      rw [ht] at hP1
      obtain ⟨hP, hD⟩ := va_join (wr := cd_wM qm b0 b1 b2 d0 d1 d2 pr f0 f1 f2) (w1 := cd_wX qx a1 a2 c1 c2 (cd_pn (cd_msk 31 (xs (i + 1)) % 6)) g1 g2) hP hD [0, 1, 2] [3, 4, 5, 6] rfl rfl (by decide) (by decide) hk1 hFc hP1 hD1
      generalize H1 = H at hP hS ⊢
      have hP := hP.sub (ws' := cd_wL2 qx a1 a2 c1 c2 qm b0 b1 b2 d0 d1 d2 (cd_pn (cd_msk 31 (xs (i + 1)) % 6)) pr g1 g2 f0 f1 f2) [4, 5, 6, 0, 1, 2, 3] rfl
      have hD := hD.sub (ws' := cd_wL2 qx a1 a2 c1 c2 qm b0 b1 b2 d0 d1 d2 (cd_pn (cd_msk 31 (xs (i + 1)) % 6)) pr g1 g2 f0 f1 f2) [4, 5, 6, 0, 1, 2, 3] (by decide) rfl
      have ok2 : cd_okX (cd_pn (cd_msk 31 (xs (i + 1)) % 6)) g1 g2 := hw
      refine lv_aload_n hx hb dL_law_85 rfl (lv_at hl 2 rfl) ?_
      refine lv_aload_n hx hb dL_law_86 rfl (lv_at hl 0 rfl) ?_
      refine lv_iload_n hx hb dL_law_87 rfl (lv_at hl 3 rfl) ?_
      refine lv_iconst (v := nI 1) hx hb dL_law_88 (by decide) ?_
      refine nw_iadd hx hb dL_law_89 ?_
      refine nw_sld hx hb hX hbl hbA hS (by omega) (by omega) dL_law_90 ?_
      have hFc := va_free (wc := cd_wM qm b0 b1 b2 d0 d1 d2 pr f0 f1 f2) hD hS hA [3, 4, 5, 6] rfl
      refine va_callv (va_runV (As := [.int (xs (i + 1))]) (rest := []) ⟨hx, hb, hml, hown, hts⟩ (met_M_prime l dC dI qm b0 b1 b2 d0 d1 d2 H.size pr f0 f1 f2 (xs (i + 1)) hf0) (cwV 1 hts (lw_V q84 q85 q86 q6 q87) rfl rfl rfl (by decide +kernel) ⟨Nat.le_of_ble_eq_true rfl, Nat.le_of_ble_eq_true rfl⟩) (cd_preD hK hP hD [3, 4, 5, 6] [2, 3, 4] rfl rfl rfl rfl rfl rfl rfl) rfl rfl hl.1 rfl (lv_room (Nat.le_of_ble_eq_true rfl)) dL_law_91 ⟨Nat.le_of_ble_eq_true rfl, Nat.le_of_ble_eq_true rfl⟩) hS (fun q _ h => hFc q h) hFc (fun u t H1 locs ht hvm hw hB hz1 hk1 hS => ?_)
      obtain ⟨hP1, hD1⟩ := hB
      rw [ht] at hP1
      obtain ⟨hP, hD⟩ := va_join (wr := cd_wX qx a1 a2 c1 c2 (cd_pn (cd_msk 31 (xs (i + 1)) % 6)) g1 g2) (w1 := cd_wM qm b0 b1 b2 d0 d1 d2 (cd_pn (cd_msk 31 (xs (i + 1)) % 6)) f0 f1 f2) hP hD [3, 4, 5, 6] [0, 1, 2] rfl rfl (by decide) (by decide) hk1 hFc hP1 hD1
      generalize H1 = H at hP hS ⊢
      have hP : va_P (dC, dI) cd_CL (cd_wL qx a1 a2 c1 c2 qm b0 b1 b2 d0 d1 d2 (cd_pn (cd_msk 31 (xs (i + 1)) % 6)) g1 g2 f0 f1 f2) H := hP
      have hD : va_D (cd_ro s.heap.size) (cd_wL qx a1 a2 c1 c2 qm b0 b1 b2 d0 d1 d2 (cd_pn (cd_msk 31 (xs (i + 1)) % 6)) g1 g2 f0 f1 f2) := hD
      refine lv_goto (tgt := 275) hx hb dL_law_94 (by decide) ?_
      exact next (cd_pn (cd_msk 31 (xs (i + 1)) % 6)) g1 g2 f1 H locs ls ok2 hP hD hS (lv_sub hl [0, 1, 2, 3] rfl)
    · rw [hk]
      refine lv_tableIn (off := 65) (tgt := 97) hx hb dL_law_32 (by decide) (by decide) (by decide) (by decide) ?_
      refine lv_aload_n hx hb dL_law_97 rfl (lv_at hl 1 rfl) ?_
      refine lv_aload_n hx hb dL_law_98 rfl (lv_at hl 0 rfl) ?_
      refine lv_iload_n hx hb dL_law_99 rfl (lv_at hl 3 rfl) ?_
      refine lv_iconst (v := nI 1) hx hb dL_law_100 (by decide) ?_
      refine nw_iadd hx hb dL_law_101 ?_
      refine nw_sld hx hb hX hbl hbA hS (by omega) (by omega) dL_law_102 ?_
      refine lv_aload_n hx hb dL_law_103 rfl (lv_at hl 0 rfl) ?_
      refine lv_iload_n hx hb dL_law_104 rfl (lv_at hl 3 rfl) ?_
      refine lv_iconst (v := nI 2) hx hb dL_law_105 (by decide) ?_
      refine nw_iadd hx hb dL_law_106 ?_
      refine nw_sld hx hb hX hbl hbA hS (by omega) (by omega) dL_law_107 ?_
      refine ro_calli (va_runV (As := [.int (xs (i + 1)), .int (xs (i + 2))]) (rest := []) ⟨hx, hb, hml, hown, hts⟩ (met_X_choose l dC dI qx a1 a2 c1 c2 H.size pr f g (xs (i + 1)) (xs (i + 2)) ok) (cwV 2 hts (lw_V q37 q38 q39 q5 q40) rfl rfl rfl (by decide +kernel) ⟨Nat.le_of_ble_eq_true rfl, Nat.le_of_ble_eq_true rfl⟩) (cd_preV hK hP [0, 1, 2] [0, 1] rfl rfl rfl rfl rfl) rfl rfl hl.1 rfl (lv_room (Nat.le_of_ble_eq_true rfl)) dL_law_108 ⟨Nat.le_of_ble_eq_true rfl, Nat.le_of_ble_eq_true rfl⟩) hS hA hP (fun H locs hP hS => ?_)
      refine lv_aload_n hx hb dL_law_111 rfl (lv_at hl 2 rfl) ?_
      refine lv_aload_n hx hb dL_law_112 rfl (lv_at hl 0 rfl) ?_
      refine lv_iload_n hx hb dL_law_113 rfl (lv_at hl 3 rfl) ?_
      refine lv_iconst (v := nI 1) hx hb dL_law_114 (by decide) ?_
      refine nw_iadd hx hb dL_law_115 ?_
      refine nw_sld hx hb hX hbl hbA hS (by omega) (by omega) dL_law_116 ?_
      refine lv_aload_n hx hb dL_law_117 rfl (lv_at hl 0 rfl) ?_
      refine lv_iload_n hx hb dL_law_118 rfl (lv_at hl 3 rfl) ?_
      refine lv_iconst (v := nI 2) hx hb dL_law_119 (by decide) ?_
      refine nw_iadd hx hb dL_law_120 ?_
      refine nw_sld hx hb hX hbl hbA hS (by omega) (by omega) dL_law_121 ?_
      have hFc := va_free (wc := cd_wM qm b0 b1 b2 d0 d1 d2 pr f0 f1 f2) hD hS hA [3, 4, 5, 6] rfl
      refine va_calli (va_runV (As := [.int (xs (i + 1)), .int (xs (i + 2))]) (rest := [.int _]) ⟨hx, hb, hml, hown, hts⟩ (met_M_choose l dC dI qm b0 b1 b2 d0 d1 d2 H.size pr f0 f1 f2 (xs (i + 1)) (xs (i + 2)) ok.1) (cwV 2 hts (lw_V q89 q90 q91 q6 q92) rfl rfl rfl (by decide +kernel) ⟨Nat.le_of_ble_eq_true rfl, Nat.le_of_ble_eq_true rfl⟩) (cd_preD hK hP hD [3, 4, 5, 6] [2, 3, 4] rfl rfl rfl rfl rfl rfl rfl) rfl rfl hl.1 rfl (lv_room (Nat.le_of_ble_eq_true rfl)) dL_law_122 ⟨Nat.le_of_ble_eq_true rfl, Nat.le_of_ble_eq_true rfl⟩) hS (fun q _ h => hFc q h) hFc (fun r u t H1 locs ht hvm hw hB hz1 hk1 hS => ?_)
      obtain ⟨hP1, hD1⟩ := hB
      rw [ht] at hP1
      obtain ⟨hP, hD⟩ := va_join (wr := cd_wX qx a1 a2 c1 c2 pr f g) (w1 := cd_wM qm b0 b1 b2 d0 d1 d2 pr f0 u f2) hP hD [3, 4, 5, 6] [0, 1, 2] rfl rfl (by decide) (by decide) hk1 hFc hP1 hD1
      generalize H1 = H at hP hS ⊢
      have hP : va_P (dC, dI) cd_CL (cd_wL qx a1 a2 c1 c2 qm b0 b1 b2 d0 d1 d2 pr f g f0 u f2) H := hP
      have hD : va_D (cd_ro s.heap.size) (cd_wL qx a1 a2 c1 c2 qm b0 b1 b2 d0 d1 d2 pr f g f0 u f2) := hD
      refine lv_icmp_eq (tgt := 275) hx hb dL_law_125 (by decide) (fun _ => ?_) (fun hne => absurd hw.symm hne)
      exact next pr f g u H locs ls ok hP hD hS (lv_sub hl [0, 1, 2, 3] rfl)
    · rw [hk]
      refine lv_tableIn (off := 98) (tgt := 130) hx hb dL_law_32 (by decide) (by decide) (by decide) (by decide) ?_
      refine lv_aload_n hx hb dL_law_130 rfl (lv_at hl 1 rfl) ?_
      refine lv_aload_n hx hb dL_law_131 rfl (lv_at hl 0 rfl) ?_
      refine lv_iload_n hx hb dL_law_132 rfl (lv_at hl 3 rfl) ?_
      refine lv_iconst (v := nI 1) hx hb dL_law_133 (by decide) ?_
      refine nw_iadd hx hb dL_law_134 ?_
      refine nw_sld hx hb hX hbl hbA hS (by omega) (by omega) dL_law_135 ?_
      refine ro_calli (va_runV (As := [.int (xs (i + 1))]) (rest := []) ⟨hx, hb, hml, hown, hts⟩ (met_X_left l dC dI qx a1 a2 c1 c2 H.size pr f g (xs (i + 1)) ok) (cwV 1 hts (lw_V q45 q46 q47 q5 q48) rfl rfl rfl (by decide +kernel) ⟨Nat.le_of_ble_eq_true rfl, Nat.le_of_ble_eq_true rfl⟩) (cd_preV hK hP [0, 1, 2] [0, 1] rfl rfl rfl rfl rfl) rfl rfl hl.1 rfl (lv_room (Nat.le_of_ble_eq_true rfl)) dL_law_136 ⟨Nat.le_of_ble_eq_true rfl, Nat.le_of_ble_eq_true rfl⟩) hS hA hP (fun H locs hP hS => ?_)
      refine lv_aload_n hx hb dL_law_139 rfl (lv_at hl 2 rfl) ?_
      refine lv_aload_n hx hb dL_law_140 rfl (lv_at hl 0 rfl) ?_
      refine lv_iload_n hx hb dL_law_141 rfl (lv_at hl 3 rfl) ?_
      refine lv_iconst (v := nI 1) hx hb dL_law_142 (by decide) ?_
      refine nw_iadd hx hb dL_law_143 ?_
      refine nw_sld hx hb hX hbl hbA hS (by omega) (by omega) dL_law_144 ?_
      have hFc := va_free (wc := cd_wM qm b0 b1 b2 d0 d1 d2 pr f0 f1 f2) hD hS hA [3, 4, 5, 6] rfl
      refine va_calli (va_runV (As := [.int (xs (i + 1))]) (rest := [.int _]) ⟨hx, hb, hml, hown, hts⟩ (met_M_left l dC dI qm b0 b1 b2 d0 d1 d2 H.size pr f0 f1 f2 (xs (i + 1)) ok.1) (cwV 1 hts (lw_V q97 q98 q99 q6 q100) rfl rfl rfl (by decide +kernel) ⟨Nat.le_of_ble_eq_true rfl, Nat.le_of_ble_eq_true rfl⟩) (cd_preD hK hP hD [3, 4, 5, 6] [2, 3, 4] rfl rfl rfl rfl rfl rfl rfl) rfl rfl hl.1 rfl (lv_room (Nat.le_of_ble_eq_true rfl)) dL_law_145 ⟨Nat.le_of_ble_eq_true rfl, Nat.le_of_ble_eq_true rfl⟩) hS (fun q _ h => hFc q h) hFc (fun r u t H1 locs ht hvm hw hB hz1 hk1 hS => ?_)
      obtain ⟨hP1, hD1⟩ := hB
      rw [ht] at hP1
      obtain ⟨hP, hD⟩ := va_join (wr := cd_wX qx a1 a2 c1 c2 pr f g) (w1 := cd_wM qm b0 b1 b2 d0 d1 d2 pr f0 u f2) hP hD [3, 4, 5, 6] [0, 1, 2] rfl rfl (by decide) (by decide) hk1 hFc hP1 hD1
      generalize H1 = H at hP hS ⊢
      have hP : va_P (dC, dI) cd_CL (cd_wL qx a1 a2 c1 c2 qm b0 b1 b2 d0 d1 d2 pr f g f0 u f2) H := hP
      have hD : va_D (cd_ro s.heap.size) (cd_wL qx a1 a2 c1 c2 qm b0 b1 b2 d0 d1 d2 pr f g f0 u f2) := hD
      refine lv_icmp_eq (tgt := 275) hx hb dL_law_148 (by decide) (fun _ => ?_) (fun hne => absurd hw.symm hne)
      exact next pr f g u H locs ls ok hP hD hS (lv_sub hl [0, 1, 2, 3] rfl)
    · rw [hk]
      refine lv_tableIn (off := 121) (tgt := 153) hx hb dL_law_32 (by decide) (by decide) (by decide) (by decide) ?_
      refine lv_aload_n hx hb dL_law_153 rfl (lv_at hl 1 rfl) ?_
      refine lv_aload_n hx hb dL_law_154 rfl (lv_at hl 0 rfl) ?_
      refine lv_iload_n hx hb dL_law_155 rfl (lv_at hl 3 rfl) ?_
      refine lv_iconst (v := nI 1) hx hb dL_law_156 (by decide) ?_
      refine nw_iadd hx hb dL_law_157 ?_
      refine nw_sld hx hb hX hbl hbA hS (by omega) (by omega) dL_law_158 ?_
      refine lv_aload_n hx hb dL_law_159 rfl (lv_at hl 0 rfl) ?_
      refine lv_iload_n hx hb dL_law_160 rfl (lv_at hl 3 rfl) ?_
      refine lv_iconst (v := nI 2) hx hb dL_law_161 (by decide) ?_
      refine nw_iadd hx hb dL_law_162 ?_
      refine nw_sld hx hb hX hbl hbA hS (by omega) (by omega) dL_law_163 ?_
      refine ro_calli (va_runV (As := [.int (xs (i + 1)), .int (xs (i + 2))]) (rest := []) ⟨hx, hb, hml, hown, hts⟩ (met_X_often l dC dI qx a1 a2 c1 c2 H.size pr f g (xs (i + 1)) (xs (i + 2)) ok) (cwV 2 hts (lw_V q49 q50 q51 q5 q52) rfl rfl rfl (by decide +kernel) ⟨Nat.le_of_ble_eq_true rfl, Nat.le_of_ble_eq_true rfl⟩) (cd_preV hK hP [0, 1, 2] [0, 1] rfl rfl rfl rfl rfl) rfl rfl hl.1 rfl (lv_room (Nat.le_of_ble_eq_true rfl)) dL_law_164 ⟨Nat.le_of_ble_eq_true rfl, Nat.le_of_ble_eq_true rfl⟩) hS hA hP (fun H locs hP hS => ?_)
      refine lv_aload_n hx hb dL_law_167 rfl (lv_at hl 2 rfl) ?_
      refine lv_aload_n hx hb dL_law_168 rfl (lv_at hl 0 rfl) ?_
      refine lv_iload_n hx hb dL_law_169 rfl (lv_at hl 3 rfl) ?_
      refine lv_iconst (v := nI 1) hx hb dL_law_170 (by decide) ?_
      refine nw_iadd hx hb dL_law_171 ?_
      refine nw_sld hx hb hX hbl hbA hS (by omega) (by omega) dL_law_172 ?_
      refine lv_aload_n hx hb dL_law_173 rfl (lv_at hl 0 rfl) ?_
      refine lv_iload_n hx hb dL_law_174 rfl (lv_at hl 3 rfl) ?_
      refine lv_iconst (v := nI 2) hx hb dL_law_175 (by decide) ?_
      refine nw_iadd hx hb dL_law_176 ?_
      refine nw_sld hx hb hX hbl hbA hS (by omega) (by omega) dL_law_177 ?_
      refine ro_calli (va_runV (As := [.int (xs (i + 1)), .int (xs (i + 2))]) (rest := [.int _]) ⟨hx, hb, hml, hown, hts⟩ (met_M_often l dC dI qm b0 b1 b2 d0 d1 d2 H.size pr f0 f1 f2 (xs (i + 1)) (xs (i + 2)) ok.1) (cwV 2 hts (lw_V q101 q102 q103 q6 q104) rfl rfl rfl (by decide +kernel) ⟨Nat.le_of_ble_eq_true rfl, Nat.le_of_ble_eq_true rfl⟩) (cd_preV hK hP [3, 4, 5, 6] [2, 3, 4] rfl rfl rfl rfl rfl) rfl rfl hl.1 rfl (lv_room (Nat.le_of_ble_eq_true rfl)) dL_law_178 ⟨Nat.le_of_ble_eq_true rfl, Nat.le_of_ble_eq_true rfl⟩) hS hA hP (fun H locs hP hS => ?_)
      refine lv_icmp_eq (tgt := 275) hx hb dL_law_181 (by decide) (fun _ => ?_) (fun hne => absurd rfl hne)
      exact next pr f g f1 H locs ls ok hP hD hS (lv_sub hl [0, 1, 2, 3] rfl)
    · rw [hk]
      refine lv_tableIn (off := 154) (tgt := 186) hx hb dL_law_32 (by decide) (by decide) (by decide) (by decide) ?_
      refine lv_aload_n hx hb dL_law_186 rfl (lv_at hl 1 rfl) ?_
      refine lv_aload_n hx hb dL_law_187 rfl (lv_at hl 0 rfl) ?_
      refine lv_iload_n hx hb dL_law_188 rfl (lv_at hl 3 rfl) ?_
      refine lv_iconst (v := nI 1) hx hb dL_law_189 (by decide) ?_
      refine nw_iadd hx hb dL_law_190 ?_
      refine nw_sld hx hb hX hbl hbA hS (by omega) (by omega) dL_law_191 ?_
      refine ro_calli (va_runV (As := [.int (xs (i + 1))]) (rest := []) ⟨hx, hb, hml, hown, hts⟩ (met_X_product l dC dI qx a1 a2 c1 c2 H.size pr f g (xs (i + 1)) ok) (cwV 1 hts (lw_V q53 q54 q55 q5 q56) rfl rfl rfl (by decide +kernel) ⟨Nat.le_of_ble_eq_true rfl, Nat.le_of_ble_eq_true rfl⟩) (cd_preV hK hP [0, 1, 2] [0, 1] rfl rfl rfl rfl rfl) rfl rfl hl.1 rfl (lv_room (Nat.le_of_ble_eq_true rfl)) dL_law_192 ⟨Nat.le_of_ble_eq_true rfl, Nat.le_of_ble_eq_true rfl⟩) hS hA hP (fun H locs hP hS => ?_)
      refine lv_aload_n hx hb dL_law_195 rfl (lv_at hl 2 rfl) ?_
      refine lv_aload_n hx hb dL_law_196 rfl (lv_at hl 0 rfl) ?_
      refine lv_iload_n hx hb dL_law_197 rfl (lv_at hl 3 rfl) ?_
      refine lv_iconst (v := nI 1) hx hb dL_law_198 (by decide) ?_
      refine nw_iadd hx hb dL_law_199 ?_
      refine nw_sld hx hb hX hbl hbA hS (by omega) (by omega) dL_law_200 ?_
      refine ro_calli (va_runV (As := [.int (xs (i + 1))]) (rest := [.int _]) ⟨hx, hb, hml, hown, hts⟩ (met_M_product l dC dI qm b0 b1 b2 d0 d1 d2 H.size pr f0 f1 f2 (xs (i + 1)) ok.1) (cwV 1 hts (lw_V q109 q110 q111 q6 q112) rfl rfl rfl (by decide +kernel) ⟨Nat.le_of_ble_eq_true rfl, Nat.le_of_ble_eq_true rfl⟩) (cd_preV hK hP [3, 4, 5, 6] [2, 3, 4] rfl rfl rfl rfl rfl) rfl rfl hl.1 rfl (lv_room (Nat.le_of_ble_eq_true rfl)) dL_law_201 ⟨Nat.le_of_ble_eq_true rfl, Nat.le_of_ble_eq_true rfl⟩) hS hA hP (fun H locs hP hS => ?_)
      refine lv_icmp_eq (tgt := 275) hx hb dL_law_204 (by decide) (fun _ => ?_) (fun hne => absurd rfl hne)
      exact next pr f g f1 H locs ls ok hP hD hS (lv_sub hl [0, 1, 2, 3] rfl)
    · rw [hk]
      refine lv_tableIn (off := 177) (tgt := 209) hx hb dL_law_32 (by decide) (by decide) (by decide) (by decide) ?_
      refine lv_aload_n hx hb dL_law_209 rfl (lv_at hl 1 rfl) ?_
      refine lv_aload_n hx hb dL_law_210 rfl (lv_at hl 0 rfl) ?_
      refine lv_iload_n hx hb dL_law_211 rfl (lv_at hl 3 rfl) ?_
      refine lv_iconst (v := nI 1) hx hb dL_law_212 (by decide) ?_
      refine nw_iadd hx hb dL_law_213 ?_
      refine nw_sld hx hb hX hbl hbA hS (by omega) (by omega) dL_law_214 ?_
      refine ro_calli (va_runV (As := [.int (xs (i + 1))]) (rest := []) ⟨hx, hb, hml, hown, hts⟩ (met_X_last l dC dI qx a1 a2 c1 c2 H.size pr f g (xs (i + 1)) ok) (cwV 1 hts (lw_V q57 q58 q59 q5 q60) rfl rfl rfl (by decide +kernel) ⟨Nat.le_of_ble_eq_true rfl, Nat.le_of_ble_eq_true rfl⟩) (cd_preV hK hP [0, 1, 2] [0, 1] rfl rfl rfl rfl rfl) rfl rfl hl.1 rfl (lv_room (Nat.le_of_ble_eq_true rfl)) dL_law_215 ⟨Nat.le_of_ble_eq_true rfl, Nat.le_of_ble_eq_true rfl⟩) hS hA hP (fun H locs hP hS => ?_)
      refine lv_aload_n hx hb dL_law_218 rfl (lv_at hl 2 rfl) ?_
      refine lv_aload_n hx hb dL_law_219 rfl (lv_at hl 0 rfl) ?_
      refine lv_iload_n hx hb dL_law_220 rfl (lv_at hl 3 rfl) ?_
      refine lv_iconst (v := nI 1) hx hb dL_law_221 (by decide) ?_
      refine nw_iadd hx hb dL_law_222 ?_
      refine nw_sld hx hb hX hbl hbA hS (by omega) (by omega) dL_law_223 ?_
      refine ro_calli (va_runV (As := [.int (xs (i + 1))]) (rest := [.int _]) ⟨hx, hb, hml, hown, hts⟩ (met_M_last l dC dI qm b0 b1 b2 d0 d1 d2 H.size pr f0 f1 f2 (xs (i + 1)) ok.1) (cwV 1 hts (lw_V q113 q114 q115 q6 q116) rfl rfl rfl (by decide +kernel) ⟨Nat.le_of_ble_eq_true rfl, Nat.le_of_ble_eq_true rfl⟩) (cd_preV hK hP [3, 4, 5, 6] [2, 3, 4] rfl rfl rfl rfl rfl) rfl rfl hl.1 rfl (lv_room (Nat.le_of_ble_eq_true rfl)) dL_law_224 ⟨Nat.le_of_ble_eq_true rfl, Nat.le_of_ble_eq_true rfl⟩) hS hA hP (fun H locs hP hS => ?_)
      refine lv_icmp_eq (tgt := 275) hx hb dL_law_227 (by decide) (fun _ => ?_) (fun hne => absurd rfl hne)
      exact next pr f g f1 H locs ls ok hP hD hS (lv_sub hl [0, 1, 2, 3] rfl)
    · rw [hk]
      refine lv_tableIn (off := 200) (tgt := 232) hx hb dL_law_32 (by decide) (by decide) (by decide) (by decide) ?_
      refine lv_aload_n hx hb dL_law_232 rfl (lv_at hl 1 rfl) ?_
      refine lv_aload_n hx hb dL_law_233 rfl (lv_at hl 0 rfl) ?_
      refine lv_iload_n hx hb dL_law_234 rfl (lv_at hl 3 rfl) ?_
      refine lv_iconst (v := nI 1) hx hb dL_law_235 (by decide) ?_
      refine nw_iadd hx hb dL_law_236 ?_
      refine nw_sld hx hb hX hbl hbA hS (by omega) (by omega) dL_law_237 ?_
      refine lv_aload_n hx hb dL_law_238 rfl (lv_at hl 0 rfl) ?_
      refine lv_iload_n hx hb dL_law_239 rfl (lv_at hl 3 rfl) ?_
      refine lv_iconst (v := nI 2) hx hb dL_law_240 (by decide) ?_
      refine nw_iadd hx hb dL_law_241 ?_
      refine nw_sld hx hb hX hbl hbA hS (by omega) (by omega) dL_law_242 ?_
      refine lv_aload_n hx hb dL_law_243 rfl (lv_at hl 0 rfl) ?_
      refine lv_iload_n hx hb dL_law_244 rfl (lv_at hl 3 rfl) ?_
      refine lv_iconst (v := nI 3) hx hb dL_law_245 (by decide) ?_
      refine nw_iadd hx hb dL_law_246 ?_
      refine nw_sld hx hb hX hbl hbA hS (by omega) (by omega) dL_law_247 ?_
      refine ro_calli (va_runV (As := [.int (xs (i + 1)), .int (xs (i + 2)), .int (xs (i + 3))]) (rest := []) ⟨hx, hb, hml, hown, hts⟩ (met_X_many l dC dI qx a1 a2 c1 c2 H.size pr f g (xs (i + 1)) (xs (i + 2)) (xs (i + 3)) ok) (cwV 3 hts (lw_V q61 q62 q63 q5 q64) rfl rfl rfl (by decide +kernel) ⟨Nat.le_of_ble_eq_true rfl, Nat.le_of_ble_eq_true rfl⟩) (cd_preV hK hP [0, 1, 2] [0, 1] rfl rfl rfl rfl rfl) rfl rfl hl.1 rfl (lv_room (Nat.le_of_ble_eq_true rfl)) dL_law_248 ⟨Nat.le_of_ble_eq_true rfl, Nat.le_of_ble_eq_true rfl⟩) hS hA hP (fun H locs hP hS => ?_)
      refine lv_aload_n hx hb dL_law_251 rfl (lv_at hl 2 rfl) ?_
      refine lv_aload_n hx hb dL_law_252 rfl (lv_at hl 0 rfl) ?_
      refine lv_iload_n hx hb dL_law_253 rfl (lv_at hl 3 rfl) ?_
      refine lv_iconst (v := nI 1) hx hb dL_law_254 (by decide) ?_
      refine nw_iadd hx hb dL_law_255 ?_
      refine nw_sld hx hb hX hbl hbA hS (by omega) (by omega) dL_law_256 ?_
      refine lv_aload_n hx hb dL_law_257 rfl (lv_at hl 0 rfl) ?_
      refine lv_iload_n hx hb dL_law_258 rfl (lv_at hl 3 rfl) ?_
      refine lv_iconst (v := nI 2) hx hb dL_law_259 (by decide) ?_
      refine nw_iadd hx hb dL_law_260 ?_
      refine nw_sld hx hb hX hbl hbA hS (by omega) (by omega) dL_law_261 ?_
      refine lv_aload_n hx hb dL_law_262 rfl (lv_at hl 0 rfl) ?_
      refine lv_iload_n hx hb dL_law_263 rfl (lv_at hl 3 rfl) ?_
      refine lv_iconst (v := nI 3) hx hb dL_law_264 (by decide) ?_
      refine nw_iadd hx hb dL_law_265 ?_
      refine nw_sld hx hb hX hbl hbA hS (by omega) (by omega) dL_law_266 ?_
      have hFc := va_free (wc := cd_wM qm b0 b1 b2 d0 d1 d2 pr f0 f1 f2) hD hS hA [3, 4, 5, 6] rfl
      refine va_calli (va_runV (As := [.int (xs (i + 1)), .int (xs (i + 2)), .int (xs (i + 3))]) (rest := [.int _]) ⟨hx, hb, hml, hown, hts⟩ (met_M_many l dC dI qm b0 b1 b2 d0 d1 d2 H.size pr f0 f1 f2 (xs (i + 1)) (xs (i + 2)) (xs (i + 3)) ok.1) (cwV 3 hts (lw_V q117 q118 q119 q6 q120) rfl rfl rfl (by decide +kernel) ⟨Nat.le_of_ble_eq_true rfl, Nat.le_of_ble_eq_true rfl⟩) (cd_preD hK hP hD [3, 4, 5, 6] [2, 3, 4] rfl rfl rfl rfl rfl rfl rfl) rfl rfl hl.1 rfl (lv_room (Nat.le_of_ble_eq_true rfl)) dL_law_267 ⟨Nat.le_of_ble_eq_true rfl, Nat.le_of_ble_eq_true rfl⟩) hS (fun q _ h => hFc q h) hFc (fun r u t H1 locs ht hvm hw hB hz1 hk1 hS => ?_)
      obtain ⟨hP1, hD1⟩ := hB
      rw [ht] at hP1
      obtain ⟨hP, hD⟩ := va_join (wr := cd_wX qx a1 a2 c1 c2 pr f g) (w1 := cd_wM qm b0 b1 b2 d0 d1 d2 pr f0 u f2) hP hD [3, 4, 5, 6] [0, 1, 2] rfl rfl (by decide) (by decide) hk1 hFc hP1 hD1
      generalize H1 = H at hP hS ⊢
      have hP : va_P (dC, dI) cd_CL (cd_wL qx a1 a2 c1 c2 qm b0 b1 b2 d0 d1 d2 pr f g f0 u f2) H := hP
      have hD : va_D (cd_ro s.heap.size) (cd_wL qx a1 a2 c1 c2 qm b0 b1 b2 d0 d1 d2 pr f g f0 u f2) := hD
      refine lv_icmp_eq (tgt := 275) hx hb dL_law_270 (by decide) (fun _ => ?_) (fun hne => absurd hw.symm hne)
      exact next pr f g u H locs ls ok hP hD hS (lv_sub hl [0, 1, 2, 3] rfl)
    · rw [hk]
      refine lv_tableOut (tgt := 275) hx hb dL_law_32 (by decide) (by decide) ?_
      exact next pr f g f1 H locs ls ok hP hD hS hl
end
section
set_option maxHeartbeats 4000000 in
set_option maxRecDepth 100000 in
/-- THE LAW, from its entry -/
theorem whole_start {p : Program} {e : Env} {s : State} {m : MethodId} {below : List Frame} {meth : Method} {c : Code} (l : Launch) {b L : Nat} {xs : Nat → Int32} (hL : L ≤ 256) (C0 : lw_At p s m meth c b L xs) : W p l e room_1 s m #[Value.ref b] below meth c s.heap [] 0 0 (lw_Z below #[Value.ref b] s) (entryFrame m ([Value.ref b] : List Value).toArray 4) := by
  obtain ⟨hx, hb, hr, hml, hown, hts0, hX, hbl, hlocks, hgv⟩ := id C0
  have hts : ∀ w ∈ lw_all, w.before #[Value.ref b] s = true := fun w h => hts0 w (lw_all_tbl h)
  have hA : ∀ q : Nat, s.heap.size ≤ q → (cd_ro s.heap.size) q := fun _ h => h
  have hAn : ∀ a : Nat, a < s.heap.size → ¬ (cd_ro s.heap.size) a := fun a h => Nat.not_le.mpr h
  have hs := flat_of_before _ hgv
  have harr : (Cond.arrayOf (Term.static "ChooseDesk" "PRIMES" "[I") .int).before #[Value.ref b] s = true := hs _ (by decide +kernel)
  have hlen : (Term.length (Term.static "ChooseDesk" "PRIMES" "[I")).eval #[Value.ref b] s none [] s = some (.int (Int32.ofNat 6)) := va_eqt (z := 6) (hs _ (by decide +kernel))
  have hel : ∀ j : Nat, j < 6 → (Term.elem (Term.static "ChooseDesk" "PRIMES" "[I") (.int (Int32.ofNat j))).eval #[Value.ref b] s none [] s = some (.int (nI (cd_pn j))) := by
    intro j hj
    match j, hj with
    | 0, _ => exact va_eqt (t := Term.elem (Term.static "ChooseDesk" "PRIMES" "[I") (.int 0)) (z := 2) (hs _ (by decide +kernel))
    | 1, _ => exact va_eqt (t := Term.elem (Term.static "ChooseDesk" "PRIMES" "[I") (.int 1)) (z := 3) (hs _ (by decide +kernel))
    | 2, _ => exact va_eqt (t := Term.elem (Term.static "ChooseDesk" "PRIMES" "[I") (.int 2)) (z := 5) (hs _ (by decide +kernel))
    | 3, _ => exact va_eqt (t := Term.elem (Term.static "ChooseDesk" "PRIMES" "[I") (.int 3)) (z := 7) (hs _ (by decide +kernel))
    | 4, _ => exact va_eqt (t := Term.elem (Term.static "ChooseDesk" "PRIMES" "[I") (.int 4)) (z := 11) (hs _ (by decide +kernel))
    | 5, _ => exact va_eqt (t := Term.elem (Term.static "ChooseDesk" "PRIMES" "[I") (.int 5)) (z := 13) (hs _ (by decide +kernel))
  obtain ⟨t0, hev, hT⟩ := va_Tof (A := (cd_ro s.heap.size)) (f := fun j => .int (nI (cd_pn j))) (by decide) harr hlen hel hAn
  have hZ : va_Z "ChooseDesk" "PRIMES" "[I" (.ref t0) (cd_ro s.heap.size) s s.heap := va_Zref (hts0 _ q35) (hts _ q5) hev hAn
  obtain ⟨k0, iS0, hKn0⟩ := u_known (C := RX0) (T := TX0) (N := 3) (n := 3) hts in_X0 (hts _ q8)
  obtain ⟨k1, iS1, hKn1⟩ := u_known (C := RX1) (T := TX1) (N := 4) (n := 4) hts in_X1 (hts _ q66)
  obtain ⟨dC, dI, hKc⟩ : ∃ (dC : Nat → ClassId) (dI : Nat → Nat → Nat), ∀ (k : Nat) (q : vw_C), cd_CL[k]? = some q → u_Kn s q.1 q.2.1 q.2.2 (dC k) (dI k) := by
    refine ⟨fun k => if k = 0 then k0 else k1, fun k => if k = 0 then iS0 else iS1, ?_⟩
    intro k q hq
    match k, hq with
    | 0, hq => cases hq; exact hKn0
    | 1, hq => cases hq; exact hKn1
    | k + 2, hq => simp [cd_CL] at hq
  have hS : va_S (cd_ro s.heap.size) s.heap s.heap [] := va_S.rf
  have hK : va_K (dC, dI) cd_CL [] s := ⟨hKc, fun k q h => by simp at h⟩
  have hP : va_P (dC, dI) cd_CL [] s.heap := fun k q h => by simp at h
  have hD : va_D (cd_ro s.heap.size) [] := ⟨fun i j p q h => by simp at h, fun k q h => by simp at h⟩
  have hl := lv_entry ([.ref b]) (n := 4) (Nat.le_of_ble_eq_true rfl)
  rw [lg_entry_eq]
  generalize (lg_sl ([.ref b]) ++ List.replicate (4 - (lg_sl ([.ref b])).length) Slot.unset).toArray = ls at hl ⊢
  have hl : lv_has ls 4 [(0, .ref b)] := hl
  refine va_new (ci := 0) (fs := [.int 0, .null, .null]) (C := RX0) (T := TX0) (N := 3) hx hb hts in_X0 tyX0 tyX0_ok hown (hts _ q7) (hts _ q8) (hts _ q5) hK hP hD hS hA rfl (fun j hj => by rcases (show j = 0 ∨ j = 1 ∨ j = 2 by omega) with rfl | rfl | rfl <;> rfl) (Nat.le_of_ble_eq_true rfl) (Nat.le_of_ble_eq_true rfl) dL_law_0 (fun qx H hP hD hS => ?_)
  have hP : va_P (dC, dI) cd_CL [(qx, .inr (0, [.int 0, .null, .null]))] H := hP
  have hD : va_D (cd_ro s.heap.size) [(qx, .inr (0, [.int 0, .null, .null]))] := hD
  refine W.widen (k := 1) (n := 3) (by omega) (by omega) ?_
  refine lv_dup hx hb dL_law_3 rfl ?_
  have hFc := va_free (wc := [(qx, .inr (0, [.int 0, .null, .null]))]) hD hS hA [0] rfl
  refine va_callv (va_runI (As := []) (rest := [.ref qx]) ⟨hx, hb, hml, hown, hts⟩ (met_X_init l dC dI qx H.size) (cwI 0 hts (lw_meth q11) rfl rfl rfl (hts _ q5) (hts _ q9) (hts _ q10) rfl (by decide +kernel) ⟨Nat.le_of_ble_eq_true rfl, Nat.le_of_ble_eq_true rfl⟩) ⟨cd_blD, fun U hU hW => ⟨rfl, ⟨by rw [hU], by rw [hU]; exact hP, va_K.moved hW.alike hK⟩, hD.weaken (fun _ _ _ _ => trivial)⟩⟩ rfl rfl hl.1 rfl (lv_room (Nat.le_of_ble_eq_true rfl)) dL_law_4 ⟨Nat.le_of_ble_eq_true rfl, Nat.le_of_ble_eq_true rfl⟩) hS (fun q _ h => hFc q h) hFc (fun u t H1 locs ht hvm hw hB hz1 hk1 hS => ?_)
  obtain ⟨a1, a2, c1, c2, f, g⟩ := u
  obtain ⟨hP1, hK1, hD1⟩ := hB
  rw [ht] at hP1
  have hK := va_K.moved hvm.symm hK1
  obtain ⟨hP, hD⟩ := va_join (wr := []) (w1 := cd_wX qx a1 a2 c1 c2 2 f g) hP hD [0] [] rfl rfl (by decide) (by decide) hk1 hFc hP1 hD1
  generalize H1 = H at hP hS ⊢
  have hP : va_P (dC, dI) cd_CL (cd_wX qx a1 a2 c1 c2 2 f g) H := hP
  have hD : va_D (cd_ro s.heap.size) (cd_wX qx a1 a2 c1 c2 2 f g) := hD
  have hK : va_K (dC, dI) cd_CL [(c1, .int), (c2, .int)] s := hK
  have ok : cd_okX 2 f g := hw
  refine W.widen (k := 3) (n := 29) (by omega) (by omega) ?_
  refine lv_astore_n (lv' := [(1, .ref qx), (0, .ref b)]) hx hb dL_law_7 rfl hl (by decide) rfl (fun ls hl => ?_)
  refine va_new (ci := 1) (fs := [.null, .int 0, .null, .null]) (C := RX1) (T := TX1) (N := 4) hx hb hts in_X1 tyX1 tyX1_ok hown (hts _ q65) (hts _ q66) (hts _ q6) hK hP hD hS hA rfl (fun j hj => by rcases (show j = 0 ∨ j = 1 ∨ j = 2 ∨ j = 3 by omega) with rfl | rfl | rfl | rfl <;> rfl) (Nat.le_of_ble_eq_true rfl) (Nat.le_of_ble_eq_true rfl) dL_law_8 (fun qm H hP hD hS => ?_)
  have hP : va_P (dC, dI) cd_CL (cd_wX qx a1 a2 c1 c2 2 f g ++ [(qm, .inr (1, [.null, .int 0, .null, .null]))]) H := hP
  have hD : va_D (cd_ro s.heap.size) (cd_wX qx a1 a2 c1 c2 2 f g ++ [(qm, .inr (1, [.null, .int 0, .null, .null]))]) := hD
  refine W.widen (k := 4) (n := 33) (by omega) (by omega) ?_
  refine lv_dup hx hb dL_law_11 rfl ?_
  have hPc := hP.sub (ws' := [(qm, .inr (1, [.null, .int 0, .null, .null]))]) [3] rfl
  have hDc := hD.sub (ws' := [(qm, .inr (1, [.null, .int 0, .null, .null]))]) [3] (by decide) rfl
  have hKc := hK.sub (tys' := []) [] rfl
  have hFc := va_free (wc := [(qm, .inr (1, [.null, .int 0, .null, .null]))]) hD hS hA [3] rfl
  refine va_callv (va_runI (As := []) (rest := [.ref qm]) ⟨hx, hb, hml, hown, hts⟩ (met_M_init l dC dI qm H.size) (cwI 0 hts (lw_meth q69) rfl rfl rfl (hts _ q6) (hts _ q67) (hts _ q68) rfl (by decide +kernel) ⟨Nat.le_of_ble_eq_true rfl, Nat.le_of_ble_eq_true rfl⟩) ⟨cd_blD, fun U hU hW => ⟨rfl, ⟨by rw [hU], by rw [hU]; exact hPc, va_K.moved hW.alike hKc⟩, hDc.weaken (fun _ _ _ _ => trivial)⟩⟩ rfl rfl hl.1 rfl (lv_room (Nat.le_of_ble_eq_true rfl)) dL_law_12 ⟨Nat.le_of_ble_eq_true rfl, Nat.le_of_ble_eq_true rfl⟩) hS (fun q _ h => hFc q h) hFc (fun u t H1 locs ht hvm hw hB hz1 hk1 hS => ?_)
  obtain ⟨b0, b1, b2, d0, d1, d2, f0, f1, f2⟩ := u
  obtain ⟨hP1, hK1, hD1⟩ := hB
  rw [ht] at hP1
  have hK1 := va_K.moved hvm.symm hK1
  obtain ⟨hP, hD⟩ := va_join (wr := cd_wX qx a1 a2 c1 c2 2 f g) (w1 := cd_wM qm b0 b1 b2 d0 d1 d2 2 f0 f1 f2) hP hD [3] [0, 1, 2] rfl rfl (by decide) (by decide) hk1 hFc hP1 hD1
  have hK := hK.app hK1
  generalize H1 = H at hP hS ⊢
  have hP : va_P (dC, dI) cd_CL (cd_wL qx a1 a2 c1 c2 qm b0 b1 b2 d0 d1 d2 2 f g f0 f1 f2) H := hP
  have hD : va_D (cd_ro s.heap.size) (cd_wL qx a1 a2 c1 c2 qm b0 b1 b2 d0 d1 d2 2 f g f0 f1 f2) := hD
  have hK : va_K (dC, dI) cd_CL [(c1, .int), (c2, .int), (d0, .int), (d1, .int), (d2, .int)] s := hK
  have hf0 : ∀ i, i < 6 → f0 i = nI (cd_pn i) := hw
  refine W.widen (k := 600000) (n := 7290000) (Nat.le_of_ble_eq_true rfl) (Nat.le_of_ble_eq_true rfl) ?_
  refine lv_astore_n (lv' := [(2, .ref qm), (1, .ref qx), (0, .ref b)]) hx hb dL_law_15 rfl hl (by decide) rfl (fun ls hl => ?_)
  refine lv_iconst (v := nI 0) hx hb dL_law_16 (by decide) ?_
  refine lv_istore_n (lv' := [(3, .int (nI 0)), (2, .ref qm), (1, .ref qx), (0, .ref b)]) hx hb dL_law_17 rfl hl (by decide) rfl (fun ls hl => ?_)
  exact law_loop hL C0 hZ hT qx a1 a2 c1 c2 qm b0 b1 b2 d0 d1 d2 f0 f2 hf0 hK (L + 1) 0 2 f g f1 H _ ls (by omega) (Nat.zero_le L) ok hP hD hS (lv_sub hl [3, 2, 1, 0] rfl)
-- ===== YOUR PART ENDS =====
set_option maxHeartbeats 4000000 in
theorem lw_walk (l : Launch) (b : Addr) (xs : List Int32) : MetFree l x (headSpec (Jvm.Cond.code x code maxLocals ret :: tables_1) room_1) (lw_P b xs) (fun _ _ _ _ _ => True) lw_Q := by
  refine MetFree.of_bodyS (code := code) (maxLocals := maxLocals) (ret := ret) (by decide) ?_ ?_
  · intro args s m h hn
    obtain ⟨meth, c, h1, h2, h3, h4, h5, h6, -, -⟩ := Cond.code_spec hn (atoms_spec (ws := Jvm.Cond.code x code maxLocals ret :: tables_1) h _ List.mem_cons_self)
    exact ⟨meth, c, h1, h2, h3, h4, h5, h6⟩
  · intro p e s m args below meth c s₁ B hml0 hP _
    obtain ⟨rfl, hx, hbd, hgv⟩ := hP
    obtain ⟨scr, harrAt, hlist, hof, hsmall⟩ := hx
    obtain ⟨hcb, hkn, -, -⟩ := State.arrayAt?_spec harrAt
    have hown : s.vm.findClass R_law = some m.cls := findClass_of_methodNamed B.named
    have hts0 : ∀ c ∈ (Jvm.Cond.code x code maxLocals ret :: tables_1), c.before #[Value.ref b] s = true := atoms_spec (ws := Jvm.Cond.code x code maxLocals ret :: tables_1) B.pre
    have hts : ∀ w ∈ lw_tbl, w.before #[Value.ref b] s = true := k2_hts_sels lw_privs (fun w hw => hts0 w (List.mem_cons_of_mem _ hw)) lw_privs_ok
    have hml : c.maxLocals = 4 := B.maxLocals_eq (hts0 _ List.mem_cons_self)
    have X₀ : Stand p l e room_1 s m #[Value.ref b] below meth c s₁ [] 0 0 := Stand.of_body B
    have hh0 : s₁.heap = s.heap := by rw [B.state]; rfl
    have hsz : scr.slots.size = xs.length := by rw [← Array.length_toList, hlist, List.length_map]
    have hval : ∀ j : Nat, j < xs.length → scr.slots[j]? = some (.int (xs.getD j 0)) := fun j hj => by
      rw [← Array.getElem?_toList, hlist]
      simp [hj]
    have hbl : b < s.heap.size := (Array.getElem?_eq_some_iff.mp hcb).1
    have hX : va_X b xs.length (fun j => xs.getD j 0) s s.heap := ⟨scr, hcb, hof, hkn, hsz, hval⟩
    have K : W p l e room_1 s m #[Value.ref b] below meth c s₁.heap [] 0 0 (lw_Z below #[Value.ref b] s) (entryFrame m ([Value.ref b] : List Value).toArray 4) := by
      rw [hh0]
      exact whole_start l hbd ⟨B.exec, B.bytes, B.returns, hml, hown, hts, hX, hbl, B.notSynchronized, hgv⟩
    obtain ⟨t, a1, o, b1, b2, b3⟩ := K s₁ rfl X₀
    exact ⟨t, o, a1, b1, b2, b3⟩
theorem lw_pre_spec {args : Array Value} {s : State} (h : (Jvm.Cond.and given_1 narrow_1).before args s = true) (hr : rest_1_c.before args s = true) : ∃ (b : Addr) (xs : List Int32), lw_P b xs args s := by
  have hs := flat_of_before _ h
  have hq := flat_of_before _ hr
  have hc : (Cond.count 1).before args s = true := hs _ (by decide +kernel)
  have harr : (Cond.arrayOf (.arg 0) .int).before args s = true := hs _ (by decide +kernel)
  have hle : (Cond.le (.length (.arg 0)) (.int 256)).before args s = true := hs _ (by decide +kernel)
  have hlen : (Cond.isInt (.length (.arg 0))).before args s = true := hq _ (by decide +kernel)
  have hall : (Cond.all (.arg 0) (.isInt (.elem (.arg 0) (.index 0)))).before args s = true := hq _ (by decide +kernel)
  obtain ⟨b, xs, hb, hx⟩ := State.ints_of_pre rfl harr hlen hall
  have hsm : xs.length < 2 ^ 31 := hx.choose_spec.2.2.2
  have hev : (Term.length (.arg 0)).eval args s none [] s = some (.int xs.length.toInt32) := hx.length_eval hb
  have hv := Cond.le_ints hev (show (Term.int 256).eval args s none [] s = some (.int 256) from rfl)
  have hd : xs.length.toInt32 ≤ 256 := by
    simpa [Cond.before, Cond.holds, hv] using hle
  have hN : xs.length ≤ 256 := (Int32.ofNat_le_ofNat hsm (by decide)).mp (show Int32.ofNat xs.length ≤ Int32.ofNat 256 from hd)
  exact ⟨b, xs, Cond.one_arg hc (show args[0]? = some (.ref b) from hb), hx, hN, h⟩
theorem lw_comes (l : Launch) : Comes l x (Jvm.Cond.code x code maxLocals ret :: tables_1) room_1 (fun tb e args s => Calls_1 tb e args s ∧ rest_1 tb e args s ∧ Pre_1 tb e args s)
    (fun _ _ args s o t => lw_Q args s o t) := by
  intro p e ha hc hk s m args below hf hfit hheap happ hpre
  obtain ⟨b, xs, hP⟩ := lw_pre_spec hpre.2.2 hpre.2.1
  obtain ⟨k, o, h1, h2, h3, hQ⟩ := lw_walk l b xs p e ha hc hk s m args below hf ((Spec.applies_iff_loose hf).mp happ).1 hP trivial
  exact ⟨k, o, h1, h2, h3, hQ⟩
theorem lw_frame {s t : State} {o : Outcome} {args : Array Value} (h : Framed s o t [] 600000 7290000) :
    Framed s o t (fieldLocs frame_1_writes args s ++ arrayLocs frame_1_arrays args s ++ staticLocs frame_1_statics s) 600000 7290000 := h
theorem lw_limb (L : Cond) (hL : ∀ (args : Array Value) (s t : State), L.after args s (.returned (some (.int 1))) t = true) :
    ArmFor flags0 classFile x code maxLocals ret World_1 tables_1 room_1 Calls_1 rest_1 Pre_1
      (fun tb e a s o t => postC L tb e a s o t ∧ Framed s o t (fieldLocs frame_1_writes a s ++ arrayLocs frame_1_arrays a s ++ staticLocs frame_1_statics s) 600000 7290000) := by
  intro l _ _ _ p e ha hc hk s m args below hf hfit hheap happ hpre
  obtain ⟨k, o, h1, h2, h3, rfl, hF⟩ := lw_comes l p e ha hc hk s m args below hf hfit hheap happ hpre
  exact ⟨k, _, h1, h2, h3, hL args s _, lw_frame hF⟩
theorem i_vc : Claimed_1_1 ∧ Claimed_1_2 := ⟨lw_limb limb_1_1 (fun args s t => by simp [limb_1_1, Cond.after, Cond.holds, Cond.value]), lw_limb limb_1_2 (fun args s t => Cond.after_iff.mpr (by
  first | (rw [show limb_1_2 = Cond.eq .result (.int 1) from rfl, Cond.eq_ints (x := 1) (y := 1) rfl rfl]; simp; done) | (simp [limb_1_2, Cond.value, Term.eval]; done)))⟩
end
