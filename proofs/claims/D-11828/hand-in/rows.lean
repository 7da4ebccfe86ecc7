section
/-- Euclid with so many steps at most -/
def ft_eu : Nat → Nat → Nat → Nat
  | 0, x, _ => x
  | s + 1, x, y => if y = 0 then x else ft_eu s y (x % y)
theorem ft_eu0 (s x : Nat) : ft_eu s x 0 = x := by
  cases s with
  | zero => rfl
  | succ s => exact if_pos rfl
theorem ft_euS (s x y : Nat) (h : 0 < y) : ft_eu (s + 1) x y = ft_eu s y (x % y) := if_neg (by omega)
theorem ft_gs (x y : Nat) : Nat.gcd y (x % y) = Nat.gcd x y := ((Nat.gcd_comm x y).trans ((Nat.gcd_rec y x).trans (Nat.gcd_comm _ _))).symm
theorem ft_half {x y : Nat} (h : y ≤ x) (h0 : 0 < y) : 2 * (x % y) ≤ x := by
  have h1 := Nat.mod_lt x h0
  have h2 := Nat.div_add_mod x y
  have h3 : y * 1 ≤ y * (x / y) := Nat.mul_le_mul_left y (Nat.div_pos h h0)
  generalize x % y = r at *
  generalize y * (x / y) = w at *
  omega
theorem ft_eu_gcd : ∀ s x y : Nat, y ≤ x → x * y < 2 ^ s → ft_eu s x y = Nat.gcd x y := by
  intro s
  induction s with
  | zero =>
    intro x y h h2
    have h3 : y = 0 := by
      rcases Nat.eq_zero_or_pos y with z | z
      · exact z
      · have h4 : 0 < x * y := Nat.mul_pos (by omega) z
        have h5 : (2 : Nat) ^ 0 = 1 := rfl
        omega
    subst h3
    rw [ft_eu0, Nat.gcd_zero_right]
  | succ s ih =>
    intro x y h h2
    rcases Nat.eq_zero_or_pos y with z | z
    · subst z
      rw [ft_eu0, Nat.gcd_zero_right]
    · rw [ft_euS s x y z, ih y (x % y) (Nat.le_of_lt (Nat.mod_lt x z)) ?_, ft_gs]
      have h4 : y * (2 * (x % y)) ≤ y * x := Nat.mul_le_mul_left y (ft_half h z)
      have h5 : (2 : Nat) ^ (s + 1) = 2 ^ s * 2 := Nat.pow_succ 2 s
      have h6 : y * (2 * (x % y)) = 2 * (y * (x % y)) := Nat.mul_left_comm y 2 (x % y)
      have h7 : y * x = x * y := Nat.mul_comm y x
      omega
theorem ft_eu_A {s x y : Nat} (h : 0 < y → y * (x % y) < 2 ^ s) : ft_eu (s + 1) x y = Nat.gcd x y := by
  rcases Nat.eq_zero_or_pos y with z | z
  · subst z
    rw [ft_eu0, Nat.gcd_zero_right]
  · rw [ft_euS s x y z, ft_eu_gcd s y (x % y) (Nat.le_of_lt (Nat.mod_lt x z)) (h z), ft_gs]
theorem ft_eu_B {s x y : Nat} (h : 0 < y → 0 < x % y → (x % y) * (y % (x % y)) < 2 ^ s) : ft_eu (s + 2) x y = Nat.gcd x y := by
  rcases Nat.eq_zero_or_pos y with z | z
  · subst z
    rw [ft_eu0, Nat.gcd_zero_right]
  · rw [ft_euS (s + 1) x y z, ft_eu_A (h z), ft_gs]
theorem ft_eu16 {x y : Nat} (hx : x ≤ 80) : ft_eu 16 x y = Nat.gcd x y := by
  refine ft_eu_B (s := 14) (fun h0 h1 => ?_)
  have h2 : x % y ≤ 80 := Nat.le_trans (Nat.mod_le x y) hx
  have h3 : y % (x % y) ≤ 80 := Nat.le_trans (Nat.le_of_lt (Nat.mod_lt y h1)) h2
  have h4 : (x % y) * (y % (x % y)) ≤ 80 * 80 := Nat.mul_le_mul h2 h3
  have h5 : (2 : Nat) ^ 14 = 16384 := by decide
  omega
theorem ft_eu40 {x y : Nat} (hx : x ≤ 80) (hy : y ≤ 1000) : ft_eu 40 x y = Nat.gcd x y := by
  refine ft_eu_A (s := 39) (fun h0 => ?_)
  have h2 : x % y ≤ 80 := Nat.le_trans (Nat.mod_le x y) hx
  have h4 : y * (x % y) ≤ 1000 * 80 := Nat.mul_le_mul hy h2
  have h5 : (2 : Nat) ^ 39 = 549755813888 := by decide
  omega
/-! the three number methods -/
theorem ft_div7 {post : Int32 → Prop} : ∀ s n x3 x2 i : Nat, i + s = 40 → s < n → x2 < 2 ^ 31 → x3 < 2 ^ 31 → post (nI (ft_eu s x3 x2)) → wX_divisor_7 post n (nI x2) (nI x3) (nI i) := by
  intro s
  induction s with
  | zero =>
    intro n x3 x2 i hi hn h2 h3 hp
    obtain ⟨m, rfl⟩ : ∃ m, n = m + 1 := ⟨n - 1, by omega⟩
    exact pk_le 40 i (fun _ => hp) (fun z => absurd z (by omega))
  | succ s ih =>
    intro n x3 x2 i hi hn h2 h3 hp
    obtain ⟨m, rfl⟩ : ∃ m, n = m + 1 := ⟨n - 1, by omega⟩
    refine pk_le 40 i (fun z => absurd z (by omega)) (fun _ => pk_le x2 0 (fun z => ?_) (fun z => ⟨nI_ne0 z h2, ?_⟩))
    · have e : x2 = 0 := by omega
      rw [e, ft_eu0] at hp
      exact hp
    · rw [pk_rem h3 z h2]
      rw [ft_euS s x3 x2 z] at hp
      exact nm_e (nm_r (nI_1 i) (ih m x2 (x3 % x2) (i + 1) (by omega) (by omega) (Nat.lt_trans (Nat.mod_lt x3 z) h2) h2 hp))
theorem ft_divisor {post : Int32 → Prop} {x y : Nat} (hy : y ≤ 80) (hx : x ≤ 1000) (hp : post (nI (Nat.gcd y x))) : wpX_divisor post () (nI x) (nI y) :=
  ⟨41, ft_div7 40 41 y x 0 (by omega) (by omega) (by omega) (by omega) (by rw [ft_eu40 hy hx]; exact hp)⟩
theorem ft_com7 {post : Int32 → Prop} : ∀ s n x y i : Nat, i + s = 16 → s < n → x < 2 ^ 31 → y < 2 ^ 31 → post (nI (ft_eu s x y)) → wL_common_7 post n (nI x) (nI y) (nI i) := by
  intro s
  induction s with
  | zero =>
    intro n x y i hi hn hx hy hp
    obtain ⟨m, rfl⟩ : ∃ m, n = m + 1 := ⟨n - 1, by omega⟩
    exact pk_le 16 i (fun _ => hp) (fun z => absurd z (by omega))
  | succ s ih =>
    intro n x y i hi hn hx hy hp
    obtain ⟨m, rfl⟩ : ∃ m, n = m + 1 := ⟨n - 1, by omega⟩
    refine pk_le 16 i (fun z => absurd z (by omega)) (fun _ => pk_le y 0 (fun z => ?_) (fun z => ⟨nI_ne0 z hy, ?_⟩))
    · have e : y = 0 := by omega
      subst e
      rw [ft_eu0] at hp
      exact nm_r (nI_1 i) (ih m x 0 (i + 1) (by omega) (by omega) hx hy (by rw [ft_eu0]; exact hp))
    · rw [pk_rem hx z hy]
      rw [ft_euS s x y z] at hp
      exact nm_e (nm_r (nI_1 i) (ih m y (x % y) (i + 1) (by omega) (by omega) hy (Nat.lt_trans (Nat.mod_lt x z) hy) hp))
theorem ft_common {post : Int32 → Prop} {x y : Nat} (hx : x ≤ 80) (hy : y ≤ 1000) (hp : post (nI (Nat.gcd x y))) : wpL_common post () (nI x) (nI y) :=
  ⟨17, ft_com7 16 17 x y 0 (by omega) (by omega) (by omega) (by omega) (by rw [ft_eu16 hx]; exact hp)⟩
/-- the last step of inverseModulo -/
def ft_fin (x1 x4 : Int32) : Int32 := if 0 ≤ x4 then x4 else x4 + x1
/-- inverseModulo's loop with so many steps left -/
def ft_iv (x1 : Int32) : Nat → Int32 → Int32 → Int32 → Int32 → Int32
  | 0, _, _, x4, _ => ft_fin x1 x4
  | s + 1, x2, x3, x4, x5 => if x3 ≤ 0 then ft_fin x1 x4 else ft_iv x1 s x3 (x2 - (x2 / x3) * x3) x5 (x4 - (x2 / x3) * x5)
theorem ft_w68 {post : Int32 → Prop} {x1 x4 : Int32} (hp : post (ft_fin x1 x4)) : wX_inverseModulo_68 post x1 x4 := by
  unfold ft_fin at hp
  refine br_c (fun z => ?_) (fun z => ?_)
  · rw [if_pos z] at hp
    exact hp
  · rw [if_neg z] at hp
    exact hp
theorem ft_iv15 {post : Int32 → Prop} {x1 : Int32} : ∀ (s n : Nat) (x2 x3 x4 x5 : Int32) (i : Nat), i + s = 20 → s < n → post (ft_iv x1 s x2 x3 x4 x5) → wX_inverseModulo_15 post x1 n x2 x3 x4 x5 (nI i) := by
  intro s
  induction s with
  | zero =>
    intro n x2 x3 x4 x5 i hi hn hp
    obtain ⟨m, rfl⟩ : ∃ m, n = m + 1 := ⟨n - 1, by omega⟩
    exact pk_le 20 i (fun _ => ft_w68 hp) (fun z => absurd z (by omega))
  | succ s ih =>
    intro n x2 x3 x4 x5 i hi hn hp
    obtain ⟨m, rfl⟩ : ∃ m, n = m + 1 := ⟨n - 1, by omega⟩
    refine pk_le 20 i (fun z => absurd z (by omega)) (fun _ => br_c (fun z => ft_w68 ?_) (fun z => ⟨fun e => z (by rw [e]; decide), ?_⟩))
    · rw [ft_iv, if_pos z] at hp
      exact hp
    · rw [ft_iv, if_neg z] at hp
      exact nm_e (nm_e (nm_e (nm_r (nI_1 i) (ih m _ _ _ _ (i + 1) (by omega) (by omega) hp))))
theorem ft_inverse {post : Int32 → Prop} {x m : Nat} (h0 : 0 < m) (hm : m < 2 ^ 31) (hx : x < 2 ^ 31) (hp : post (ft_iv (nI m) 20 (nI m) (nI (x % m)) 0 1)) : wpX_inverseModulo post () (nI x) (nI m) := by
  refine ⟨nI_ne0 h0 hm, ?_⟩
  rw [pk_rem hx h0 hm]
  exact nm_e ⟨21, ft_iv15 20 21 _ _ _ _ 0 (by omega) (by omega) hp⟩
end
section
/-- the inner loop of the product: s places left -/
def ft_i41 (p x3 : Int32) (i : Nat) : Nat → Int32 → Nat → List Int32 → List Int32
  | 0, _, _, c => c
  | s + 1, y, j, c => ft_i41 p x3 i s (y / p) (j + 1) (c.set (i + j) (c.getD (i + j) 0 + (x3 - x3 / p * p) * (y - y / p * p)))
/-- the outer loop -/
def ft_o26 (p g : Int32) (k : Nat) : Nat → Int32 → Nat → List Int32 → List Int32
  | 0, _, _, c => c
  | s + 1, x, i, c => ft_o26 p g k s (x / p) (i + 1) (ft_i41 p x i k g 0 c)
/-- one step of the reduction, at place k + s -/
def ft_s115 (k s : Nat) (c : List Int32) : List Int32 := c.set s (c.getD s 0 + c.getD (k + s) 0)
def ft_t115 (k s : Nat) (c : List Int32) : List Int32 := c.set (s + 1) (c.getD (s + 1) 0 + c.getD (k + s) 0)
/-- the reduction -/
def ft_r115 (k : Nat) : Nat → List Int32 → List Int32
  | 0, c => c
  | s + 1, c => ft_r115 k s (ft_t115 k s (ft_s115 k s c))
/-- the number of the coefficients -/
def ft_c187 (p : Int32) (c : List Int32) : Nat → Int32 → Int32
  | 0, x => x
  | s + 1, x => ft_c187 p c s (x * p + (c.getD s 0 - c.getD s 0 / p * p))
/-- the product -/
def ft_pb (p : Int32) (k : Nat) (x g : Int32) : Int32 := ft_c187 p (ft_r115 k k (ft_o26 p g k k x 0 (List.replicate 12 0))) k 0
/-- the list holds what the array holds -/
def ft_R (c : List Int32) (a : Nat → Int32) : Prop := c.length = 12 ∧ ∀ m, m < 12 → a m = c.getD m 0
theorem ft_Rset {c : List Int32} {a : Nat → Int32} {m : Nat} {v : Int32} (h : ft_R c a) (hm : m < 12) : ft_R (c.set m v) (upd a m v) := by
  refine ⟨by rw [List.length_set]; exact h.1, fun j hj => ?_⟩
  rw [List.getD_eq_getElem?_getD, List.getElem?_set]
  by_cases e : m = j
  · subst e
    rw [pk_us, if_pos rfl, if_pos (by rw [h.1]; exact hm)]
    rfl
  · rw [pk_un (Ne.symm e), if_neg e, h.2 j hj, List.getD_eq_getElem?_getD]
theorem ft_R0 : ∀ m, m < 12 → (List.replicate 12 (0 : Int32)).getD m 0 = 0 := by decide
theorem ft_w187 {post : Int32 → St2 → Prop} {q p k : Int32} {a1 a2 a3 : Nat → Int32} {c : List Int32} (hp0 : ¬ p = 0) (R : ft_R c a3) : ∀ (s n : Nat) (x : Int32), s ≤ 12 → s < n → post (ft_c187 p c s x) (q, p, k, a1, a2, a3) → wX_productByCoefficients_187 post q p k a1 a2 a3 n x (nI s + (-1)) := by
  intro s
  induction s with
  | zero =>
    intro n x hs hn hp
    obtain ⟨m, rfl⟩ : ∃ m, n = m + 1 := ⟨n - 1, by omega⟩
    exact br_t (by decide) hp
  | succ s ih =>
    intro n x hs hn hp
    obtain ⟨m, rfl⟩ : ∃ m, n = m + 1 := ⟨n - 1, by omega⟩
    rw [pk_m1]
    refine pk_lt s 0 (fun z => absurd z (by omega)) (fun _ => ⟨pk_in s 12 (by omega), hp0, ?_⟩)
    rw [nI_clamp (show s < 2 ^ 31 by omega), R.2 s (by omega)]
    exact nm_e (nm_e (ih m _ (by omega) (by omega) hp))
theorem ft_w115 {post : Int32 → St2 → Prop} {q p : Int32} {k : Nat} {a1 a2 : Nat → Int32} (hp0 : ¬ p = 0) (hk0 : 1 ≤ k) (hk : k ≤ 6) : ∀ (s n : Nat) (a3 : Nat → Int32) (c : List Int32), s ≤ k → s < n → ft_R c a3 → (∀ a, post (ft_c187 p (ft_r115 k s c) k 0) (q, p, nI k, a1, a2, a)) → wX_productByCoefficients_115 post q p (nI k) n (nI (k + s - 1)) a1 a2 a3 := by
  intro s
  induction s with
  | zero =>
    intro n a3 c hs hn R hp
    obtain ⟨m, rfl⟩ : ∃ m, n = m + 1 := ⟨n - 1, by omega⟩
    refine pk_lt (k + 0 - 1) k (fun _ => ?_) (fun z => absurd z (by omega))
    exact nm_r (Int32.sub_eq_add_neg (nI k) 1) ⟨k + 1, ft_w187 hp0 R k (k + 1) 0 (by omega) (by omega) (hp a3)⟩
  | succ s ih =>
    intro n a3 c hs hn R hp
    obtain ⟨m, rfl⟩ : ∃ m, n = m + 1 := ⟨n - 1, by omega⟩
    have e0 : k + (s + 1) - 1 = k + s := by omega
    rw [e0]
    have e1 : nI (k + s) - nI k = nI s := by
      rw [pk_sub (by omega), Nat.add_sub_cancel_left]
    refine pk_lt (k + s) k (fun z => absurd z (by omega)) (fun _ => ?_)
    rw [e1, nI_1 s, nI_clamp (show s < 2 ^ 31 by omega), nI_clamp (show s + 1 < 2 ^ 31 by omega), nI_clamp (show k + s < 2 ^ 31 by omega)]
    rw [R.2 s (by omega), R.2 (k + s) (by omega)]
    have R1 : ft_R (ft_s115 k s c) (upd a3 s (c.getD s 0 + c.getD (k + s) 0)) := ft_Rset R (by omega)
    refine ⟨pk_in s 12 (by omega), pk_in (k + s) 12 (by omega), pk_in s 12 (by omega), nm_e ?_⟩
    rw [R1.2 (s + 1) (by omega), R1.2 (k + s) (by omega)]
    refine ⟨pk_in (s + 1) 12 (by omega), pk_in (k + s) 12 (by omega), pk_in (s + 1) 12 (by omega), nm_e ?_⟩
    refine nm_r (sb_m1 (show 0 < k + s by omega)) ?_
    exact ih m _ (ft_t115 k s (ft_s115 k s c)) (by omega) (by omega) (ft_Rset R1 (by omega)) hp
theorem ft_w41 {post : Int32 → St2 → Prop} {J : Int32 → Int32 → (Nat → Int32) → (Nat → Int32) → (Nat → Int32) → Prop} {x2 x3 q p : Int32} {k i : Nat} {a1 a2 : Nat → Int32} (hp0 : ¬ p = 0) (hk : i + k ≤ 12) : ∀ (s n : Nat) (y : Int32) (j : Nat) (a3 : Nat → Int32) (c : List Int32), j + s = k → s < n → ft_R c a3 → (∀ a, ft_R (ft_i41 p x3 i s y j c) a → J (x3 / p) (nI (i + 1)) a1 a2 a) → wX_productByCoefficients_41 post J x2 x3 (nI i) q p (nI k) n y (nI j) a1 a2 a3 := by
  intro s
  induction s with
  | zero =>
    intro n y j a3 c hj hn R hp
    obtain ⟨m, rfl⟩ : ∃ m, n = m + 1 := ⟨n - 1, by omega⟩
    exact pk_le k j (fun _ => ⟨hp0, nm_e (nm_r (nI_1 i) (hp a3 R))⟩) (fun z => absurd z (by omega))
  | succ s ih =>
    intro n y j a3 c hj hn R hp
    obtain ⟨m, rfl⟩ : ∃ m, n = m + 1 := ⟨n - 1, by omega⟩
    refine pk_le k j (fun z => absurd z (by omega)) (fun _ => ?_)
    rw [nI_add i j, nI_clamp (show i + j < 2 ^ 31 by omega), R.2 (i + j) (by omega)]
    refine ⟨pk_in (i + j) 12 (by omega), hp0, hp0, pk_in (i + j) 12 (by omega), nm_e ⟨hp0, nm_e (nm_r (nI_1 j) ?_)⟩⟩
    exact ih m _ (j + 1) _ _ (by omega) (by omega) (ft_Rset R (by omega)) hp
theorem ft_w26 {post : Int32 → St2 → Prop} {g q p : Int32} {k : Nat} {a1 a2 : Nat → Int32} (hp0 : ¬ p = 0) (hk0 : 1 ≤ k) (hk : k ≤ 6) : ∀ (s n : Nat) (x : Int32) (i : Nat) (a3 : Nat → Int32) (c : List Int32), i + s = k → s < n → ft_R c a3 → (∀ a, post (ft_c187 p (ft_r115 k k (ft_o26 p g k s x i c)) k 0) (q, p, nI k, a1, a2, a)) → wX_productByCoefficients_26 post g q p (nI k) n x (nI i) a1 a2 a3 := by
  intro s
  induction s with
  | zero =>
    intro n x i a3 c hi hn R hp
    obtain ⟨m, rfl⟩ : ∃ m, n = m + 1 := ⟨n - 1, by omega⟩
    have e : (2 : Int32) * nI k - 1 = nI (k + k - 1) := by
      have e1 : nI 2 * nI k - nI 1 = nI (2 * k - 1) := by rw [pk_mul, pk_sub (by omega)]
      rw [show k + k = 2 * k by omega]
      exact e1
    exact pk_le k i (fun _ => nm_r e ⟨k + 1, ft_w115 hp0 hk0 hk k (k + 1) a3 c (by omega) (by omega) R hp⟩) (fun z => absurd z (by omega))
  | succ s ih =>
    intro n x i a3 c hi hn R hp
    obtain ⟨m, rfl⟩ : ∃ m, n = m + 1 := ⟨n - 1, by omega⟩
    refine pk_le k i (fun z => absurd z (by omega)) (fun _ => ⟨k + 1, ?_⟩)
    exact ft_w41 hp0 (by omega) k (k + 1) g 0 a3 c (by omega) (by omega) R (fun a Ra => ih m (x / p) (i + 1) a _ (by omega) (by omega) Ra hp)
theorem ft_w2 {post : Int32 → St2 → Prop} {x g q p : Int32} {k : Nat} {a1 a2 a3 : Nat → Int32} (hp0 : ¬ p = 0) (hk0 : 1 ≤ k) (hk : k ≤ 6) (hp : ∀ a, post (ft_pb p k x g) (q, p, nI k, a1, a2, a)) : ∃ n, wX_productByCoefficients_2 post x g q p (nI k) n 0 a1 a2 a3 :=
  pk_loop (fun n i s => wX_productByCoefficients_2 post x g q p (nI k) n (nI i) a1 a2 s) (fun i s => ∀ j, j < i → s j = 0) 12 0 a3 (by omega) (fun j hj => absurd hj (by omega))
    (fun n s h => pk_le 12 12 (fun _ => ⟨k + 1, ft_w26 hp0 hk0 hk k (k + 1) x 0 s (List.replicate 12 0) (by omega) (by omega) ⟨List.length_replicate, fun m hm => by rw [h m hm, ft_R0 m hm]⟩ hp⟩) (fun z => absurd z (by omega)))
    (fun n i s hi h hw => pk_le 12 i (fun z => absurd z (by omega)) (fun _ => ⟨pk_in i 12 hi, nm_e (nm_r (nI_1 i) (hw _ (by
      intro j hj
      rw [nI_clamp (show i < 2 ^ 31 by omega)]
      by_cases e : j = i
      · rw [e, pk_us]
      · rw [pk_un e]
        exact h j (by omega))))⟩))
theorem ft_pbc {post : Int32 → St2 → Prop} {x g q p : Int32} {k : Nat} {a1 a2 a3 : Nat → Int32} (hp0 : ¬ p = 0) (hk0 : 1 ≤ k) (hk : k ≤ 6) (hp : ∀ a, post (ft_pb p k x g) (q, p, nI k, a1, a2, a)) : wpX_productByCoefficients post (q, p, nI k, a1, a2, a3) x g := ft_w2 hp0 hk0 hk hp
end
section
def ft_l63 : List Nat := [1, 2, 4, 8, 16, 32, 3, 6, 12, 24, 48, 35, 5, 10, 20, 40, 19, 38, 15, 30, 60, 59, 53, 41, 17, 34, 7, 14, 28, 56, 51, 37, 9, 18, 36, 11, 22, 44, 27, 54, 47, 29, 58, 55, 45, 25, 50, 39, 13, 26, 52, 43, 21, 42, 23, 46, 31, 62, 63, 61, 57, 49, 33]
def ft_l80 : List Nat := [1, 3, 9, 27, 4, 12, 36, 31, 16, 48, 67, 38, 28, 7, 21, 63, 35, 19, 57, 17, 51, 76, 65, 32, 10, 30, 13, 39, 40, 43, 52, 79, 74, 59, 14, 42, 49, 70, 47, 55, 2, 6, 18, 54, 8, 24, 72, 62, 23, 69, 53, 73, 56, 5, 15, 45, 58, 11, 33, 22, 66, 44, 46, 61, 20, 60, 26, 78, 80, 77, 68, 41, 37, 34, 25, 75, 71, 50, 64, 29]
/-- the powers of the generator -/
def ft_pw (A t : Nat) : Nat := if A = 63 then ft_l63.getD t 1 else ft_l80.getD t 1
/-- the picture: a table of powers, twice over, and the exponents -/
def ft_K (A : Nat) (pw : Nat → Nat) (a1 a2 : Nat → Int32) : Prop := 0 < A ∧ A ≤ 80 ∧ pw 0 = 1 ∧ (∀ t, t < A → 1 ≤ pw t ∧ pw t ≤ A) ∧ (∀ j, j < A + A → a1 j = nI (pw (j % A))) ∧ (∀ t, t < A → a2 (pw t) = nI t)
theorem ft_m25 {post : Int32 → St2 → Prop} {J : Int32 → Int32 → Int32 → Int32 → Int32 → (Nat → Int32) → (Nat → Int32) → (Nat → Int32) → Prop} {q p g : Int32} {k x i x' : Nat} {a1 a2 a3 : Nat → Int32} (hp0 : ¬ p = 0) (hk0 : 1 ≤ k) (hk : k ≤ 6) (hi : i < 160) (hx : x < 81) (hs : ft_pb p k (nI x) g = nI x') (H : ∀ a, J (nI x') (nI (i + 1)) q p (nI k) (upd a1 i (nI x)) (upd a2 x (nI i)) a) : wX_makesAll_25 post J g (nI x) (nI i) q p (nI k) a1 a2 a3 := by
  unfold wX_makesAll_25
  rw [nI_clamp (show i < 2 ^ 31 by omega), nI_clamp (show x < 2 ^ 31 by omega)]
  refine ⟨pk_in i 160 hi, nm_e ⟨pk_in x 81 hx, nm_e ?_⟩⟩
  refine ft_pbc hp0 hk0 hk (fun a => ?_)
  rw [hs]
  exact nm_r (nI_1 i) (H a)
theorem ft_fill {f : Nat → Int32} {s : Nat → Int32} {i : Nat} {x : Int32} (h : ∀ j, j < i → s j = f j) (hx : x = f i) : ∀ j, j < i + 1 → upd s i x j = f j := by
  intro j hj
  by_cases e : j = i
  · rw [e, pk_us, hx]
  · rw [pk_un e]
    exact h j (by omega)
theorem ft_ma {post : Int32 → St2 → Prop} {p g : Int32} {k A : Nat} {a1 a2 a3 : Nat → Int32} (X : Nat → Nat) (N : Nat) (hp0 : ¬ p = 0) (hk0 : 1 ≤ k) (hk : k ≤ 6) (hA : A ≤ 80) (hN : N ≤ A) (h0 : X 0 = 1)
    (hs : ∀ n, n < N → ft_pb p k (nI (X n)) g = nI (X (n + 1))) (hb : ∀ n, n < N → X n ≤ 80) (hne : ∀ n, n < N → 0 < n → X n ≠ 1) (hinj : ∀ n, n < N → ∀ j, j < n → X j ≠ X n)
    (hend : N = A ∨ (0 < N ∧ N < A ∧ X N = 1))
    (H1 : N = A → ∀ b1 b2 b3 : Nat → Int32, (∀ j, j < N → b1 j = nI (X j)) → (∀ j, j < N → b2 (X j) = nI j) → post 1 (nI (A + 1), p, nI k, b1, b2, b3))
    (H0 : N < A → ∀ b1 b2 b3 : Nat → Int32, post 0 (nI (A + 1), p, nI k, b1, b2, b3)) : wpX_makesAll post (nI (A + 1), p, nI k, a1, a2, a3) g := by
  refine Exists.elim (pk_loop (σ := (Nat → Int32) × (Nat → Int32) × (Nat → Int32)) (fun n i s => wX_makesAll_4 post g n (nI (X i)) (nI i) (nI (A + 1)) p (nI k) s.1 s.2.1 s.2.2) (fun i s => (∀ j, j < i → s.1 j = nI (X j)) ∧ (∀ j, j < i → s.2.1 (X j) = nI j)) N 0 (a1, a2, a3) (by omega) ⟨fun j hj => absurd hj (by omega), fun j hj => absurd hj (by omega)⟩ ?_ ?_) (fun n hn => ?_)
  rotate_left 2
  · have hn' : wX_makesAll_4 post g n (nI (X 0)) (nI 0) (nI (A + 1)) p (nI k) a1 a2 a3 := hn
    rw [h0] at hn'
    exact ⟨n, hn'⟩
  · intro n s h
    rcases hend with e | ⟨e0, e1, e2⟩
    · exact pk_le A N (fun _ => H1 e s.1 s.2.1 s.2.2 h.1 h.2) (fun z => absurd z (by omega)) (hx := nI_pred A)
    · refine pk_le A N (fun z => absurd z (by omega)) (fun _ => pk_le N 0 (fun z => absurd z (by omega)) (fun _ => ?_)) (hx := nI_pred A)
      rw [e2]
      exact br_t rfl (H0 e1 s.1 s.2.1 s.2.2)
  · intro n i s hi h hw
    have M : wX_makesAll_25 post (wX_makesAll_4 post g n) g (nI (X i)) (nI i) (nI (A + 1)) p (nI k) s.1 s.2.1 s.2.2 := by
      have hb' := hb i hi
      refine ft_m25 hp0 hk0 hk (by omega) (by omega) (hs i hi) (fun a => ?_)
      refine hw (upd s.1 i (nI (X i)), upd s.2.1 (X i) (nI i), a) ⟨?_, ?_⟩
      · exact ft_fill (f := fun j => nI (X j)) h.1 rfl
      · intro j hj
        show upd s.2.1 (X i) (nI i) (X j) = nI j
        by_cases e : j = i
        · rw [e, pk_us]
        · rw [pk_un (hinj i hi j (by omega))]
          exact h.2 j (by omega)
    have hb' := hb i hi
    exact pk_le A i (fun z => absurd z (by omega)) (fun _ => pk_le i 0 (fun _ => M) (fun z => pk_eq (X i) 1 (fun e => absurd e (hne i hi z)) (fun _ => M))) (hx := nI_pred A)
theorem ft_b54 {post : St2 → Prop} {p k : Int32} {A : Nat} {pw : Nat → Nat} {a1 a2 a3 : Nat → Int32} (hA0 : 0 < A) (hA : A ≤ 80) (h0 : pw 0 = 1) (hb : ∀ t, t < A → 1 ≤ pw t ∧ pw t ≤ A) (h1 : ∀ j, j < A → a1 j = nI (pw j)) (h2 : ∀ j, j < A → a2 (pw j) = nI j)
    (H : ∀ b1, ft_K A pw b1 a2 → post (nI (A + 1), p, k, b1, a2, a3)) : ∃ n, wX_build_54 post (nI (A + 1)) p k n (nI A) a1 a2 a3 := by
  have e2 : (2 : Int32) * nI (A + 1) - 2 = nI (A + A) := by
    have e : nI 2 * nI (A + 1) - nI 2 = nI (2 * (A + 1) - 2) := by rw [pk_mul, pk_sub (by omega)]
    rw [show A + A = 2 * (A + 1) - 2 by omega]
    exact e
  refine pk_loop (fun n m s => wX_build_54 post (nI (A + 1)) p k n (nI (A + m)) s a2 a3) (fun m s => ∀ j, j < A + m → s j = nI (pw (j % A))) A 0 a1 (by omega) ?_ ?_ ?_
  · intro j hj
    rw [Nat.mod_eq_of_lt (show j < A by omega)]
    exact h1 j (by omega)
  · intro n s h
    exact pk_le (A + A) (A + A) (fun _ => H s ⟨hA0, hA, h0, hb, h, h2⟩) (fun z => absurd z (by omega)) (hx := e2)
  · intro n m s hm h hw
    have e3 : nI (A + m) - nI (A + 1) + 1 = nI m := by
      have e : nI (A + m) = nI (A + 1) + nI m - 1 := by
        rw [nI_add, show A + 1 + m = (A + m) + 1 by omega, nI_pred]
      rw [e]
      grind
    refine pk_le (A + A) (A + m) (fun z => absurd z (by omega)) (fun _ => ?_) (hx := e2)
    rw [e3, nI_clamp (show m < 2 ^ 31 by omega), nI_clamp (show A + m < 2 ^ 31 by omega)]
    refine ⟨pk_in m 160 (by omega), pk_in (A + m) 160 (by omega), nm_e (nm_r (nI_1 (A + m)) ?_)⟩
    refine hw _ ?_
    refine ft_fill (f := fun j => nI (pw (j % A))) h ?_
    show s m = nI (pw ((A + m) % A))
    rw [h m (by omega), Nat.add_mod_left]
/-! the tables' facts -/
theorem ft_t63 : ft_pw 63 0 = 1 ∧ (∀ t, t < 63 → 1 ≤ ft_pw 63 t ∧ ft_pw 63 t ≤ 63) ∧ (∀ n, n < 63 → 0 < n → ft_pw 63 n ≠ 1) ∧ (∀ n, n < 63 → ∀ j, j < n → ft_pw 63 j ≠ ft_pw 63 n) := by decide +kernel
theorem ft_t80 : ft_pw 80 0 = 1 ∧ (∀ t, t < 80 → 1 ≤ ft_pw 80 t ∧ ft_pw 80 t ≤ 80) ∧ (∀ n, n < 80 → 0 < n → ft_pw 80 n ≠ 1) ∧ (∀ n, n < 80 → ∀ j, j < n → ft_pw 80 j ≠ ft_pw 80 n) := by decide +kernel
theorem ft_g63 : ∀ n, n < 63 → ft_pb 2 6 (nI (ft_pw 63 n)) 2 = nI (ft_pw 63 (n + 1)) := by decide +kernel
theorem ft_g80 : ∀ n, n < 80 → ft_pb 3 4 (nI (ft_pw 80 n)) 3 = nI (ft_pw 80 (n + 1)) := by decide +kernel
theorem ft_s63 : ∀ n, n < 1 → ft_pb 2 6 (nI ((fun _ => 1) n)) 1 = nI ((fun _ => 1) (n + 1)) := by decide +kernel
theorem ft_s80 : ∀ n, n < 1 → ft_pb 3 4 (nI ((fun _ => 1) n)) 1 = nI ((fun _ => 1) (n + 1)) := by decide +kernel
theorem ft_s80b : ∀ n, n < 2 → ft_pb 3 4 (nI ((fun m => 1 + m % 2) n)) 2 = nI ((fun m => 1 + m % 2) (n + 1)) := by decide +kernel
theorem ft_b64 {post : St2 → Prop} {q p k : Int32} {a1 a2 a3 : Nat → Int32} (H : ∀ b1 b2 b3, ft_K 63 (ft_pw 63) b1 b2 → post (nI (63 + 1), 2, nI 6, b1, b2, b3)) : wpX_build post (q, p, k, a1, a2, a3) 64 2 6 := by
  refine ⟨2, ?_⟩
  refine br_f (by decide) ?_
  refine ft_ma (p := 2) (g := 1) (k := 6) (A := 63) (fun _ => 1) 1 (by decide) (by omega) (by omega) (by omega) (by omega) rfl ft_s63 (fun n _ => by decide) (fun n h h' => absurd h' (by omega)) (fun n h j hj => absurd hj (by omega)) (Or.inr ⟨by omega, by omega, rfl⟩) (fun e => absurd e (by omega)) (fun _ b1 b2 b3 => ?_)
  refine br_t rfl (nm_r (show (1 : Int32) + 1 = 2 by decide) (nm_r (show (0 : Int32) + 1 = 1 by decide) ?_))
  refine br_f (by decide) ?_
  refine ft_ma (p := 2) (g := 2) (k := 6) (A := 63) (ft_pw 63) 63 (by decide) (by omega) (by omega) (by omega) (by omega) ft_t63.1 ft_g63 (fun n h => by have := ft_t63.2.1 n h; omega) ft_t63.2.2.1 ft_t63.2.2.2 (Or.inl rfl) (fun _ c1 c2 c3 e1 e2 => ?_) (fun e => absurd e (by omega))
  refine br_f (by decide) (nm_r (nI_pred 63) ?_)
  exact ft_b54 (by omega) (by omega) ft_t63.1 ft_t63.2.1 e1 e2 (fun d1 K => H d1 c2 c3 K)
theorem ft_b81 {post : St2 → Prop} {q p k : Int32} {a1 a2 a3 : Nat → Int32} (H : ∀ b1 b2 b3, ft_K 80 (ft_pw 80) b1 b2 → post (nI (80 + 1), 3, nI 4, b1, b2, b3)) : wpX_build post (q, p, k, a1, a2, a3) 81 3 4 := by
  refine ⟨3, ?_⟩
  refine br_f (by decide) ?_
  refine ft_ma (p := 3) (g := 1) (k := 4) (A := 80) (fun _ => 1) 1 (by decide) (by omega) (by omega) (by omega) (by omega) rfl ft_s80 (fun n _ => by decide) (fun n h h' => absurd h' (by omega)) (fun n h j hj => absurd hj (by omega)) (Or.inr ⟨by omega, by omega, rfl⟩) (fun e => absurd e (by omega)) (fun _ b1 b2 b3 => ?_)
  refine br_t rfl (nm_r (show (1 : Int32) + 1 = 2 by decide) (nm_r (show (0 : Int32) + 1 = 1 by decide) ?_))
  refine br_f (by decide) ?_
  refine ft_ma (p := 3) (g := 2) (k := 4) (A := 80) (fun m => 1 + m % 2) 2 (by decide) (by omega) (by omega) (by omega) (by omega) rfl ft_s80b (fun n _ => by show 1 + n % 2 ≤ 80; omega) (fun n h h' => by show 1 + n % 2 ≠ 1; omega) (fun n h j hj => by show 1 + j % 2 ≠ 1 + n % 2; omega) (Or.inr ⟨by omega, by omega, rfl⟩) (fun e => absurd e (by omega)) (fun _ b1 b2 b3 => ?_)
  refine br_t rfl (nm_r (show (2 : Int32) + 1 = 3 by decide) (nm_r (show (1 : Int32) + 1 = 2 by decide) ?_))
  refine br_f (by decide) ?_
  refine ft_ma (p := 3) (g := 3) (k := 4) (A := 80) (ft_pw 80) 80 (by decide) (by omega) (by omega) (by omega) (by omega) ft_t80.1 ft_g80 (fun n h => by have := ft_t80.2.1 n h; omega) ft_t80.2.2.1 ft_t80.2.2.2 (Or.inl rfl) (fun _ c1 c2 c3 e1 e2 => ?_) (fun e => absurd e (by omega))
  refine br_f (by decide) (nm_r (nI_pred 80) ?_)
  exact ft_b54 (by omega) (by omega) ft_t80.1 ft_t80.2.1 e1 e2 (fun d1 K => H d1 c2 c3 K)
/-- the prime of the field -/
def ft_p (A : Nat) : Nat := if A = 63 then 2 else 3
def ft_k (A : Nat) : Nat := if A = 63 then 6 else 4
theorem ft_use {post : Int32 → St2 → Prop} {A : Nat} {q p k : Int32} {a1 a2 a3 : Nat → Int32} (hA : A = 63 ∨ A = 80) (H : ∀ b1 b2 b3, ft_K A (ft_pw A) b1 b2 → post 0 (nI (A + 1), nI (ft_p A), nI (ft_k A), b1, b2, b3)) : wpX_use post (q, p, k, a1, a2, a3) (nI (A + 1)) := by
  rcases hA with rfl | rfl
  · refine br_t (by decide) ?_
    unfold wX_use_14
    refine br_t (by decide) ?_
    unfold wX_use_27
    refine br_t (by decide) ?_
    unfold wX_use_39
    exact ft_b64 (fun b1 b2 b3 K => H b1 b2 b3 K)
  · refine br_f (by decide) (br_t (by decide) ?_)
    unfold wX_use_14
    refine br_f (by decide) ?_
    unfold wX_use_27
    refine br_f (by decide) ?_
    unfold wX_use_39
    exact ft_b81 (fun b1 b2 b3 K => H b1 b2 b3 K)
theorem ft_use27 {post : Int32 → St2 → Prop} {u : St2} (H : post (-1) u) : wpX_use post u 27 := br_f (by decide) (br_f (by decide) H)
end
section
theorem ft_el {post : Int32 → Prop} {A x : Nat} {p k : Int32} {a1 a2 a3 : Nat → Int32} (hA : A ≤ 80) (hx : x ≤ A) (hp : post 1) : wpX_isElement post (nI (A + 1), p, k, a1, a2, a3) (nI x) :=
  pk_lt x 0 (fun z => absurd z (by omega)) (fun _ => pk_le (A + 1) x (fun z => absurd z (by omega)) (fun _ => hp))
theorem ft_elN {post : Int32 → Prop} {A : Nat} {p k : Int32} {a1 a2 a3 : Nat → Int32} (hA : A ≤ 80) (hp : post 0) : wpX_isElement post (nI (A + 1), p, k, a1, a2, a3) (nI (A + 1)) :=
  pk_lt (A + 1) 0 (fun z => absurd z (by omega)) (fun _ => pk_le (A + 1) (A + 1) (fun _ => hp) (fun z => absurd z (by omega)))
theorem ft_elM {post : Int32 → Prop} {q p k : Int32} {a1 a2 a3 : Nat → Int32} (hp : post 0) : wpX_isElement post (q, p, k, a1, a2, a3) (-1) :=
  br_t (by decide) hp
theorem ft_gp {A t : Nat} (h : 0 < A) : 0 < Nat.gcd A t := Nat.gcd_pos_of_pos_left t h
theorem ft_gl {A t : Nat} (h : 0 < A) : Nat.gcd A t ≤ A := Nat.le_of_dvd h (Nat.gcd_dvd_left A t)
theorem ft_order {post : Int32 → Prop} {A t : Nat} {pw : Nat → Nat} {p k : Int32} {a1 a2 a3 : Nat → Int32} (K : ft_K A pw a1 a2) (ht : t < A) (hp : post (nI (A / Nat.gcd A t))) : wpX_order post (nI (A + 1), p, k, a1, a2, a3) (nI (pw t)) := by
  obtain ⟨hA0, hA, h0, hb, h1, h2⟩ := K
  have hq := hb t ht
  have g1 := ft_gp (t := t) hA0
  have g2 := ft_gl (t := t) hA0
  unfold wpX_order
  dsimp only
  refine ft_el hA hq.2 (br_f (by decide) (pk_eq (pw t) 0 (fun z => absurd z (by omega)) (fun _ => ⟨pk_in (pw t) 81 (by omega), ?_⟩)))
  rw [nI_clamp (show pw t < 2 ^ 31 by omega), h2 t ht, nI_pred]
  refine ft_divisor hA (by omega) ⟨nI_ne0 g1 (by omega), ?_⟩
  rw [pk_div (by omega) g1 (by omega)]
  exact hp
theorem ft_orderN {post : Int32 → Prop} {A : Nat} {p k : Int32} {a1 a2 a3 : Nat → Int32} (hA : A ≤ 80) (hp : post (-1)) : wpX_order post (nI (A + 1), p, k, a1, a2, a3) (nI (A + 1)) := by
  unfold wpX_order
  dsimp only
  exact ft_elN hA (br_t rfl hp)
theorem ft_powerOf {post : Int32 → Prop} {A t n : Nat} {pw : Nat → Nat} {p k : Int32} {a1 a2 a3 : Nat → Int32} (K : ft_K A pw a1 a2) (ht : t < A) (hn : n ≤ 1000000) (hp : post (nI (pw (t * n % A)))) : wpX_powerOf post (nI (A + 1), p, k, a1, a2, a3) (nI (pw t)) (nI n) := by
  obtain ⟨hA0, hA, h0, hb, h1, h2⟩ := K
  have hq := hb t ht
  have hm : t * n ≤ 80 * 1000000 := Nat.mul_le_mul (by omega) hn
  have hl := Nat.mod_lt (t * n) hA0
  refine pk_eq n 0 (fun z => ?_) (fun _ => pk_eq (pw t) 0 (fun z => absurd z (by omega)) (fun _ => ⟨pk_in (pw t) 81 (by omega), ?_⟩))
  · rw [z, Nat.mul_zero, Nat.zero_mod, h0] at hp
    exact hp
  · rw [nI_clamp (show pw t < 2 ^ 31 by omega), h2 t ht, nI_pred, nI_l (show t < 2 ^ 31 by omega), nI_l (show n < 2 ^ 31 by omega), nI_l (show A < 2 ^ 31 by omega), lN_mul, pk_lRem (show t * n < 2 ^ 63 by omega) hA0 (by omega), lN_i]
    refine ⟨fun e => absurd ((pk_lEQ (a := A) (b := 0) (by omega) (by omega)).mp e) (by omega), pk_in (t * n % A) 160 (by omega), ?_⟩
    rw [nI_clamp (show t * n % A < 2 ^ 31 by omega), h1 _ (show t * n % A < A + A by omega), Nat.mod_mod]
    exact hp
theorem ft_power {post : Int32 → Prop} {A t n : Nat} {pw : Nat → Nat} {p k : Int32} {a1 a2 a3 : Nat → Int32} (K : ft_K A pw a1 a2) (ht : t < A) (hn : n ≤ 1000000) (hp : post (nI (pw (t * n % A)))) : wpX_power post (nI (A + 1), p, k, a1, a2, a3) (nI (pw t)) (nI n) := by
  have hA := K.2.1
  have hq := K.2.2.2.1 t ht
  unfold wpX_power
  dsimp only
  exact ft_el hA hq.2 (br_f (by decide) (pk_lt n 0 (fun z => absurd z (by omega)) (fun _ => pk_lt 1000000 n (fun z => absurd z (by omega)) (fun _ => ft_powerOf K ht hn hp))))
theorem ft_powerN {post : Int32 → Prop} {A t : Nat} {pw : Nat → Nat} {p k : Int32} {a1 a2 a3 : Nat → Int32} (K : ft_K A pw a1 a2) (ht : t < A) (hp : post (-1)) : wpX_power post (nI (A + 1), p, k, a1, a2, a3) (nI (pw t)) 1000001 := by
  have hA := K.2.1
  have hq := K.2.2.2.1 t ht
  unfold wpX_power
  dsimp only
  exact ft_el hA hq.2 (br_f (by decide) (br_f (by decide) (br_t (by decide) hp)))
theorem ft_log {post : Int32 → Prop} {A t u v : Nat} {pw : Nat → Nat} {p k x y : Int32} {a1 a2 a3 : Nat → Int32} (K : ft_K A pw a1 a2) (hx : x = nI (pw t)) (hy : y = nI (pw u)) (ht : t < A) (hu : u < A) (hv : ft_iv (nI (A / Nat.gcd A t)) 20 (nI (A / Nat.gcd A t)) (nI (t / Nat.gcd A t % (A / Nat.gcd A t))) 0 1 = nI v) (hv2 : v ≤ 80) (hd : u % Nat.gcd A t = 0) (hp : post (nI (u / Nat.gcd A t * v % (A / Nat.gcd A t)))) : wpX_logarithm post (nI (A + 1), p, k, a1, a2, a3) x y := by
  obtain ⟨hA0, hA, h0, hb, h1, h2⟩ := K
  subst hx hy
  have hq := hb t ht
  have hr := hb u hu
  have g1 := ft_gp (t := t) hA0
  have g2 := ft_gl (t := t) hA0
  have g3 : 0 < A / Nat.gcd A t := Nat.div_pos g2 g1
  have g4 : A / Nat.gcd A t ≤ A := Nat.div_le_self _ _
  have g5 : u / Nat.gcd A t ≤ u := Nat.div_le_self _ _
  have g6 : t / Nat.gcd A t ≤ t := Nat.div_le_self _ _
  have g7 : u / Nat.gcd A t * v ≤ 80 * 80 := Nat.mul_le_mul (by omega) hv2
  unfold wpX_logarithm
  dsimp only
  refine ft_el hA hq.2 (br_f (by decide) (ft_el hA hr.2 (br_f (by decide) (pk_eq (pw t) 0 (fun z => absurd z (by omega)) (fun _ => pk_eq (pw u) 0 (fun z => absurd z (by omega)) (fun _ => ⟨pk_in (pw t) 81 (by omega), ?_⟩))))))
  rw [nI_clamp (show pw t < 2 ^ 31 by omega), nI_clamp (show pw u < 2 ^ 31 by omega), h2 t ht, h2 u hu, nI_pred]
  refine ft_divisor hA (by omega) ⟨pk_in (pw u) 81 (by omega), nI_ne0 g1 (by omega), ?_⟩
  rw [pk_rem (show u < 2 ^ 31 by omega) g1 (by omega), pk_div (show A < 2 ^ 31 by omega) g1 (by omega), pk_div (show t < 2 ^ 31 by omega) g1 (by omega), pk_div (show u < 2 ^ 31 by omega) g1 (by omega)]
  refine br_t (by rw [hd]; rfl) ⟨nI_ne0 g1 (by omega), nm_e ⟨pk_in (pw t) 81 (by omega), nI_ne0 g1 (by omega), ft_inverse g3 (by omega) (by omega) ?_⟩⟩
  rw [hv, pk_mul, pk_rem (by omega) g3 (by omega)]
  exact ⟨pk_in (pw u) 81 (by omega), nI_ne0 g1 (by omega), nI_ne0 g3 (by omega), hp⟩
theorem ft_log0 {post : Int32 → Prop} {A t : Nat} {pw : Nat → Nat} {p k : Int32} {a1 a2 a3 : Nat → Int32} (K : ft_K A pw a1 a2) (ht : t < A) (hp : post (-1)) : wpX_logarithm post (nI (A + 1), p, k, a1, a2, a3) 0 (nI (pw t)) := by
  obtain ⟨hA0, hA, h0, hb, h1, h2⟩ := K
  have hq := hb t ht
  unfold wpX_logarithm
  dsimp only
  exact ft_el (x := 0) hA (by omega) (br_f (by decide) (ft_el hA hq.2 (br_f (by decide) (br_t rfl hp))))
theorem ft_logz {post : Int32 → Prop} {A t : Nat} {pw : Nat → Nat} {p k : Int32} {a1 a2 a3 : Nat → Int32} (K : ft_K A pw a1 a2) (ht : t < A) (hp : post (-1)) : wpX_logarithm post (nI (A + 1), p, k, a1, a2, a3) (nI (pw t)) 0 := by
  obtain ⟨hA0, hA, h0, hb, h1, h2⟩ := K
  have hq := hb t ht
  unfold wpX_logarithm
  dsimp only
  exact ft_el hA hq.2 (br_f (by decide) (ft_el (x := 0) hA (by omega) (br_f (by decide) (pk_eq (pw t) 0 (fun z => absurd z (by omega)) (fun _ => br_t rfl hp)))))
theorem ft_invert {post : Int32 → Prop} {A t : Nat} {pw : Nat → Nat} {p k : Int32} {a1 a2 a3 : Nat → Int32} (K : ft_K A pw a1 a2) (ht : t < A) (hp : post (nI (pw ((A - t) % A)))) : wpX_invert post (nI (A + 1), p, k, a1, a2, a3) (nI (pw t)) := by
  obtain ⟨hA0, hA, h0, hb, h1, h2⟩ := K
  have hq := hb t ht
  unfold wpX_invert
  dsimp only
  refine ft_el hA hq.2 (br_f (by decide) (pk_eq (pw t) 0 (fun z => absurd z (by omega)) (fun _ => ⟨pk_in (pw t) 81 (by omega), ?_⟩)))
  rw [nI_clamp (show pw t < 2 ^ 31 by omega), h2 t ht, nI_pred, pk_sub (by omega), nI_clamp (show A - t < 2 ^ 31 by omega), h1 (A - t) (by omega)]
  exact ⟨pk_in (A - t) 160 (by omega), hp⟩
theorem ft_multiply {post : Int32 → Prop} {A t u : Nat} {pw : Nat → Nat} {p k : Int32} {a1 a2 a3 : Nat → Int32} (K : ft_K A pw a1 a2) (ht : t < A) (hu : u < A) (hp : post (nI (pw ((t + u) % A)))) : wpX_multiply post (nI (A + 1), p, k, a1, a2, a3) (nI (pw t)) (nI (pw u)) := by
  obtain ⟨hA0, hA, h0, hb, h1, h2⟩ := K
  have hq := hb t ht
  have hr := hb u hu
  unfold wpX_multiply
  dsimp only
  refine ft_el hA hq.2 (br_f (by decide) (ft_el hA hr.2 (br_f (by decide) ?_)))
  refine pk_eq (pw t) 0 (fun z => absurd z (by omega)) (fun _ => pk_eq (pw u) 0 (fun z => absurd z (by omega)) (fun _ => ⟨pk_in (pw t) 81 (by omega), pk_in (pw u) 81 (by omega), ?_⟩))
  rw [nI_clamp (show pw t < 2 ^ 31 by omega), nI_clamp (show pw u < 2 ^ 31 by omega), h2 t ht, h2 u hu, nI_add, nI_clamp (show t + u < 2 ^ 31 by omega), h1 (t + u) (by omega)]
  exact ⟨pk_in (t + u) 160 (by omega), hp⟩
theorem ft_roots {post : Int32 → Prop} {A t n : Nat} {pw : Nat → Nat} {p k x : Int32} {a1 a2 a3 : Nat → Int32} (K : ft_K A pw a1 a2) (hx : x = nI (pw t)) (ht : t < A) (hn0 : 1 ≤ n) (hn : n ≤ 1000) (hp1 : t % Nat.gcd A n = 0 → post (nI (Nat.gcd A n))) (hp0 : ¬ t % Nat.gcd A n = 0 → post 0) : wpX_roots post (nI (A + 1), p, k, a1, a2, a3) x (nI n) := by
  obtain ⟨hA0, hA, h0, hb, h1, h2⟩ := K
  subst hx
  have hq := hb t ht
  have g1 := ft_gp (t := n) hA0
  have g2 := ft_gl (t := n) hA0
  have g3 := Nat.mod_lt t g1
  unfold wpX_roots
  dsimp only
  refine ft_el hA hq.2 (br_f (by decide) (pk_lt n 1 (fun z => absurd z (by omega)) (fun _ => pk_le n 1000000 (fun _ => pk_eq (pw t) 0 (fun z => absurd z (by omega)) (fun _ => ?_)) (fun z => absurd z (by omega)))))
  rw [nI_clamp (show pw t < 2 ^ 31 by omega), h2 t ht, nI_pred]
  refine ft_divisor hA hn ⟨pk_in (pw t) 81 (by omega), nI_ne0 g1 (by omega), ?_⟩
  rw [pk_rem (show t < 2 ^ 31 by omega) g1 (by omega)]
  exact pk_eq (t % Nat.gcd A n) 0 hp1 hp0
theorem ft_roots0 {post : Int32 → Prop} {A n : Nat} {p k : Int32} {a1 a2 a3 : Nat → Int32} (hA : A ≤ 80) (hn0 : 1 ≤ n) (hn : n ≤ 1000) (hp : post 1) : wpX_roots post (nI (A + 1), p, k, a1, a2, a3) 0 (nI n) := by
  unfold wpX_roots
  dsimp only
  exact ft_el (x := 0) hA (by omega) (br_f (by decide) (pk_lt n 1 (fun z => absurd z (by omega)) (fun _ => pk_le n 1000000 (fun _ => br_t rfl hp) (fun z => absurd z (by omega)))))
theorem ft_rootsN {post : Int32 → Prop} {A t : Nat} {pw : Nat → Nat} {p k : Int32} {a1 a2 a3 : Nat → Int32} (K : ft_K A pw a1 a2) (ht : t < A) (hp : post (-1)) : wpX_roots post (nI (A + 1), p, k, a1, a2, a3) (nI (pw t)) 0 := by
  have hA := K.2.1
  have hq := K.2.2.2.1 t ht
  unfold wpX_roots
  dsimp only
  exact ft_el hA hq.2 (br_f (by decide) (br_t (by decide) hp))
theorem ft_root {post : Int32 → Prop} {A t : Nat} {pw : Nat → Nat} {k : Int32} {a1 a2 a3 : Nat → Int32} (hAA : A = 63 ∨ A = 80) (K : ft_K A pw a1 a2) (ht : t < A) (hp1 : ∀ v, v < A → (v + v) % A = t → post (nI (pw v))) (hp0 : A = 80 → t % 2 = 1 → post (-1)) : wpX_root post (nI (A + 1), nI (ft_p A), k, a1, a2, a3) (nI (pw t)) := by
  obtain ⟨hA0, hA, h0, hb, h1, h2⟩ := K
  have hq := hb t ht
  unfold wpX_root
  dsimp only
  refine ft_el hA hq.2 (br_f (by decide) (pk_eq (pw t) 0 (fun z => absurd z (by omega)) (fun _ => ⟨pk_in (pw t) 81 (by omega), ?_⟩)))
  rw [nI_clamp (show pw t < 2 ^ 31 by omega), h2 t ht]
  refine nm_e ?_
  rcases hAA with rfl | rfl
  · have e1 : nI t * 32 = nI (t * 32) := pk_mul t 32
    have e2 : nI (t * 32) - nI (t * 32) / 63 * 63 = nI (t * 32 % 63) := pk_rem (d := 63) (by omega) (by omega) (by omega)
    refine br_t rfl ?_
    rw [e1, e2, nI_clamp (show t * 32 % 63 < 2 ^ 31 by omega), h1 _ (show t * 32 % 63 < 63 + 63 by omega), Nat.mod_mod]
    exact ⟨by decide, pk_in (t * 32 % 63) 160 (by omega), hp1 _ (by omega) (by omega)⟩
  · have e1 : nI t &&& 1 = nI (t % 2) := pk_andN (show t < 2 ^ 32 by omega) 1 (by decide)
    have e2 : nI t / 2 = nI (t / 2) := pk_div (d := 2) (by omega) (by omega) (by omega)
    have e3 : nI (t / 2) + 40 = nI (t / 2 + 40) := nI_add (t / 2) 40
    refine br_f (by decide) ?_
    rw [e1, e2, e3, nI_clamp (show t / 2 < 2 ^ 31 by omega), nI_clamp (show t / 2 + 40 < 2 ^ 31 by omega), h1 (t / 2) (by omega), h1 (t / 2 + 40) (by omega), Nat.mod_eq_of_lt (show t / 2 < 80 by omega), Nat.mod_eq_of_lt (show t / 2 + 40 < 80 by omega)]
    refine pk_eq (t % 2) 0 (fun z => ⟨by decide, pk_in (t / 2) 160 (by omega), nm_e ⟨by decide, pk_in (t / 2 + 40) 160 (by omega), nm_e (br_c (fun _ => hp1 (t / 2 + 40) (by omega) (by omega)) (fun _ => hp1 (t / 2) (by omega) (by omega)))⟩⟩) (fun z => hp0 rfl (by omega))
theorem ft_rootN {post : Int32 → Prop} {q p k : Int32} {a1 a2 a3 : Nat → Int32} (hp : post (-1)) : wpX_root post (q, p, k, a1, a2, a3) (-1) := by
  unfold wpX_root
  dsimp only
  exact ft_elM (br_t rfl hp)
/-- the sizes of fields that isField knows -/
def ft_F (p s : Nat) : Prop := (p = 2 ∧ (s = 2 ∨ s = 4 ∨ s = 8 ∨ s = 64)) ∨ (p ≠ 2 ∧ (s = 3 ∨ s = 9 ∨ s = 81))
theorem ft_isField {post : Int32 → Prop} {p s : Nat} {q k : Int32} {a1 a2 a3 : Nat → Int32} (hp : p ≤ 3) (hs : s ≤ 1000) (h1 : ft_F p s → post 1) (h0 : ¬ ft_F p s → post 0) : wpX_isField post (q, nI p, k, a1, a2, a3) (nI s) := by
  unfold ft_F at h1 h0
  refine pk_eq p 2 (fun z => ?_) (fun z => ?_)
  · exact pk_eq s 2 (fun y => h1 (by omega)) (fun _ => pk_eq s 4 (fun y => h1 (by omega)) (fun _ => pk_eq s 8 (fun y => h1 (by omega)) (fun _ => pk_eq s 64 (fun y => h1 (by omega)) (fun _ => h0 (by omega)))))
  · exact pk_eq s 3 (fun y => h1 (by omega)) (fun _ => pk_eq s 9 (fun y => h1 (by omega)) (fun _ => pk_eq s 81 (fun y => h1 (by omega)) (fun _ => h0 (by omega))))
/-- home's loop: the exponent t, the size s -/
def ft_hm (A p t : Nat) : Nat → Nat → Nat
  | 0, _ => A + 1
  | n + 1, s => if A + 1 ≤ s then A + 1 else if ((p = 2 ∧ (s = 2 ∨ s = 4 ∨ s = 8 ∨ s = 64)) ∨ (p ≠ 2 ∧ (s = 3 ∨ s = 9 ∨ s = 81))) ∧ t * s % A = t then s else ft_hm A p t n (s * p)
theorem ft_home15 {post : Int32 → Prop} {A t p : Nat} {pw : Nat → Nat} {k : Int32} {a1 a2 a3 : Nat → Int32} (K : ft_K A pw a1 a2) (ht : t < A) (hp2 : p ≤ 3) : ∀ n s : Nat, s ≤ 1000 → A + 1 ≤ s * p ^ n → post (nI (ft_hm A p t n s)) → wX_home_15 post (nI (pw t)) (nI (A + 1)) (nI p) k a1 a2 a3 (n + 1) (nI s) := by
  intro n
  have hA0 := K.1
  have hA := K.2.1
  have hq := K.2.2.2.1 t ht
  have hi := K.2.2.2.2.2
  induction n with
  | zero =>
    intro s hs h hp
    rw [Nat.pow_zero, Nat.mul_one] at h
    exact pk_le (A + 1) s (fun _ => hp) (fun z => absurd z (by omega))
  | succ n ih =>
    intro s hs h hp
    refine pk_le (A + 1) s (fun z => ?_) (fun z => ?_)
    · rw [ft_hm, if_pos z] at hp
      exact hp
    · have hl := Nat.mod_lt (t * s) hA0
      have hr := K.2.2.2.1 (t * s % A) hl
      rw [ft_hm, if_neg (by omega)] at hp
      have hsp : s * p ≤ 80 * 3 := Nat.mul_le_mul (by omega) hp2
      have hnx : A + 1 ≤ (s * p) * p ^ n := by
        rw [Nat.mul_assoc, Nat.mul_comm p (p ^ n), ← Nat.pow_succ]
        exact h
      refine ft_isField hp2 hs (fun f => ?_) (fun f => ?_)
      · refine br_f (by decide) (ft_powerOf K ht (by omega) ?_)
        refine pk_eq (pw (t * s % A)) (pw t) (fun e => ?_) (fun e => nm_r (pk_mul s p) (ih (s * p) (by omega) hnx ?_))
        · have e2 : nI (t * s % A) = nI t := by rw [← hi _ hl, e, hi _ ht]
          have e3 : t * s % A = t := (nI_eq (by omega) (by omega)).mp e2
          rw [if_pos ⟨f, e3⟩] at hp
          exact hp
        · rw [if_neg (fun g => e (by rw [g.2]))] at hp
          exact hp
      · rw [if_neg (fun g => f g.1)] at hp
        exact br_t rfl (nm_r (pk_mul s p) (ih (s * p) (by omega) hnx hp))
theorem ft_home {post : Int32 → Prop} {A t p : Nat} {pw : Nat → Nat} {k : Int32} {a1 a2 a3 : Nat → Int32} (K : ft_K A pw a1 a2) (ht : t < A) (hp2 : p ≤ 3) (hpp : A + 1 ≤ p * p ^ 6) (hp : post (nI (ft_hm A p t 6 p))) : wpX_home post (nI (A + 1), nI p, k, a1, a2, a3) (nI (pw t)) := by
  have hA := K.2.1
  have hq := K.2.2.2.1 t ht
  unfold wpX_home
  dsimp only
  exact ft_el hA hq.2 (br_f (by decide) ⟨7, ft_home15 K ht hp2 6 p (by omega) hpp hp⟩)
theorem ft_homeN {post : Int32 → Prop} {A : Nat} {p k : Int32} {a1 a2 a3 : Nat → Int32} (hA : A ≤ 80) (hp : post (-1)) : wpX_home post (nI (A + 1), p, k, a1, a2, a3) (nI (A + 1)) := by
  unfold wpX_home
  dsimp only
  exact ft_elN hA (br_t rfl hp)
end
section
/-! number facts -/
theorem ft_n1 {A : Nat} (hA : A = 63 ∨ A = 80) : ∀ t, t < A → 1 ≤ A / Nat.gcd A t ∧ A % (A / Nat.gcd A t) = 0 ∧ t * (A / Nat.gcd A t) % A = 0 ∧ (t + (A - t) % A) % A = 0 ∧ A / Nat.gcd A ((A - t) % A) = A / Nat.gcd A t ∧ t * (A / Nat.gcd A t - 1) % A = (A - t) % A ∧ (A - (A - t) % A) % A = t := by
  rcases hA with rfl | rfl
  · decide +kernel
  · decide +kernel
/-- what inverseModulo answers -/
def ft_in (A t : Nat) : Nat := (ft_iv (nI (A / Nat.gcd A t)) 20 (nI (A / Nat.gcd A t)) (nI (t / Nat.gcd A t % (A / Nat.gcd A t))) 0 1).toNatClampNeg
theorem ft_n2 {A : Nat} (hA : A = 63 ∨ A = 80) : ∀ t, t < A → ft_iv (nI (A / Nat.gcd A t)) 20 (nI (A / Nat.gcd A t)) (nI (t / Nat.gcd A t % (A / Nat.gcd A t))) 0 1 = nI (ft_in A t) ∧ ft_in A t ≤ 80 ∧ (t / Nat.gcd A t * ft_in A t) % (A / Nat.gcd A t) = 1 % (A / Nat.gcd A t) := by
  rcases hA with rfl | rfl
  · decide +kernel
  · decide +kernel
theorem ft_lg {A t v : Nat} (hA : 0 < A) (e : Nat) (hv : (t / Nat.gcd A t * v) % (A / Nat.gcd A t) = 1 % (A / Nat.gcd A t)) : (t * e % A) % Nat.gcd A t = 0 ∧ (t * e % A) / Nat.gcd A t * v % (A / Nat.gcd A t) = e % (A / Nat.gcd A t) := by
  have g1 := ft_gp (t := t) hA
  obtain ⟨m, hm⟩ := Nat.gcd_dvd_left A t
  obtain ⟨s, hs⟩ := Nat.gcd_dvd_right A t
  generalize Nat.gcd A t = d at *
  subst hm
  subst hs
  rw [Nat.mul_div_cancel_left s g1, Nat.mul_div_cancel_left m g1] at hv
  have e1 : d * s * e % (d * m) = d * (s * e % m) := by rw [Nat.mul_assoc, Nat.mul_mod_mul_left]
  rw [e1, Nat.mul_div_cancel_left _ g1, Nat.mul_div_cancel_left m g1]
  refine ⟨Nat.mul_mod_right d _, ?_⟩
  rw [Nat.mod_mul_mod, Nat.mul_comm s e, Nat.mul_assoc, Nat.mul_mod, hv, ← Nat.mul_mod, Nat.mul_one]
theorem ft_gm {o A : Nat} (e : Nat) (h : o ∣ A) : Nat.gcd o (e % A) = Nat.gcd o e := by
  rw [Nat.gcd_rec o (e % A), Nat.mod_mod_of_dvd e h, ← Nat.gcd_rec]
theorem ft_n5 {A : Nat} (hA : A = 63 ∨ A = 80) : ∀ t, t < A → ∀ e, e < A → A / Nat.gcd A (t * e % A) = (A / Nat.gcd A t) / Nat.gcd (A / Nat.gcd A t) e := by
  rcases hA with rfl | rfl
  · decide +kernel
  · decide +kernel
theorem ft_ord {A t : Nat} (hA : A = 63 ∨ A = 80) (ht : t < A) (e : Nat) : A / Nat.gcd A (t * e % A) = (A / Nat.gcd A t) / Nat.gcd (A / Nat.gcd A t) e := by
  have h := ft_n5 hA t ht (e % A) (Nat.mod_lt e (by omega))
  rw [Nat.mul_mod_mod, ft_gm e (Nat.dvd_of_mod_eq_zero (ft_n1 hA t ht).2.1)] at h
  exact h
theorem ft_has {A g u : Nat} (hA : 0 < A) (hg : g ∣ A) : u * (A / g) % A = 0 ↔ u % g = 0 := by
  obtain ⟨m, rfl⟩ := hg
  have g0 : 0 < g := Nat.pos_of_mul_pos_right hA
  have m0 : 0 < m := Nat.pos_of_mul_pos_left hA
  rw [Nat.mul_div_cancel_left m g0, Nat.mul_mod_mul_right]
  constructor
  · intro e
    rcases Nat.mul_eq_zero.mp e with z | z
    · exact z
    · omega
  · intro e
    rw [e, Nat.zero_mul]
theorem ft_inj {A s t : Nat} {pw : Nat → Nat} {a1 a2 : Nat → Int32} (K : ft_K A pw a1 a2) (hs : s < A) (ht : t < A) (e : pw s = pw t) : s = t := by
  obtain ⟨hA0, hA, h0, hb, h1, h2⟩ := K
  have e2 : nI s = nI t := by rw [← h2 s hs, e, h2 t ht]
  exact (nI_eq (by omega) (by omega)).mp e2
theorem ft_sur {A : Nat} (hA : A = 63 ∨ A = 80) : ∀ a, a < A → ∃ t, t < A ∧ ft_pw A t = 1 + a := by
  rcases hA with rfl | rfl
  · decide +kernel
  · decide +kernel
/-- the sizes that the law asks about -/
def ft_S (A d : Nat) : Prop := (A = 63 ∧ (d = 2 ∨ d = 4 ∨ d = 8)) ∨ (A ≠ 63 ∧ (d = 3 ∨ d = 9))
/-- what home answers -/
def ft_h (A t : Nat) : Nat := ft_hm A (ft_p A) t 6 (ft_p A)
theorem ft_n12 {A : Nat} (hA : A = 63 ∨ A = 80) : ∀ t, t < A → 2 ≤ ft_h A t ∧ ft_h A t ≤ 81 ∧ (A + 1) % ft_h A t = 0 ∧ t * ft_h A t % A = t ∧ (ft_h A t - 1) % (A / Nat.gcd A t) = 0 := by
  rcases hA with rfl | rfl
  · decide +kernel
  · decide +kernel
theorem ft_n13a : ∀ t, t < 63 → ∀ d, d < 28 → ¬ ((d = 2 ∨ d = 4 ∨ d = 8) ∧ d < ft_h 63 t ∧ (d - 1) % (63 / Nat.gcd 63 t) = 0) := by decide +kernel
theorem ft_n13b : ∀ t, t < 80 → ∀ d, d < 28 → ¬ ((d = 3 ∨ d = 9) ∧ d < ft_h 80 t ∧ (d - 1) % (80 / Nat.gcd 80 t) = 0) := by decide +kernel
theorem ft_n13 {A t : Nat} (hA : A = 63 ∨ A = 80) (ht : t < A) : ∀ d, d < 28 → ft_S A d → d < ft_h A t → (d - 1) % (A / Nat.gcd A t) ≠ 0 := by
  intro d hd hS hh e
  rcases hA with rfl | rfl
  · rcases hS with ⟨_, z⟩ | ⟨z, _⟩
    · exact ft_n13a t ht d hd ⟨z, hh, e⟩
    · exact z rfl
  · rcases hS with ⟨z, _⟩ | ⟨_, z⟩
    · exact absurd z (by decide)
    · exact ft_n13b t ht d hd ⟨z, hh, e⟩
theorem ft_n40 : ∀ u, u < 80 → (u % 2 = 0 → u * 40 % 80 = 0) ∧ (u % 2 = 1 → ¬ ft_pw 80 (u * 40 % 80) = 1) := by decide +kernel
end
section
theorem ft_l581 {post : Int32 → St0 → Prop} {mc ms kc ks : Nat} {J : Int32 → Prop} {x5 x7 q p k : Int32} {a1 a2 a3 : Nat → Int32} {o h i : Nat} (ho0 : 0 < o) (ho : o ≤ 80) (hh : h ≤ 81) (hi2 : 2 ≤ i) (hi : i < 28) (hJ : J (nI (i + 1))) (hd : i < h → (i - 1) % o ≠ 0) : wL_lawOf_581 post mc ms J x5 x7 (nI o) (nI h) (nI i) 1 kc ks q p k a1 a2 a3 := by
  have e1 : nI i - 1 = nI (i - 1) := pk_sub (b := 1) (by omega)
  have hl := Nat.mod_lt (i - 1) ho0
  unfold wL_lawOf_581
  refine br_f (by decide) (pk_le h i (fun _ => nm_r (nI_1 i) hJ) (fun z => ⟨nI_ne0 ho0 (by omega), ?_⟩))
  rw [e1, pk_rem (by omega) ho0 (by omega)]
  exact pk_eq ((i - 1) % o) 0 (fun e => absurd e (hd z)) (fun _ => nm_r (nI_1 i) hJ)
theorem ft_l522 {post : Int32 → St0 → Prop} {mc ms kc ks : Nat} {p k : Int32} {a1 a2 a3 : Nat → Int32} {A t o h : Nat} {pw : Nat → Nat} (hAA : A = 63 ∨ A = 80) (K : ft_K A pw a1 a2) (ht : t < A) (ho0 : 0 < o) (ho : o ≤ 80) (hh : h ≤ 81) (hd : ∀ d, d < 28 → ft_S A d → d < h → (d - 1) % o ≠ 0) (hp : post 1 ()) : ∃ n, wL_lawOf_522 post mc ms (nI (A + 1)) (nI (pw t)) (nI o) (nI h) kc ks (nI (A + 1)) p k a1 a2 a3 n 2 := by
  have hA := K.2.1
  refine pk_loop (σ := Unit) (fun n i _ => wL_lawOf_522 post mc ms (nI (A + 1)) (nI (pw t)) (nI o) (nI h) kc ks (nI (A + 1)) p k a1 a2 a3 n (nI i)) (fun i _ => 2 ≤ i) 28 2 () (by omega) (by omega) ?_ ?_
  · intro n _ _
    exact pk_le 28 28 (fun _ => ft_orderN hA (br_t rfl (ft_rootN (br_t rfl (ft_log0 K ht (br_t rfl (ft_logz K ht (br_t rfl (ft_homeN hA (br_t rfl (ft_rootsN K ht (br_t rfl (ft_powerN K ht (br_t rfl hp)))))))))))))) (fun z => absurd z (by omega))
  · intro n i s hi h2 hw
    have hJ : wL_lawOf_522 post mc ms (nI (A + 1)) (nI (pw t)) (nI o) (nI h) kc ks (nI (A + 1)) p k a1 a2 a3 n (nI (i + 1)) := hw () (by omega)
    have T : ft_S A i → wL_lawOf_581 post mc ms (wL_lawOf_522 post mc ms (nI (A + 1)) (nI (pw t)) (nI o) (nI h) kc ks (nI (A + 1)) p k a1 a2 a3 n) (nI (A + 1)) (nI (pw t)) (nI o) (nI h) (nI i) 1 kc ks (nI (A + 1)) p k a1 a2 a3 := fun hS => ft_l581 ho0 ho hh h2 hi hJ (fun z => hd i hi hS z)
    have E : wL_lawOf_581 post mc ms (wL_lawOf_522 post mc ms (nI (A + 1)) (nI (pw t)) (nI o) (nI h) kc ks (nI (A + 1)) p k a1 a2 a3 n) (nI (A + 1)) (nI (pw t)) (nI o) (nI h) (nI i) 0 kc ks (nI (A + 1)) p k a1 a2 a3 := by
      unfold wL_lawOf_581
      exact br_t rfl (nm_r (nI_1 i) hJ)
    unfold ft_S at T
    exact pk_le 28 i (fun z => absurd z (by omega)) (fun _ => pk_eq (A + 1) 64 (fun z => pk_eq i 2 (fun y => T (by omega)) (fun _ => pk_eq i 4 (fun y => T (by omega)) (fun _ => pk_eq i 8 (fun y => T (by omega)) (fun _ => E)))) (fun z => pk_eq i 3 (fun y => T (by omega)) (fun _ => pk_eq i 9 (fun y => T (by omega)) (fun _ => E))))
theorem ft_pp {A : Nat} (hA : A = 63 ∨ A = 80) : ft_p A ≤ 3 ∧ A + 1 ≤ ft_p A * ft_p A ^ 6 := by
  rcases hA with rfl | rfl
  · decide
  · decide
theorem ft_l470 {post : Int32 → St0 → Prop} {mc ms kc ks : Nat} {k : Int32} {a1 a2 a3 : Nat → Int32} {A t : Nat} {pw : Nat → Nat} (hAA : A = 63 ∨ A = 80) (K : ft_K A pw a1 a2) (ht : t < A) (hp : post 1 ()) : wL_lawOf_470 post mc ms (nI (A + 1)) (nI (pw t)) (nI (A / Nat.gcd A t)) kc ks (nI (A + 1)) (nI (ft_p A)) k a1 a2 a3 := by
  have hA := K.2.1
  have hq := K.2.2.2.1 t ht
  obtain ⟨n1, n2, n3, n4, n5⟩ := ft_n12 hAA t ht
  have n6 := ft_n13 hAA ht
  have o1 := (ft_n1 hAA t ht).1
  have o2 : A / Nat.gcd A t ≤ A := Nat.div_le_self _ _
  obtain ⟨p1, p2⟩ := ft_pp hAA
  unfold wL_lawOf_470
  refine ft_home K ht p1 p2 ?_
  have eh : ft_hm A (ft_p A) t 6 (ft_p A) = ft_h A t := rfl
  rw [eh]
  generalize ft_h A t = h at *
  have e1 : nI h - 1 = nI (h - 1) := pk_sub (b := 1) (by omega)
  refine pk_lt h 2 (fun z => absurd z (by omega)) (fun _ => ⟨nI_ne0 (by omega) (by omega), ?_⟩)
  rw [pk_rem (by omega) (by omega) (by omega), n3]
  refine br_t rfl (ft_power K ht (by omega) ?_)
  rw [n4]
  refine br_t rfl ⟨nI_ne0 o1 (by omega), ?_⟩
  rw [e1, pk_rem (by omega) o1 (by omega), n5]
  exact br_t rfl (ft_l522 hAA K ht o1 (by omega) n2 n6 hp)
theorem ft_l438a {post : Int32 → St0 → Prop} {mc ms kc ks : Nat} {x5 x7 x8 p k : Int32} {a1 a2 a3 : Nat → Int32} {A u v : Nat} {pw : Nat → Nat} (K : ft_K A pw a1 a2) (hv : v < A) (hu : (v + v) % A = u) (H : wL_lawOf_470 post mc ms x5 x7 x8 kc ks (nI (A + 1)) p k a1 a2 a3) : wL_lawOf_433 post mc ms x5 x7 x8 (nI (pw u)) (nI (pw v)) kc ks (nI (A + 1)) p k a1 a2 a3 := by
  unfold wL_lawOf_433
  unfold wL_lawOf_438
  refine br_f (by decide) (ft_multiply K hv hv ?_)
  rw [hu]
  exact br_t rfl H
theorem ft_l438b {post : Int32 → St0 → Prop} {mc ms kc ks : Nat} {x5 x7 x8 x10 q p k : Int32} {a1 a2 a3 : Nat → Int32} (H : wL_lawOf_470 post mc ms x5 x7 x8 kc ks q p k a1 a2 a3) : wL_lawOf_438 post mc ms x5 x7 x8 x10 (-1) 0 kc ks q p k a1 a2 a3 := by
  unfold wL_lawOf_438
  exact br_t rfl (br_t rfl H)
theorem ft_l399 {post : Int32 → St0 → Prop} {mc ms kc ks : Nat} {x7 x8 k z : Int32} {a1 a2 a3 : Nat → Int32} {A u : Nat} (hAA : A = 63 ∨ A = 80) (K : ft_K A (ft_pw A) a1 a2) (hu : u < A) (H : wL_lawOf_470 post mc ms (nI (A + 1)) x7 x8 kc ks (nI (A + 1)) (nI (ft_p A)) k a1 a2 a3) : wL_lawOf_399 post mc ms (nI (A + 1)) x7 x8 (nI (ft_pw A u)) z z kc ks (nI (A + 1)) (nI (ft_p A)) k a1 a2 a3 := by
  have hA := K.2.1
  have h0 := K.2.2.1
  have hl := Nat.mod_lt (u * 40) K.1
  have hr := K.2.2.2.1 (u * 40 % A) hl
  unfold wL_lawOf_399
  refine br_t rfl (ft_root hAA K hu (fun v hv e => ?_) (fun e80 e => ?_))
  · refine pk_eq (A + 1) 64 (fun _ => ft_l438a K hv e H) (fun z => ft_power (n := 40) K hu (by omega) ?_)
    refine pk_eq (ft_pw A (u * 40 % A)) 1 (fun _ => ft_l438a K hv e H) (fun y => absurd ?_ y)
    have e80 : A = 80 := by omega
    subst e80
    rw [(ft_n40 u hu).1 (by omega)]
    exact h0
  · refine pk_eq (A + 1) 64 (fun z => absurd z (by omega)) (fun z => ft_power (n := 40) K hu (by omega) ?_)
    refine pk_eq (ft_pw A (u * 40 % A)) 1 (fun y => absurd y ?_) (fun _ => ft_l438b H)
    subst e80
    exact (ft_n40 u hu).2 e
theorem ft_l348 {post : Int32 → St0 → Prop} {mc ms kc ks : Nat} {x7 x8 k r : Int32} {a1 a2 a3 : Nat → Int32} {A u n : Nat} (hAA : A = 63 ∨ A = 80) (K : ft_K A (ft_pw A) a1 a2) (hu : u < A) (hn0 : 1 ≤ n) (hn : n ≤ 1000) (hr1 : u % Nat.gcd A n = 0 → r = nI (Nat.gcd A n)) (hr0 : ¬ u % Nat.gcd A n = 0 → r = 0) (H : wL_lawOf_470 post mc ms (nI (A + 1)) x7 x8 kc ks (nI (A + 1)) (nI (ft_p A)) k a1 a2 a3) : wL_lawOf_348 post mc ms (nI (A + 1)) (nI A) x7 x8 (nI (ft_pw A u)) (nI n) (nI (Nat.gcd A n)) r kc ks (nI (A + 1)) (nI (ft_p A)) k a1 a2 a3 := by
  have hA := K.2.1
  have h0 := K.2.2.1
  have g1 := ft_gp (t := n) K.1
  have g2 := ft_gl (t := n) K.1
  have g3 : A / Nat.gcd A n ≤ A := Nat.div_le_self _ _
  have g4 := ft_has (u := u) K.1 (Nat.gcd_dvd_left A n)
  have hl := Nat.mod_lt (u * (A / Nat.gcd A n)) K.1
  have hr := K.2.2.2.1 _ hl
  unfold wL_lawOf_348
  refine ft_roots0 hA hn0 hn (br_t rfl ⟨nI_ne0 g1 (by omega), ?_⟩)
  rw [pk_div (by omega) g1 (by omega)]
  refine ft_power K hu (by omega) ?_
  refine pk_eq (ft_pw A (u * (A / Nat.gcd A n) % A)) 1 (fun e => ?_) (fun e => ?_)
  · have e2 : u * (A / Nat.gcd A n) % A = 0 := ft_inj K hl K.1 (by rw [e, h0])
    unfold wL_lawOf_383
    exact br_t (hr1 (g4.mp e2)) (ft_l399 hAA K hu H)
  · have e2 : ¬ u % Nat.gcd A n = 0 := fun y => e (by rw [g4.mpr y, h0])
    unfold wL_lawOf_383
    refine br_f ?_ (ft_l399 hAA K hu H)
    rw [hr0 e2]
    exact fun y => nI_ne0 g1 (by omega) y.symm
theorem ft_l142 {post : Int32 → St0 → Prop} {mc ms kc ks : Nat} {x3 z : Int32} {a1 a2 a3 : Nat → Int32} {A t e : Nat} (hAA : A = 63 ∨ A = 80) (K : ft_K A (ft_pw A) a1 a2) (ht : t < A) (he : e < 1000) (hp : post 1 ()) : wL_lawOf_142 post mc ms x3 (nI (A + 1)) (nI A) (nI (ft_pw A t)) (nI (A / Nat.gcd A t)) (nI e) z z kc ks (nI (A + 1)) (nI (ft_p A)) (nI (ft_k A)) a1 a2 a3 := by
  have hA0 := K.1
  have hA := K.2.1
  have h0 := K.2.2.1
  have H470 := ft_l470 (post := post) (mc := mc) (ms := ms) (kc := kc) (ks := ks) (k := nI (ft_k A)) (a3 := a3) hAA K ht hp
  obtain ⟨n1, n2, n3, n4, n5, n6, n7⟩ := ft_n1 hAA t ht
  obtain ⟨v1, v2, v3⟩ := ft_n2 hAA t ht
  obtain ⟨w1, w2⟩ := ft_lg hA0 e v3
  have hord := ft_ord hAA ht e
  have o2 : A / Nat.gcd A t ≤ A := Nat.div_le_self _ _
  have hu := Nat.mod_lt (t * e) hA0
  have hj := Nat.mod_lt (A - t) hA0
  have c1 := ft_gp (A := A / Nat.gcd A t) (t := e) n1
  have c2 := ft_gl (A := A / Nat.gcd A t) (t := e) n1
  unfold wL_lawOf_142
  refine br_t rfl (ft_power K ht (by omega) (ft_order K hu (ft_common (by omega) (by omega) ⟨nI_ne0 c1 (by omega), ?_⟩)))
  rw [pk_div (by omega) c1 (by omega), hord]
  refine br_t rfl (ft_log K rfl rfl ht hu v1 v2 w1 ⟨nI_ne0 n1 (by omega), ?_⟩)
  rw [pk_rem (by omega) n1 (by omega), w2]
  refine br_t rfl ?_
  rw [nI_add]
  refine ft_power K ht (by omega) ?_
  have e7 : t * (e + A / Nat.gcd A t) % A = t * e % A := by rw [Nat.mul_add, Nat.add_mod, n3, Nat.add_zero, Nat.mod_mod]
  rw [e7]
  refine br_t rfl (ft_power K hu (by omega) ?_)
  rw [Nat.mul_mod_left, h0]
  refine br_t rfl (ft_invert K ht (ft_multiply K ht hj ?_))
  rw [n4, h0]
  refine br_t rfl (ft_order K hj ?_)
  rw [n5]
  refine br_t rfl ?_
  have e8 : nI (A / Nat.gcd A t) - 1 = nI (A / Nat.gcd A t - 1) := pk_sub (b := 1) (by omega)
  rw [e8]
  refine ft_power K ht (by omega) ?_
  rw [n6]
  refine br_t rfl (ft_invert K hj ?_)
  rw [n7]
  refine br_t rfl ⟨by decide, ?_⟩
  obtain ⟨m, hm, em⟩ := pk_andE x3 (m := 65535) 16 (by decide)
  have e9 : (1 : Int32) + (nI m - nI m / 1000 * 1000) = nI (1 + m % 1000) := by
    have e10 : nI m - nI m / nI 1000 * nI 1000 = nI (m % 1000) := pk_rem (by omega) (by omega) (by omega)
    have e11 : nI 1 + nI (m % 1000) = nI (1 + m % 1000) := nI_add _ _
    rw [← e11, ← e10]
    rfl
  rw [em]
  refine nm_r e9 ?_
  have m1 : 1 ≤ 1 + m % 1000 := by omega
  have m2 : 1 + m % 1000 ≤ 1000 := by omega
  generalize 1 + m % 1000 = n at *
  refine ft_common hA m2 ?_
  have g1 := ft_gp (t := n) hA0
  have g2 := ft_gl (t := n) hA0
  have R : ∀ r : Int32, (t * e % A % Nat.gcd A n = 0 → r = nI (Nat.gcd A n)) → (¬ t * e % A % Nat.gcd A n = 0 → r = 0) → wL_lawOf_348 post mc ms (nI (A + 1)) (nI A) (nI (ft_pw A t)) (nI (A / Nat.gcd A t)) (nI (ft_pw A (t * e % A))) (nI n) (nI (Nat.gcd A n)) r kc ks (nI (A + 1)) (nI (ft_p A)) (nI (ft_k A)) a1 a2 a3 := fun r h1 h2 => ft_l348 hAA K hu m1 m2 h1 h2 H470
  refine ft_roots K rfl hu m1 m2 (fun y => ?_) (fun y => ?_)
  · refine ft_roots (t := 0) K (by rw [h0]; rfl) hA0 m1 m2 (fun _ => ?_) (fun z => absurd (Nat.zero_mod _) z)
    exact br_t rfl (br_f (nI_ne0 g1 (by omega)) (br_t rfl (R _ (fun _ => rfl) (fun z => absurd y z))))
  · refine ft_roots (t := 0) K (by rw [h0]; rfl) hA0 m1 m2 (fun _ => ?_) (fun z => absurd (Nat.zero_mod _) z)
    exact br_t rfl (br_t rfl (R _ (fun z => absurd z y) (fun _ => rfl)))
theorem ft_l22 {post : Int32 → St0 → Prop} {mc ms kc ks : Nat} {x1 x2 x3 q p k : Int32} {a1 a2 a3 : Nat → Int32} {A : Nat} (hAA : A = 63 ∨ A = 80) (hp : post 1 ()) : wL_lawOf_22 post mc ms x1 x2 x3 (nI (A + 1)) kc ks q p k a1 a2 a3 := by
  unfold wL_lawOf_22
  refine ft_use hAA (fun b1 b2 b3 K => br_t rfl (ft_use27 (br_t rfl (nm_r (nI_pred A) ⟨nI_ne0 K.1 (by omega), ?_⟩))))
  have hA0 := K.1
  have hA := K.2.1
  have h0 := K.2.2.1
  obtain ⟨j, hj, ej⟩ := pk_andE x1 (m := 255) 8 (by decide)
  have hj2 := Nat.mod_lt j hA0
  obtain ⟨t, ht, et⟩ := ft_sur hAA (j % A) hj2
  have e1 : (1 : Int32) + (nI j - nI j / nI A * nI A) = nI (ft_pw A t) := by
    rw [pk_rem (by omega) hA0 (by omega), et]
    exact nI_add 1 (j % A)
  rw [ej]
  refine nm_r e1 (ft_order K ht ⟨by decide, ?_⟩)
  obtain ⟨m, hm, em⟩ := pk_andE x2 (m := 65535) 16 (by decide)
  have e2 : nI m - nI m / 1000 * 1000 = nI (m % 1000) := pk_rem (d := 1000) (by omega) (by omega) (by omega)
  rw [em]
  refine nm_r e2 ?_
  obtain ⟨n1, n2, n3, n4, n5, n6, n7⟩ := ft_n1 hAA t ht
  obtain ⟨v1, v2, v3⟩ := ft_n2 hAA t ht
  have o2 : A / Nat.gcd A t ≤ A := Nat.div_le_self _ _
  refine pk_lt (A / Nat.gcd A t) 1 (fun z => absurd z (by omega)) (fun _ => ⟨nI_ne0 n1 (by omega), ?_⟩)
  rw [pk_rem (by omega) n1 (by omega), n2]
  refine br_t rfl (ft_power K ht (by omega) ?_)
  rw [n3, h0]
  refine br_t rfl (ft_log (u := 0) K rfl (by rw [h0]; rfl) ht hA0 v1 v2 (Nat.zero_mod _) ?_)
  rw [Nat.zero_div, Nat.zero_mul, Nat.zero_mod]
  refine br_t rfl (ft_log K rfl rfl ht ht v1 v2 (Nat.mod_eq_zero_of_dvd (Nat.gcd_dvd_right A t)) ?_)
  rw [v3]
  refine pk_eq (A / Nat.gcd A t) 1 (fun e => ?_) (fun e => ?_)
  · rw [e, Nat.mod_one]
    have e3 := ft_l142 (post := post) (mc := mc) (ms := ms) (kc := kc) (ks := ks) (x3 := x3) (z := 0) (a3 := b3) hAA K ht (Nat.mod_lt m (show 0 < 1000 by omega)) hp
    rw [e] at e3
    exact e3
  · rw [Nat.mod_eq_of_lt (show 1 < A / Nat.gcd A t by omega)]
    exact ft_l142 (z := 1) hAA K ht (Nat.mod_lt m (show 0 < 1000 by omega)) hp
theorem ft_cell {post : Int32 → Prop} {L i : Nat} {xs : Nat → Int32} (hL : L ≤ 4) (hi : i < 4) (H : ∀ r, post r) : wpL_cellAt post L xs () (nI i) :=
  pk_le L i (fun _ => H 0) (fun z => ⟨pk_in i L z, H _⟩)
theorem ft_lawOf {post : Int32 → St0 → Prop} {p0 p1 p2 p3 : Int32} (hp : post 1 ()) : wpL_lawOf post 4 259 () p0 p1 p2 p3 := by
  unfold wpL_lawOf
  refine ⟨by omega, by omega, 3, 253, by omega, by omega, ?_⟩
  unfold wpX_init
  refine ⟨by omega, by omega, by omega, by omega, by omega, by omega, ft_b64 (fun b1 b2 b3 _ => ?_)⟩
  exact br_c (fun _ => ft_l22 (A := 63) (Or.inl rfl) hp) (fun _ => ft_l22 (A := 80) (Or.inr rfl) hp)
theorem i_vc (xs : Nat → Int32) (L : Nat) (hL : L ≤ 4) : wpL_law (fun r => r = 1) L xs := by
  unfold wpL_law
  exact ft_cell (i := 0) hL (by omega) (fun r1 => ft_cell (i := 1) hL (by omega) (fun r2 => ft_cell (i := 2) hL (by omega) (fun r3 => ft_cell (i := 3) hL (by omega) (fun r4 => ⟨4, 259, by omega, by omega, ft_lawOf rfl⟩))))
end
