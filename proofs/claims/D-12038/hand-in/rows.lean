section
/-! ===== numbers ===== -/
/-- an int out of an integer -/
def cv_I (x : Int) : Int32 := Int32.ofInt x
theorem cv_I_nat (n : Nat) : nI n = cv_I (n : Int) := (Int32.ofInt_eq_ofNat (n := n)).symm
theorem cv_I_add (a b : Int) : cv_I a + cv_I b = cv_I (a + b) := (Int32.ofInt_add a b).symm
theorem cv_I_sub (a b : Int) : cv_I a - cv_I b = cv_I (a - b) := (Int32.ofInt_sub a b).symm
theorem cv_I_mul (a b : Int) : cv_I a * cv_I b = cv_I (a * b) := (Int32.ofInt_mul a b).symm
theorem cv_I_neg (a : Int) : -cv_I a = cv_I (-a) := (Int32.ofInt_neg a).symm
theorem cv_I_toInt {a : Int} (h1 : -2147483648 ≤ a) (h2 : a < 2147483648) : (cv_I a).toInt = a := Int32.toInt_ofInt_of_le (by omega) (by omega)
theorem cv_I_of (x : Int32) : x = cv_I x.toInt := (Int32.ofInt_toInt x).symm
theorem cv_I_0 : cv_I 0 = 0 := by rfl
theorem cv_I_1 : cv_I 1 = 1 := by rfl
theorem cv_le {x y : Int32} {A B : Prop} (a b : Int) (f : a ≤ b → A) (g : b < a → B) (hx : x = cv_I a := by rfl) (hy : y = cv_I b := by rfl) (ha : -2147483648 ≤ a ∧ a < 2147483648 := by omega) (hb : -2147483648 ≤ b ∧ b < 2147483648 := by omega) : (x ≤ y → A) ∧ (¬ x ≤ y → B) := by
  subst hx hy
  rw [Int32.le_iff_toInt_le, cv_I_toInt ha.1 ha.2, cv_I_toInt hb.1 hb.2]
  exact ⟨f, fun z => g (by omega)⟩
theorem cv_lt {x y : Int32} {A B : Prop} (a b : Int) (f : a < b → A) (g : b ≤ a → B) (hx : x = cv_I a := by rfl) (hy : y = cv_I b := by rfl) (ha : -2147483648 ≤ a ∧ a < 2147483648 := by omega) (hb : -2147483648 ≤ b ∧ b < 2147483648 := by omega) : (x < y → A) ∧ (¬ x < y → B) := by
  subst hx hy
  rw [Int32.lt_iff_toInt_lt, cv_I_toInt ha.1 ha.2, cv_I_toInt hb.1 hb.2]
  exact ⟨f, fun z => g (by omega)⟩
theorem cv_eq {x y : Int32} {A B : Prop} (a b : Int) (f : a = b → A) (g : a ≠ b → B) (hx : x = cv_I a := by rfl) (hy : y = cv_I b := by rfl) (ha : -2147483648 ≤ a ∧ a < 2147483648 := by omega) (hb : -2147483648 ≤ b ∧ b < 2147483648 := by omega) : (x = y → A) ∧ (¬ x = y → B) := by
  subst hx hy
  rw [← Int32.toInt_inj, cv_I_toInt ha.1 ha.2, cv_I_toInt hb.1 hb.2]
  exact ⟨f, g⟩
/-! ===== sums ===== -/
def cv_sm (f : Nat → Int) : Nat → Int
  | 0 => 0
  | n + 1 => cv_sm f n + f n
theorem cv_sm_s (f : Nat → Int) (n : Nat) : cv_sm f (n + 1) = cv_sm f n + f n := rfl
theorem cv_sm_congr {f g : Nat → Int} {n : Nat} (h : ∀ i, i < n → f i = g i) : cv_sm f n = cv_sm g n := by
  induction n with
  | zero => rfl
  | succ n ih => rw [cv_sm_s, cv_sm_s, ih (fun i hi => h i (by omega)), h n (by omega)]
theorem cv_sm_le {f g : Nat → Int} {n : Nat} (h : ∀ i, i < n → f i ≤ g i) : cv_sm f n ≤ cv_sm g n := by
  induction n with
  | zero => exact Int.le_refl _
  | succ n ih =>
    have h1 := ih (fun i hi => h i (by omega))
    have h2 := h n (by omega)
    rw [cv_sm_s, cv_sm_s]
    omega
theorem cv_sm_add (f g : Nat → Int) (n : Nat) : cv_sm (fun i => f i + g i) n = cv_sm f n + cv_sm g n := by
  induction n with
  | zero => rfl
  | succ n ih =>
    rw [cv_sm_s, cv_sm_s, cv_sm_s, ih]
    omega
theorem cv_sm_mul (k : Int) (f : Nat → Int) (n : Nat) : cv_sm (fun i => k * f i) n = k * cv_sm f n := by
  induction n with
  | zero => exact (Int.mul_zero k).symm
  | succ n ih => rw [cv_sm_s, cv_sm_s, ih, Int.mul_add]
theorem cv_sm_zero {f : Nat → Int} {n : Nat} (h : ∀ i, i < n → f i = 0) : cv_sm f n = 0 := by
  induction n with
  | zero => rfl
  | succ n ih => rw [cv_sm_s, ih (fun i hi => h i (by omega)), h n (by omega)]; rfl
theorem cv_sm_one (v : Int) (t n : Nat) : cv_sm (fun p => if t = p then v else 0) n = if t < n then v else 0 := by
  induction n with
  | zero => rfl
  | succ n ih =>
    rw [cv_sm_s, ih]
    by_cases h1 : t = n
    · rw [if_neg (by omega), if_pos h1, if_pos (by omega)]; omega
    · rw [if_neg h1]
      by_cases h2 : t < n
      · rw [if_pos h2, if_pos (by omega)]; omega
      · rw [if_neg h2, if_neg (by omega)]; omega
theorem cv_sm_nonneg {f : Nat → Int} {n : Nat} (h : ∀ i, i < n → 0 ≤ f i) : 0 ≤ cv_sm f n := by
  have := cv_sm_le (f := fun _ => 0) (g := f) (n := n) h
  rw [cv_sm_zero (fun _ _ => rfl)] at this
  exact this
theorem cv_sm_term {f : Nat → Int} {n j : Nat} (h : ∀ i, i < n → 0 ≤ f i) (hj : j < n) : f j ≤ cv_sm f n := by
  have e := cv_sm_one (f j) j n
  rw [if_pos hj] at e
  rw [← e]
  refine cv_sm_le (fun i hi => ?_)
  by_cases q : j = i
  · rw [if_pos q, q]; exact Int.le_refl _
  · rw [if_neg q]; exact h i hi
theorem cv_sm_pos {f : Nat → Int} {n : Nat} (h : 0 < cv_sm f n) : ∃ i, i < n ∧ 0 < f i := by
  induction n with
  | zero => exact absurd h (by show ¬ (0 : Int) < 0; omega)
  | succ n ih =>
    rw [cv_sm_s] at h
    by_cases q : 0 < f n
    · exact ⟨n, by omega, q⟩
    · obtain ⟨i, hi, hf⟩ := ih (by omega)
      exact ⟨i, by omega, hf⟩
theorem cv_sm_swap (f : Nat → Nat → Int) (m n : Nat) : cv_sm (fun q => cv_sm (fun p => f q p) m) n = cv_sm (fun p => cv_sm (fun q => f q p) n) m := by
  induction n with
  | zero => exact (cv_sm_zero (fun _ _ => rfl)).symm
  | succ n ih =>
    rw [cv_sm_s, ih, ← cv_sm_add]
    rfl
theorem cv_sm_const (k : Int) (n : Nat) : cv_sm (fun _ => k) n = k * n := by
  induction n with
  | zero => exact (Int.mul_zero k).symm
  | succ n ih =>
    rw [cv_sm_s, ih, Int.natCast_add, Int.mul_add]
    show k * n + k = k * n + k * 1
    rw [Int.mul_one]
/-- the sum of A over the facts below n whose place c takes -/
def cv_S (P : Nat → Nat) (A : Nat → Int) (c : Nat → Bool) (n : Nat) : Int := cv_sm (fun i => if c (P i) = true then A i else 0) n
def cv_o : Nat → Int := fun _ => 1
theorem cv_S_s (P : Nat → Nat) (A : Nat → Int) (c : Nat → Bool) (n : Nat) : cv_S P A c (n + 1) = cv_S P A c n + (if c (P n) = true then A n else 0) := rfl
theorem cv_S_congr {P P' : Nat → Nat} {A A' : Nat → Int} {c d : Nat → Bool} {n : Nat} (h : ∀ i, i < n → c (P i) = d (P' i)) (hA : ∀ i, i < n → A i = A' i) : cv_S P A c n = cv_S P' A' d n :=
  cv_sm_congr (fun i hi => by rw [h i hi, hA i hi])
/-- sums by cells, added up -/
theorem cv_S_ex {P : Nat → Nat} {A : Nat → Int} {n N : Nat} {k : Nat → Nat} (hk : ∀ i, i < n → k (P i) < N) (d : Nat → Bool) : cv_sm (fun p => if d p = true then cv_S P A (fun x => decide (k x = p)) n else 0) N = cv_S P A (fun x => d (k x)) n := by
  have e1 : cv_sm (fun p => if d p = true then cv_S P A (fun x => decide (k x = p)) n else 0) N = cv_sm (fun p => cv_sm (fun i => if k (P i) = p then (if d (k (P i)) = true then A i else 0) else 0) n) N := by
    refine cv_sm_congr (fun p _ => ?_)
    by_cases hd : d p = true
    · rw [if_pos hd]
      refine cv_sm_congr (fun i _ => ?_)
      by_cases q : k (P i) = p
      · rw [if_pos (decide_eq_true q), if_pos q, q, if_pos hd]
      · rw [if_neg (fun w => q (of_decide_eq_true w)), if_neg q]
    · rw [if_neg hd]
      refine (cv_sm_zero (fun i _ => ?_)).symm
      by_cases q : k (P i) = p
      · rw [if_pos q, q, if_neg hd]
      · rw [if_neg q]
  rw [e1, cv_sm_swap]
  refine cv_sm_congr (fun i hi => ?_)
  rw [cv_sm_one, if_pos (hk i hi)]
theorem cv_S_o_nonneg (P : Nat → Nat) (c : Nat → Bool) (n : Nat) : 0 ≤ cv_S P cv_o c n :=
  cv_sm_nonneg (fun i _ => by
    by_cases q : c (P i) = true
    · rw [if_pos q]; exact Int.one_nonneg
    · rw [if_neg q]; exact Int.le_refl _)
theorem cv_S_o_le (P : Nat → Nat) (c : Nat → Bool) (n : Nat) : cv_S P cv_o c n ≤ n := by
  have h := cv_sm_le (f := fun i => if c (P i) = true then cv_o i else 0) (g := fun _ => 1) (n := n) (fun i _ => by
    by_cases q : c (P i) = true
    · rw [if_pos q]; exact Int.le_refl _
    · rw [if_neg q]; exact Int.one_nonneg)
  rw [cv_sm_const, Int.one_mul] at h
  exact h
theorem cv_S_up {P : Nat → Nat} {A : Nat → Int} {c : Nat → Bool} {n : Nat} {k : Int} (h : ∀ i, i < n → c (P i) = true → A i ≤ k) : cv_S P A c n ≤ k * cv_S P cv_o c n := by
  unfold cv_S
  rw [← cv_sm_mul]
  refine cv_sm_le (fun i hi => ?_)
  by_cases q : c (P i) = true
  · rw [if_pos q, if_pos q]
    show A i ≤ k * 1
    rw [Int.mul_one]
    exact h i hi q
  · rw [if_neg q, if_neg q, Int.mul_zero]; exact Int.le_refl _
theorem cv_S_dn {P : Nat → Nat} {A : Nat → Int} {c : Nat → Bool} {n : Nat} {k : Int} (h : ∀ i, i < n → c (P i) = true → k ≤ A i) : k * cv_S P cv_o c n ≤ cv_S P A c n := by
  unfold cv_S
  rw [← cv_sm_mul]
  refine cv_sm_le (fun i hi => ?_)
  by_cases q : c (P i) = true
  · rw [if_pos q, if_pos q]
    show k * 1 ≤ A i
    rw [Int.mul_one]
    exact h i hi q
  · rw [if_neg q, if_neg q, Int.mul_zero]; exact Int.le_refl _
theorem cv_S_pos {P : Nat → Nat} {c : Nat → Bool} {n : Nat} (h : 0 < cv_S P cv_o c n) : ∃ i, i < n ∧ c (P i) = true := by
  obtain ⟨i, hi, hf⟩ := cv_sm_pos h
  refine ⟨i, hi, ?_⟩
  by_cases q : c (P i) = true
  · exact q
  · rw [if_neg q] at hf
    exact absurd hf (by omega)
theorem cv_S_has {P : Nat → Nat} {c : Nat → Bool} {n i : Nat} (hi : i < n) (h : c (P i) = true) : 0 < cv_S P cv_o c n := by
  have t := cv_sm_term (f := fun i => if c (P i) = true then cv_o i else 0) (n := n) (j := i) (fun i _ => by
    by_cases q : c (P i) = true
    · rw [if_pos q]; exact Int.one_nonneg
    · rw [if_neg q]; exact Int.le_refl _) hi
  rw [if_pos h] at t
  exact Int.lt_of_lt_of_le (show (0 : Int) < 1 by decide) t
/-- no fact: no sum -/
theorem cv_S_none {P : Nat → Nat} {A : Nat → Int} {c : Nat → Bool} {n : Nat} (h : cv_S P cv_o c n ≤ 0) : cv_S P A c n = 0 := by
  refine cv_sm_zero (fun i hi => ?_)
  by_cases q : c (P i) = true
  · have := cv_S_has hi q
    exact absurd this (by omega)
  · rw [if_neg q]
/-- one amount changed -/
theorem cv_S_chg {P : Nat → Nat} {A A' : Nat → Int} {n i : Nat} (hi : i < n) (hA : ∀ j, j ≠ i → A' j = A j) (c : Nat → Bool) : cv_S P A' c n = cv_S P A c n + (if c (P i) = true then A' i - A i else 0) := by
  have e : (if c (P i) = true then A' i - A i else 0) = cv_sm (fun p => if i = p then (if c (P i) = true then A' i - A i else 0) else 0) n := by
    rw [cv_sm_one, if_pos hi]
  rw [e]
  unfold cv_S
  rw [← cv_sm_add]
  refine cv_sm_congr (fun j _ => ?_)
  by_cases q : i = j
  · rw [if_pos q, ← q]
    by_cases r : c (P i) = true
    · rw [if_pos r, if_pos r, if_pos r]; omega
    · rw [if_neg r, if_neg r, if_neg r]; rfl
  · rw [if_neg q, hA j (fun z => q z.symm)]; omega
/-! ===== places, groups, filters ===== -/
def cv_grp (p g : Nat) : Nat := (if g % 2 = 0 then 0 else p % 4) + 4 * (if g / 2 % 2 = 0 then 0 else p / 4 % 5) + 20 * (if g / 4 % 2 = 0 then 0 else p / 20)
theorem cv_grp_lt {p : Nat} (g : Nat) (hp : p < 120) : cv_grp p g < 120 := by
  unfold cv_grp
  split <;> split <;> split <;> omega
theorem cv_grp_r (p g : Nat) : cv_grp p g % 4 = if g % 2 = 0 then 0 else p % 4 := by
  unfold cv_grp
  split <;> split <;> split <;> omega
theorem cv_grp_k (p g : Nat) : cv_grp p g / 4 % 5 = if g / 2 % 2 = 0 then 0 else p / 4 % 5 := by
  unfold cv_grp
  split <;> split <;> split <;> omega
theorem cv_grp_m (p g : Nat) : cv_grp p g / 20 = if g / 4 % 2 = 0 then 0 else p / 20 := by
  unfold cv_grp
  split <;> split <;> split <;> omega
theorem cv_grp_7 (p : Nat) : cv_grp p 7 = p := by
  show p % 4 + 4 * (p / 4 % 5) + 20 * (p / 20) = p
  omega
theorem cv_grp_0 (p : Nat) : cv_grp p 0 = 0 := rfl
def cv_bit (F j : Nat) : Bool := decide (F / 2 ^ j % 2 = 1)
def cv_pass (p F d : Nat) : Bool := (decide (d % 2 = 0) || cv_bit F (p % 4)) && (decide (d / 2 % 2 = 0) || cv_bit F (4 + p / 4 % 5)) && (decide (d / 4 % 2 = 0) || cv_bit F (9 + p / 20))
theorem cv_pass_7 (p F : Nat) : cv_pass p F 7 = (cv_bit F (p % 4) && cv_bit F (4 + p / 4 % 5) && cv_bit F (9 + p / 20)) := rfl
def cv_cuts (F : Nat) : Nat := (if F % 16 = 15 then 0 else 1) + (if F / 16 % 32 = 31 then 0 else 2) + (if F / 512 = 63 then 0 else 4)
theorem cv_cuts_lt (F : Nat) : cv_cuts F < 8 := by
  unfold cv_cuts
  split <;> split <;> split <;> omega
theorem cv_cuts_r {F : Nat} (h : cv_cuts F % 2 = 0) : F % 16 = 15 := by
  unfold cv_cuts at h
  by_cases q : F % 16 = 15
  · exact q
  · rw [if_neg q] at h
    revert h
    split <;> split <;> omega
theorem cv_cuts_k {F : Nat} (h : cv_cuts F / 2 % 2 = 0) : F / 16 % 32 = 31 := by
  unfold cv_cuts at h
  by_cases q : F / 16 % 32 = 31
  · exact q
  · rw [if_neg q] at h
    revert h
    split <;> split <;> omega
theorem cv_cuts_m {F : Nat} (h : cv_cuts F / 4 % 2 = 0) : F / 512 = 63 := by
  unfold cv_cuts at h
  by_cases q : F / 512 = 63
  · exact q
  · rw [if_neg q] at h
    revert h
    split <;> split <;> omega
theorem cv_bit_r {F r : Nat} (h : F % 16 = 15) (hr : r < 4) : cv_bit F r = true := by
  have : r = 0 ∨ r = 1 ∨ r = 2 ∨ r = 3 := by omega
  rcases this with q | q | q | q <;> subst q <;> exact decide_eq_true (by omega)
theorem cv_bit_k {F r : Nat} (h : F / 16 % 32 = 31) (hr : r < 5) : cv_bit F (4 + r) = true := by
  have : r = 0 ∨ r = 1 ∨ r = 2 ∨ r = 3 ∨ r = 4 := by omega
  rcases this with q | q | q | q | q <;> subst q <;> exact decide_eq_true (by omega)
theorem cv_bit_m {F r : Nat} (h : F / 512 = 63) (hr : r < 6) : cv_bit F (9 + r) = true := by
  have : r = 0 ∨ r = 1 ∨ r = 2 ∨ r = 3 ∨ r = 4 ∨ r = 5 := by omega
  rcases this with q | q | q | q | q | q <;> subst q <;> exact decide_eq_true (by omega)
theorem cv_need1 : ∀ g, g < 8 → ∀ a, a < 8 → ∀ b, b < 8 → ¬ g &&& (a ||| b) = a ||| b ∨ (a % 2 ≤ (a ||| b) % 2 ∧ b % 2 ≤ (a ||| b) % 2 ∧ (a ||| b) % 2 ≤ g % 2) := by decide +kernel
theorem cv_need2 : ∀ g, g < 8 → ∀ a, a < 8 → ∀ b, b < 8 → ¬ g &&& (a ||| b) = a ||| b ∨ (a / 2 % 2 ≤ (a ||| b) / 2 % 2 ∧ b / 2 % 2 ≤ (a ||| b) / 2 % 2 ∧ (a ||| b) / 2 % 2 ≤ g / 2 % 2) := by decide +kernel
theorem cv_need4 : ∀ g, g < 8 → ∀ a, a < 8 → ∀ b, b < 8 → ¬ g &&& (a ||| b) = a ||| b ∨ (a / 4 % 2 ≤ (a ||| b) / 4 % 2 ∧ b / 4 % 2 ≤ (a ||| b) / 4 % 2 ∧ (a ||| b) / 4 % 2 ≤ g / 4 % 2) := by decide +kernel
theorem cv_need_lt : ∀ a, a < 8 → ∀ b, b < 8 → a ||| b < 8 := by decide +kernel
/-- a cell's place answers for the places that it stands for -/
theorem cv_key {p γ g F : Nat} (hp : p < 120) (hγ : γ < 8) (hg : g < 8) (h : g &&& (cv_cuts F ||| γ) = cv_cuts F ||| γ) : cv_pass (cv_grp p g) F (cv_cuts F ||| γ) = cv_pass p F 7 ∧ cv_grp (cv_grp p g) γ = cv_grp p γ := by
  obtain ⟨r1, r2, r3⟩ := (cv_need1 g hg _ (cv_cuts_lt F) γ hγ).resolve_left (fun w => w h)
  obtain ⟨k1, k2, k3⟩ := (cv_need2 g hg _ (cv_cuts_lt F) γ hγ).resolve_left (fun w => w h)
  obtain ⟨m1, m2, m3⟩ := (cv_need4 g hg _ (cv_cuts_lt F) γ hγ).resolve_left (fun w => w h)
  generalize cv_cuts F ||| γ = d at *
  constructor
  · rw [cv_pass_7]
    unfold cv_pass
    rw [cv_grp_r, cv_grp_k, cv_grp_m]
    have e1 : (decide (d % 2 = 0) || cv_bit F (if g % 2 = 0 then 0 else p % 4)) = cv_bit F (p % 4) := by
      by_cases q : d % 2 = 0
      · rw [decide_eq_true q, cv_bit_r (cv_cuts_r (by omega)) (Nat.mod_lt _ (by decide))]; rfl
      · rw [decide_eq_false q, if_neg (by omega)]; rfl
    have e2 : (decide (d / 2 % 2 = 0) || cv_bit F (4 + (if g / 2 % 2 = 0 then 0 else p / 4 % 5))) = cv_bit F (4 + p / 4 % 5) := by
      by_cases q : d / 2 % 2 = 0
      · rw [decide_eq_true q, cv_bit_k (cv_cuts_k (by omega)) (Nat.mod_lt _ (by decide))]; rfl
      · rw [decide_eq_false q, if_neg (by omega)]; rfl
    have e3 : (decide (d / 4 % 2 = 0) || cv_bit F (9 + (if g / 4 % 2 = 0 then 0 else p / 20))) = cv_bit F (9 + p / 20) := by
      by_cases q : d / 4 % 2 = 0
      · rw [decide_eq_true q, cv_bit_m (r := p / 20) (cv_cuts_m (by omega)) (by omega)]; rfl
      · rw [decide_eq_false q, if_neg (by omega)]; rfl
    rw [e1, e2, e3]
  · have e : ∀ x y z : Nat, cv_grp x γ = (if γ % 2 = 0 then 0 else x % 4) + 4 * (if γ / 2 % 2 = 0 then 0 else x / 4 % 5) + 20 * (if γ / 4 % 2 = 0 then 0 else x / 20) := fun _ _ _ => rfl
    rw [e (cv_grp p g) 0 0, e p 0 0, cv_grp_r, cv_grp_k, cv_grp_m]
    have e1 : (if γ % 2 = 0 then 0 else if g % 2 = 0 then 0 else p % 4) = if γ % 2 = 0 then 0 else p % 4 := by
      split
      · rfl
      · rw [if_neg (by omega)]
    have e2 : (if γ / 2 % 2 = 0 then 0 else if g / 2 % 2 = 0 then 0 else p / 4 % 5) = if γ / 2 % 2 = 0 then 0 else p / 4 % 5 := by
      split
      · rfl
      · rw [if_neg (by omega)]
    have e3 : (if γ / 4 % 2 = 0 then 0 else if g / 4 % 2 = 0 then 0 else p / 20) = if γ / 4 % 2 = 0 then 0 else p / 20 := by
      split
      · rfl
      · rw [if_neg (by omega)]
    rw [e1, e2, e3]
/-! ===== the picture: n facts, their places P, their amounts A ===== -/
/-- which places a question's group q takes -/
def cv_c (γ F q : Nat) : Nat → Bool := fun p => cv_pass p F 7 && decide (cv_grp p γ = q)
def cv_G (P : Nat → Nat) (A : Nat → Int) (n γ F q : Nat) : Int := cv_S P A (cv_c γ F q) n
/-- which places a cell stands for -/
def cv_K (P : Nat → Nat) (A : Nat → Int) (n g q : Nat) : Int := cv_S P A (fun p => decide (cv_grp p g = q)) n
theorem cv_cells_sum {P : Nat → Nat} {A : Nat → Int} {n γ g F q : Nat} (hP : ∀ i, i < n → P i < 120) (hγ : γ < 8) (hg : g < 8) (h : g &&& (cv_cuts F ||| γ) = cv_cuts F ||| γ) :
    cv_sm (fun p => if (cv_pass p F (cv_cuts F ||| γ) && decide (cv_grp p γ = q)) = true then cv_K P A n g p else 0) 120 = cv_G P A n γ F q := by
  have e := cv_S_ex (P := P) (A := A) (n := n) (N := 120) (k := fun x => cv_grp x g) (fun i hi => cv_grp_lt g (hP i hi)) (fun p => cv_pass p F (cv_cuts F ||| γ) && decide (cv_grp p γ = q))
  refine Eq.trans e (cv_S_congr (fun i hi => ?_) (fun _ _ => rfl))
  obtain ⟨h1, h2⟩ := cv_key (hP i hi) hγ hg h
  show (cv_pass (cv_grp (P i) g) F (cv_cuts F ||| γ) && decide (cv_grp (cv_grp (P i) g) γ = q)) = (cv_pass (P i) F 7 && decide (cv_grp (P i) γ = q))
  rw [h1, h2]
/-- the last fact below n at a place, -1 if there is none -/
def cv_lk (P : Nat → Nat) (p : Nat) : Nat → Int
  | 0 => -1
  | n + 1 => if P n = p then (n : Int) else cv_lk P p n
def cv_B (n : Nat) (P : Nat → Nat) (A : Nat → Int) (a1 a2 : Nat → Int32) : Prop := n ≤ 40 ∧ ∀ i, i < n → P i < 120 ∧ -50 ≤ A i ∧ A i ≤ 50 ∧ a1 i = nI (P i) ∧ a2 i = cv_I (A i)
def cv_L (n : Nat) (P : Nat → Nat) (a3 a4 : Nat → Int32) : Prop := (∀ p, p < 120 → a3 p = cv_I (cv_lk P p n)) ∧ ∀ i, i < n → a4 i = cv_I (cv_lk P (P i) i)
def cv_M (n : Nat) (P : Nat → Nat) (A : Nat → Int) (a5 a6 a7 : Nat → Int32) : Prop := ∀ g, g < 8 → ¬ a5 g = 0 → ∀ q, q < 120 → a6 (120 * g + q) = cv_I (cv_K P cv_o n g q) ∧ a7 (120 * g + q) = cv_I (cv_K P A n g q)
def cv_Q (n : Nat) (P : Nat → Nat) (A : Nat → Int) (a1 a2 a3 a4 a5 a6 a7 : Nat → Int32) : Prop := cv_B n P A a1 a2 ∧ cv_L n P a3 a4 ∧ cv_M n P A a5 a6 a7
/-- an array that holds T, something added at a place -/
theorem cv_add {a : Nat → Int32} {T T' : Nat → Int} {N k : Nat} {v : Int} {x : Int32} (h : ∀ q, q < N → a q = cv_I (T q)) (hk : k < N) (hx : x = cv_I v) (hT : ∀ q, q < N → T' q = T q + (if k = q then v else 0)) : ∀ q, q < N → upd a k (a k + x) q = cv_I (T' q) := by
  intro q hq
  by_cases e : q = k
  · subst e
    rw [pk_us, h q hq, hx, cv_I_add, hT q hq, if_pos rfl]
  · rw [pk_un e, h q hq, hT q hq, if_neg (fun z => e z.symm), Int.add_zero]
theorem cv_addO {a : Nat → Int32} {T T' : Nat → Int} {N k o : Nat} {v : Int} {x : Int32} (h : ∀ q, q < N → a (o + q) = cv_I (T q)) (hk : k < N) (hx : x = cv_I v) (hT : ∀ q, q < N → T' q = T q + (if k = q then v else 0)) : ∀ q, q < N → upd a (o + k) (a (o + k) + x) (o + q) = cv_I (T' q) := by
  intro q hq
  by_cases e : q = k
  · subst e
    rw [pk_us, h q hq, hx, cv_I_add, hT q hq, if_pos rfl]
  · rw [pk_un (by omega), h q hq, hT q hq, if_neg (fun z => e z.symm), Int.add_zero]
end
section
/-! ===== the small methods ===== -/
theorem cv_and1 : ∀ d, d < 8 → (nI d &&& 1 = 0 ↔ d % 2 = 0) := by decide +kernel
theorem cv_and2 : ∀ d, d < 8 → (nI d &&& 2 = 0 ↔ d / 2 % 2 = 0) := by decide +kernel
theorem cv_and4 : ∀ d, d < 8 → (nI d &&& 4 = 0 ↔ d / 4 % 2 = 0) := by decide +kernel
theorem cv_and88 : ∀ i, i < 8 → ∀ d, d < 8 → (nI i &&& nI d = nI d ↔ i &&& d = d) := by decide +kernel
theorem cv_or88 : ∀ i, i < 8 → ∀ d, d < 8 → nI i ||| nI d = nI (i ||| d) := by decide +kernel
theorem cv_region {post : Int32 → Prop} {u : St1} {p : Nat} (hp : p < 120) (h : post (nI (p % 4))) : wpX_region post u (nI p) := by
  obtain ⟨c, a1, a2, a3, a4, a5, a6, a7, a8, a9⟩ := u
  have e : nI p - nI p / 4 * 4 = nI (p % 4) := pk_rem (d := 4) (by omega) (by decide) (by decide)
  exact ⟨by decide, ek_v (P := post) e h⟩
theorem cv_kind {post : Int32 → Prop} {u : St1} {p : Nat} (hp : p < 120) (h : post (nI (p / 4 % 5))) : wpX_kind post u (nI p) := by
  obtain ⟨c, a1, a2, a3, a4, a5, a6, a7, a8, a9⟩ := u
  have e1 : nI p / 4 = nI (p / 4) := pk_div (d := 4) (by omega) (by decide) (by decide)
  have e2 : nI (p / 4) - nI (p / 4) / 5 * 5 = nI (p / 4 % 5) := pk_rem (d := 5) (by omega) (by decide) (by decide)
  have e : nI p / 4 - nI p / 4 / 5 * 5 = nI (p / 4 % 5) := by rw [e1]; exact e2
  exact ⟨by decide, by decide, ek_v (P := post) e h⟩
theorem cv_month {post : Int32 → Prop} {u : St1} {p : Nat} (hp : p < 120) (h : post (nI (p / 20))) : wpX_month post u (nI p) := by
  obtain ⟨c, a1, a2, a3, a4, a5, a6, a7, a8, a9⟩ := u
  have e : nI p / 20 = nI (p / 20) := pk_div (d := 20) (by omega) (by decide) (by decide)
  exact ⟨by decide, ek_v (P := post) e h⟩
theorem cv_group {post : Int32 → Prop} {u : St1} {p g : Nat} (hp : p < 120) (hg : g < 8) (h : post (nI (cv_grp p g))) : wpX_group post u (nI p) (nI g) := by
  obtain ⟨c, a1, a2, a3, a4, a5, a6, a7, a8, a9⟩ := u
  have h48 : ∀ r k m : Nat, r + 4 * k + 20 * m = cv_grp p g → wX_group_48 post (nI r) (nI k) (nI m) c a1 a2 a3 a4 a5 a6 a7 a8 a9 := by
    intro r k m e
    have e' : (nI r + 4 * nI k) + 20 * nI m = nI (cv_grp p g) := by
      rw [← e, ← nI_add, ← nI_add, ← pk_mul, ← pk_mul]
      rfl
    exact ek_v (P := post) e' h
  have h31 : ∀ r k : Nat, r + 4 * k + 20 * (if g / 4 % 2 = 0 then 0 else p / 20) = cv_grp p g → wX_group_31 post (nI p) (nI g) (nI r) (nI k) c a1 a2 a3 a4 a5 a6 a7 a8 a9 := by
    intro r k e
    by_cases q : g / 4 % 2 = 0
    · rw [if_pos q] at e
      exact br_t ((cv_and4 g hg).mpr q) (h48 r k 0 e)
    · rw [if_neg q] at e
      exact br_f (fun z => q ((cv_and4 g hg).mp z)) (cv_month hp (h48 r k _ e))
  have h15 : ∀ r : Nat, r + 4 * (if g / 2 % 2 = 0 then 0 else p / 4 % 5) + 20 * (if g / 4 % 2 = 0 then 0 else p / 20) = cv_grp p g → wX_group_15 post (nI p) (nI g) (nI r) c a1 a2 a3 a4 a5 a6 a7 a8 a9 := by
    intro r e
    by_cases q : g / 2 % 2 = 0
    · rw [if_pos q] at e
      exact br_t ((cv_and2 g hg).mpr q) (h31 r 0 e)
    · rw [if_neg q] at e
      exact br_f (fun z => q ((cv_and2 g hg).mp z)) (cv_kind hp (h31 r _ e))
  have e : (if g % 2 = 0 then 0 else p % 4) + 4 * (if g / 2 % 2 = 0 then 0 else p / 4 % 5) + 20 * (if g / 4 % 2 = 0 then 0 else p / 20) = cv_grp p g := rfl
  by_cases q : g % 2 = 0
  · rw [if_pos q] at e
    exact br_t ((cv_and1 g hg).mpr q) (h15 0 e)
  · rw [if_neg q] at e
    exact br_f (fun z => q ((cv_and1 g hg).mp z)) (cv_region hp (h15 _ e))
/-! passes -/
def cv_b (b : Bool) : Int32 := if b = true then 1 else 0
theorem cv_sl : ∀ n, n < 32 → ((nI n &&& 31).toBitVec.smod 32).toNat = n := by decide +kernel
theorem cv_bitX {F j : Nat} {x : Int32} (hF : F ≤ 32767) (hj : j < 32) (hx : x = nI j) : ((nI F >>> (x &&& 31)) &&& 1) = 1 ↔ cv_bit F j = true := by
  subst hx
  have e : (nI F >>> (nI j &&& 31)) &&& 1 = nI (F / 2 ^ j % 2) := by
    rw [pk_shrN (by omega) _ j (cv_sl j hj)]
    exact pk_andN (Nat.lt_of_le_of_lt (Nat.div_le_self _ _) (by omega)) 1 (by decide)
  rw [e]
  have h2 : F / 2 ^ j % 2 < 2 := Nat.mod_lt _ (by decide)
  constructor
  · intro z
    exact decide_eq_true ((nI_eq (b := 1) (Nat.lt_trans h2 (by decide)) (by decide)).mp z)
  · intro z
    have t : F / 2 ^ j % 2 = 1 := of_decide_eq_true z
    rw [t]
    rfl
theorem cv_p81 {post : Int32 → Prop} {c : Int32} {a1 a2 a3 a4 a5 a6 a7 a8 a9 : Nat → Int32} (r k m : Bool) (h : post (cv_b (r && k && m))) : wX_passes_81 post (cv_b r) (cv_b k) (cv_b m) c a1 a2 a3 a4 a5 a6 a7 a8 a9 := by
  cases r
  · exact br_t rfl h
  · refine br_f (by decide) ?_
    cases k
    · exact br_t rfl h
    · refine br_f (by decide) ?_
      cases m
      · exact br_t rfl h
      · exact br_f (by decide) h
theorem cv_passes {post : Int32 → Prop} {u : St1} {p F d : Nat} (hp : p < 120) (hF : F ≤ 32767) (hd : d < 8) (h : post (cv_b (cv_pass p F d))) : wpX_passes post u (nI p) (nI F) (nI d) := by
  obtain ⟨c, a1, a2, a3, a4, a5, a6, a7, a8, a9⟩ := u
  unfold cv_pass at h
  have h52 : ∀ r k : Bool, post (cv_b (r && k && (decide (d / 4 % 2 = 0) || cv_bit F (9 + p / 20)))) → wX_passes_52 post (nI p) (nI F) (nI d) (cv_b r) (cv_b k) c a1 a2 a3 a4 a5 a6 a7 a8 a9 := by
    intro r k e
    by_cases q : d / 4 % 2 = 0
    · rw [decide_eq_true q, Bool.true_or] at e
      exact br_t ((cv_and4 d hd).mpr q) (cv_p81 r k true e)
    · rw [decide_eq_false q, Bool.false_or] at e
      refine br_f (fun z => q ((cv_and4 d hd).mp z)) (cv_month hp (ek_if (cv_bitX hF (by omega) (nI_add 9 _)) (fun z => ?_) (fun z => ?_)))
      · rw [z] at e
        exact cv_p81 r k true e
      · rw [Bool.eq_false_iff.mpr z] at e
        exact cv_p81 r k false e
  have h24 : ∀ r : Bool, post (cv_b (r && (decide (d / 2 % 2 = 0) || cv_bit F (4 + p / 4 % 5)) && (decide (d / 4 % 2 = 0) || cv_bit F (9 + p / 20)))) → wX_passes_24 post (nI p) (nI F) (nI d) (cv_b r) c a1 a2 a3 a4 a5 a6 a7 a8 a9 := by
    intro r e
    by_cases q : d / 2 % 2 = 0
    · rw [decide_eq_true q, Bool.true_or] at e
      exact br_t ((cv_and2 d hd).mpr q) (h52 r true e)
    · rw [decide_eq_false q, Bool.false_or] at e
      refine br_f (fun z => q ((cv_and2 d hd).mp z)) (cv_kind hp (ek_if (cv_bitX hF (by omega) (nI_add 4 _)) (fun z => ?_) (fun z => ?_)))
      · rw [z] at e
        exact h52 r true e
      · rw [Bool.eq_false_iff.mpr z] at e
        exact h52 r false e
  by_cases q : d % 2 = 0
  · rw [decide_eq_true q, Bool.true_or] at h
    exact br_t ((cv_and1 d hd).mpr q) (h24 true h)
  · rw [decide_eq_false q, Bool.false_or] at h
    refine br_f (fun z => q ((cv_and1 d hd).mp z)) (cv_region hp (ek_if (cv_bitX hF (by omega) rfl) (fun z => ?_) (fun z => ?_)))
    · rw [z] at h
      exact h24 true h
    · rw [Bool.eq_false_iff.mpr z] at h
      exact h24 false h
/-! cuts -/
theorem cv_cutE1 {F : Nat} (hF : F ≤ 32767) : nI F &&& 15 = 15 ↔ F % 16 = 15 := by
  have e : nI F &&& 15 = nI (F % 16) := pk_andN (m := 15) (by omega) 4 (by decide)
  rw [e]
  exact nI_eq (b := 15) (by omega) (by decide)
theorem cv_cutE2 {F : Nat} (hF : F ≤ 32767) : (nI F >>> ((4 : Int32) &&& 31)) &&& 31 = 31 ↔ F / 16 % 32 = 31 := by
  have e0 : nI F >>> ((4 : Int32) &&& 31) = nI (F / 16) := pk_shrN (by omega) _ 4 (by decide)
  have e : nI (F / 16) &&& 31 = nI (F / 16 % 32) := pk_andN (m := 31) (by omega) 5 (by decide)
  rw [e0, e]
  exact nI_eq (b := 31) (by omega) (by decide)
theorem cv_cutE3 {F : Nat} (hF : F ≤ 32767) : nI F >>> ((9 : Int32) &&& 31) = 63 ↔ F / 512 = 63 := by
  have e0 : nI F >>> ((9 : Int32) &&& 31) = nI (F / 512) := pk_shrN (by omega) _ 9 (by decide)
  rw [e0]
  exact nI_eq (b := 63) (by omega) (by decide)
theorem cv_cutsW {post : Int32 → Prop} {u : St1} {F : Nat} (hF : F ≤ 32767) (h : post (nI (cv_cuts F))) : wpX_cuts post u (nI F) := by
  obtain ⟨c, a1, a2, a3, a4, a5, a6, a7, a8, a9⟩ := u
  unfold cv_cuts at h
  have h33 : ∀ a : Nat, a < 4 → post (nI (a + (if F / 512 = 63 then 0 else 4))) → wX_cuts_33 post (nI F) (nI a) c a1 a2 a3 a4 a5 a6 a7 a8 a9 := by
    intro a ha e
    refine ek_if (cv_cutE3 hF) (fun q => ?_) (fun q => ?_)
    · rw [if_pos q] at e
      exact e
    · rw [if_neg q] at e
      have t : ∀ a, a < 4 → nI a ||| 4 = nI (a + 4) := by decide +kernel
      exact ek_v (P := post) (t a ha) e
  have h14 : ∀ a : Nat, a < 2 → post (nI (a + (if F / 16 % 32 = 31 then 0 else 2) + (if F / 512 = 63 then 0 else 4))) → wX_cuts_14 post (nI F) (nI a) c a1 a2 a3 a4 a5 a6 a7 a8 a9 := by
    intro a ha e
    refine ek_if (cv_cutE2 hF) (fun q => ?_) (fun q => ?_)
    · rw [if_pos q] at e
      exact h33 a (by omega) e
    · rw [if_neg q] at e
      have t : ∀ a, a < 2 → nI a ||| 2 = nI (a + 2) := by decide +kernel
      rw [t a ha]
      exact h33 (a + 2) (by omega) e
  refine ek_if (cv_cutE1 hF) (fun q => ?_) (fun q => ?_)
  · rw [if_pos q] at h
    exact h14 0 (by decide) h
  · rw [if_neg q] at h
    exact h14 1 (by decide) h
/-! cells: what it answers is of no weight -/
theorem cv_cells {post : Int32 → Prop} {u : St1} {x : Int32} (h : ∀ r, post r) : wpX_cells post u x := by
  obtain ⟨c, a1, a2, a3, a4, a5, a6, a7, a8, a9⟩ := u
  have h25 : ∀ z, wX_cells_25 post x z c a1 a2 a3 a4 a5 a6 a7 a8 a9 := fun z => br_c (fun _ => h _) (fun _ => h _)
  have h11 : ∀ z, wX_cells_11 post x z c a1 a2 a3 a4 a5 a6 a7 a8 a9 := fun z => br_c (fun _ => h25 _) (fun _ => h25 _)
  exact br_c (fun _ => h11 _) (fun _ => h11 _)
/-- the smallest kept grouping: none, or one that is kept and has it all -/
theorem cv_smallest {post : Int32 → Prop} {c : Int32} {a1 a2 a3 a4 a5 a6 a7 a8 a9 : Nat → Int32} {d : Nat} (hd : d < 8) (h1 : post (-1)) (h2 : ∀ g, g < 8 → ¬ a5 g = 0 → g &&& d = d → post (nI g)) : wpX_smallest post (c, a1, a2, a3, a4, a5, a6, a7, a8, a9) (nI d) := by
  refine pk_loop (fun m i s => wX_smallest_4 post (nI d) c a1 a2 a3 a4 a5 a6 a7 a8 a9 m s (nI i)) (fun _ s => s = -1 ∨ ∃ g, g < 8 ∧ s = nI g ∧ ¬ a5 g = 0 ∧ g &&& d = d) 8 0 (-1) (by omega) (Or.inl rfl) ?_ ?_
  · intro m s hs
    refine pk_le 8 8 (fun _ => ?_) (fun z => absurd z (by omega))
    rcases hs with rfl | ⟨g, hg, rfl, k1, k2⟩
    · exact h1
    · exact h2 g hg k1 k2
  · intro m i s hi hs hw
    have ecl : (nI i).toNatClampNeg = i := nI_clamp (by omega)
    refine pk_le 8 i (fun z => absurd z (by omega)) (fun _ => ⟨pk_in i 8 hi, ?_⟩)
    rw [ecl]
    refine br_c (fun _ => nm_r (nI_1 i) (hw s hs)) (fun hk => ?_)
    refine ek_if (cv_and88 i hi d hd) (fun z => ?_) (fun _ => nm_r (nI_1 i) (hw s hs))
    have hn := hw (nI i) (Or.inr ⟨i, hi, rfl, hk, z⟩)
    exact br_c (fun _ => nm_r (nI_1 i) hn) (fun _ => cv_cells (fun r9 => cv_cells (fun r10 => br_c (fun _ => nm_r (nI_1 i) (hw s hs)) (fun _ => nm_r (nI_1 i) hn))))
theorem cv_note {post : St1 → Prop} {c x y : Int32} {a1 a2 a3 a4 a5 a6 a7 a8 a9 : Nat → Int32} {k : Nat} (hk : k < 120) (h : post (c, a1, a2, a3, a4, a5, a6, a7, upd a8 k (a8 k + x), upd a9 k (a9 k + y))) : wpX_note post (c, a1, a2, a3, a4, a5, a6, a7, a8, a9) (nI k) x y := by
  refine ⟨pk_in k 120 hk, pk_in k 120 hk, fun b8 e8 => ⟨pk_in k 120 hk, pk_in k 120 hk, fun b9 e9 => ?_⟩⟩
  rw [nI_clamp (by omega)] at e8 e9
  subst e8 e9
  exact h
theorem cv_badFilter {post : Int32 → Prop} {u : St1} {F : Nat} (hF : F ≤ 32767) (h : post 0) : wpX_badFilter post u (nI F) := by
  obtain ⟨c, a1, a2, a3, a4, a5, a6, a7, a8, a9⟩ := u
  exact br_f (nI_pos (by omega)) (br_t (nI_le (b := 32767) hF (by decide)) h)
theorem cv_badGrouping {post : Int32 → Prop} {u : St1} {g : Nat} (hg : g < 8) (h : post 0) : wpX_badGrouping post u (nI g) := by
  obtain ⟨c, a1, a2, a3, a4, a5, a6, a7, a8, a9⟩ := u
  exact br_f (nI_pos (by omega)) (br_t (nI_lt (b := 8) hg (by decide)) h)
end
section
/-! ===== gather ===== -/
theorem cv_G_t {P : Nat → Nat} {A : Nat → Int} {i γ F : Nat} (hb : cv_pass (P i) F 7 = true) (q : Nat) : cv_G P A (i + 1) γ F q = cv_G P A i γ F q + (if cv_grp (P i) γ = q then A i else 0) := by
  unfold cv_G
  rw [cv_S_s]
  congr 1
  unfold cv_c
  rw [hb, Bool.true_and]
  by_cases e : cv_grp (P i) γ = q
  · rw [if_pos e, if_pos (decide_eq_true e)]
  · rw [if_neg e, if_neg (fun w => e (of_decide_eq_true w))]
theorem cv_G_f {P : Nat → Nat} {A : Nat → Int} {i γ F : Nat} (hb : cv_pass (P i) F 7 = false) (q : Nat) : cv_G P A (i + 1) γ F q = cv_G P A i γ F q := by
  unfold cv_G
  rw [cv_S_s]
  unfold cv_c
  rw [hb, Bool.false_and, if_neg Bool.false_ne_true, Int.add_zero]
/-- from the facts -/
theorem cv_g51 {post : St1 → Prop} {n γ F : Nat} {P : Nat → Nat} {A : Nat → Int} {a1 a2 a3 a4 a5 a6 a7 a8 a9 : Nat → Int32} (hB : cv_B n P A a1 a2) (hγ : γ < 8) (hF : F ≤ 32767) (h8 : ∀ q, q < 120 → a8 q = 0 ∧ a9 q = 0)
    (H : ∀ b8 b9, (∀ q, q < 120 → b8 q = cv_I (cv_G P cv_o n γ F q)) → (∀ q, q < 120 → b9 q = cv_I (cv_G P A n γ F q)) → post (nI n, a1, a2, a3, a4, a5, a6, a7, b8, b9)) :
    ∃ fu, wX_gather_51 post (nI γ) (nI F) fu 0 (nI n) a1 a2 a3 a4 a5 a6 a7 a8 a9 := by
  obtain ⟨hn, hB⟩ := hB
  refine pk_loop (fun m i s => wX_gather_51 post (nI γ) (nI F) m (nI i) (nI n) a1 a2 a3 a4 a5 a6 a7 s.1 s.2) (fun i s => (∀ q, q < 120 → s.1 q = cv_I (cv_G P cv_o i γ F q)) ∧ (∀ q, q < 120 → s.2 q = cv_I (cv_G P A i γ F q))) n 0 (a8, a9) (by omega) ⟨fun q hq => (h8 q hq).1, fun q hq => (h8 q hq).2⟩ ?_ ?_
  · rintro m ⟨b8, b9⟩ ⟨h1, h2⟩
    exact pk_le n n (fun _ => H b8 b9 h1 h2) (fun z => absurd z (by omega))
  · rintro m i ⟨b8, b9⟩ hi ⟨h1, h2⟩ hw
    dsimp only at h1 h2
    obtain ⟨hP, _, _, e1, e2⟩ := hB i hi
    have ecl : (nI i).toNatClampNeg = i := nI_clamp (by omega)
    show wX_gather_51 post (nI γ) (nI F) (m + 1) (nI i) (nI n) a1 a2 a3 a4 a5 a6 a7 b8 b9
    refine pk_le n i (fun z => absurd z (by omega)) (fun _ => ⟨pk_in i 40 (by omega), ?_⟩)
    rw [ecl, e1, e2]
    refine cv_passes (d := 7) hP hF (by decide) ?_
    cases hb : cv_pass (P i) F 7
    · exact br_t rfl (nm_r (nI_1 i) (hw (b8, b9) ⟨fun q hq => by rw [cv_G_f hb]; exact h1 q hq, fun q hq => by rw [cv_G_f hb]; exact h2 q hq⟩))
    · have hk := cv_grp_lt γ hP
      exact br_f (by decide) ⟨pk_in i 40 (by omega), cv_group hP hγ ⟨pk_in i 40 (by omega), cv_note hk (nm_r (nI_1 i) (hw (_, _) ⟨cv_add h1 hk (v := cv_o i) rfl (fun q _ => cv_G_t hb q), cv_add h2 hk (v := A i) rfl (fun q _ => cv_G_t hb q)⟩))⟩⟩
/-- from the cells of a kept grouping -/
theorem cv_g115 {post : St1 → Prop} {n γ F g : Nat} {P : Nat → Nat} {A : Nat → Int} {a1 a2 a3 a4 a5 a6 a7 a8 a9 : Nat → Int32} (hB : cv_B n P A a1 a2) (hM : cv_M n P A a5 a6 a7) (hγ : γ < 8) (hF : F ≤ 32767) (hg : g < 8) (h5 : ¬ a5 g = 0) (hd : g &&& (cv_cuts F ||| γ) = cv_cuts F ||| γ) (h8 : ∀ q, q < 120 → a8 q = 0 ∧ a9 q = 0)
    (H : ∀ b8 b9, (∀ q, q < 120 → b8 q = cv_I (cv_G P cv_o n γ F q)) → (∀ q, q < 120 → b9 q = cv_I (cv_G P A n γ F q)) → post (nI n, a1, a2, a3, a4, a5, a6, a7, b8, b9)) :
    ∃ fu, wX_gather_115 post (nI γ) (nI F) (nI (cv_cuts F ||| γ)) (nI g) fu 0 (nI n) a1 a2 a3 a4 a5 a6 a7 a8 a9 := by
  obtain ⟨hn, hB⟩ := hB
  have hdl := cv_need_lt _ (cv_cuts_lt F) γ hγ
  have hP : ∀ i, i < n → P i < 120 := fun i hi => (hB i hi).1
  refine pk_loop (fun m i s => wX_gather_115 post (nI γ) (nI F) (nI (cv_cuts F ||| γ)) (nI g) m (nI i) (nI n) a1 a2 a3 a4 a5 a6 a7 s.1 s.2)
    (fun i s => (∀ q, q < 120 → s.1 q = cv_I (cv_sm (fun p => if (cv_pass p F (cv_cuts F ||| γ) && decide (cv_grp p γ = q)) = true then cv_K P cv_o n g p else 0) i)) ∧ (∀ q, q < 120 → s.2 q = cv_I (cv_sm (fun p => if (cv_pass p F (cv_cuts F ||| γ) && decide (cv_grp p γ = q)) = true then cv_K P A n g p else 0) i))) 120 0 (a8, a9) (by omega) ⟨fun q hq => (h8 q hq).1, fun q hq => (h8 q hq).2⟩ ?_ ?_
  · rintro m ⟨b8, b9⟩ ⟨h1, h2⟩
    dsimp only at h1 h2
    refine pk_le 120 120 (fun _ => H b8 b9 (fun q hq => ?_) (fun q hq => ?_)) (fun z => absurd z (by omega))
    · rw [h1 q hq, cv_cells_sum hP hγ hg hd]
    · rw [h2 q hq, cv_cells_sum hP hγ hg hd]
  · rintro m i ⟨b8, b9⟩ hi ⟨h1, h2⟩ hw
    dsimp only at h1 h2
    obtain ⟨k6, k7⟩ := hM g hg h5 i hi
    have ea : 120 * nI g + nI i = nI (120 * g + i) := by
      rw [← nI_add, ← pk_mul]
      rfl
    have ecl : (nI (120 * g + i)).toNatClampNeg = 120 * g + i := nI_clamp (by omega)
    have b0 : 0 ≤ cv_K P cv_o n g i := cv_S_o_nonneg _ _ _
    have b1 : cv_K P cv_o n g i ≤ n := cv_S_o_le _ _ _
    show wX_gather_115 post (nI γ) (nI F) (nI (cv_cuts F ||| γ)) (nI g) (m + 1) (nI i) (nI n) a1 a2 a3 a4 a5 a6 a7 b8 b9
    refine pk_le 120 i (fun z => absurd z (by omega)) (fun _ => ⟨pk_in (120 * g + i) 960 (by omega) ea, ?_⟩)
    rw [ea, ecl, k6, k7]
    refine cv_le (cv_K P cv_o n g i) 0 (fun z => ?_) (fun z => ?_)
    · have z0 : cv_K P cv_o n g i = 0 := by omega
      have z1 : cv_K P A n g i = 0 := cv_S_none z
      refine nm_r (nI_1 i) (hw (b8, b9) ⟨fun q hq => ?_, fun q hq => ?_⟩)
      · show b8 q = _
        rw [h1 q hq, cv_sm_s, z0, ite_self, Int.add_zero]
      · show b9 q = _
        rw [h2 q hq, cv_sm_s, z1, ite_self, Int.add_zero]
    · refine cv_passes hi hF hdl ?_
      cases hb : cv_pass i F (cv_cuts F ||| γ)
      · refine br_t rfl (nm_r (nI_1 i) (hw (b8, b9) ⟨fun q hq => ?_, fun q hq => ?_⟩))
        · show b8 q = _
          rw [h1 q hq, cv_sm_s, hb, Bool.false_and, if_neg Bool.false_ne_true, Int.add_zero]
        · show b9 q = _
          rw [h2 q hq, cv_sm_s, hb, Bool.false_and, if_neg Bool.false_ne_true, Int.add_zero]
      · have hk := cv_grp_lt γ hi
        have st : ∀ (B : Nat → Int) (q : Nat), cv_sm (fun p => if (cv_pass p F (cv_cuts F ||| γ) && decide (cv_grp p γ = q)) = true then cv_K P B n g p else 0) (i + 1) = cv_sm (fun p => if (cv_pass p F (cv_cuts F ||| γ) && decide (cv_grp p γ = q)) = true then cv_K P B n g p else 0) i + (if cv_grp i γ = q then cv_K P B n g i else 0) := by
          intro B q
          rw [cv_sm_s, hb, Bool.true_and]
          congr 1
          by_cases e : cv_grp i γ = q
          · rw [if_pos e, if_pos (decide_eq_true e)]
          · rw [if_neg e, if_neg (fun w => e (of_decide_eq_true w))]
        exact br_f (by decide) (cv_group hi hγ ⟨pk_in (120 * g + i) 960 (by omega), pk_in (120 * g + i) 960 (by omega), cv_note hk (nm_r (nI_1 i) (hw (_, _) ⟨cv_add h1 hk (v := cv_K P cv_o n g i) rfl (fun q _ => st cv_o q), cv_add h2 hk (v := cv_K P A n g i) rfl (fun q _ => st A q)⟩))⟩)
theorem cv_gather {post : St1 → Prop} {n γ F : Nat} {P : Nat → Nat} {A : Nat → Int} {a1 a2 a3 a4 a5 a6 a7 a8 a9 : Nat → Int32} (hQ : cv_Q n P A a1 a2 a3 a4 a5 a6 a7) (hγ : γ < 8) (hF : F ≤ 32767)
    (H : ∀ b8 b9, (∀ q, q < 120 → b8 q = cv_I (cv_G P cv_o n γ F q)) → (∀ q, q < 120 → b9 q = cv_I (cv_G P A n γ F q)) → post (nI n, a1, a2, a3, a4, a5, a6, a7, b8, b9)) :
    wpX_gather post (nI n, a1, a2, a3, a4, a5, a6, a7, a8, a9) (nI γ) (nI F) := by
  obtain ⟨hB, hL, hM⟩ := hQ
  have hdl := cv_need_lt _ (cv_cuts_lt F) γ hγ
  refine pk_loop (fun m i s => wX_gather_2 post (nI γ) (nI F) (nI n) m (nI i) a1 a2 a3 a4 a5 a6 a7 s.1 s.2) (fun i s => ∀ q, q < i → s.1 q = 0 ∧ s.2 q = 0) 120 0 (a8, a9) (by omega) (fun q hq => absurd hq (by omega)) ?_ ?_
  · rintro m ⟨b8, b9⟩ h8
    refine pk_le 120 120 (fun _ => cv_cutsW hF (nm_r (cv_or88 _ (cv_cuts_lt F) γ hγ) (cv_smallest hdl ?_ (fun g hg h5 hd => ?_)))) (fun z => absurd z (by omega))
    · exact br_f (by decide) (cv_g51 hB hγ hF h8 H)
    · exact br_t (nI_pos' (by omega)) (cv_g115 hB hM hγ hF hg h5 hd h8 H)
  · rintro m i ⟨b8, b9⟩ hi h8 hw
    have ecl : (nI i).toNatClampNeg = i := nI_clamp (by omega)
    show wX_gather_2 post (nI γ) (nI F) (nI n) (m + 1) (nI i) a1 a2 a3 a4 a5 a6 a7 b8 b9
    refine pk_le 120 i (fun z => absurd z (by omega)) (fun _ => ⟨pk_in i 120 hi, fun c8 e8 => ⟨pk_in i 120 hi, fun c9 e9 => nm_r (nI_1 i) (hw (c8, c9) (fun q hq => ?_))⟩⟩)
    rw [ecl] at e8 e9
    subst e8 e9
    show upd b8 i 0 q = 0 ∧ upd b9 i 0 q = 0
    by_cases e : q = i
    · subst e
      exact ⟨pk_us, pk_us⟩
    · rw [pk_un e, pk_un e]
      exact h8 q (by omega)
/-! ===== questions ===== -/
theorem cv_count {post : Int32 → St1 → Prop} {n F : Nat} {P : Nat → Nat} {A : Nat → Int} {a1 a2 a3 a4 a5 a6 a7 a8 a9 : Nat → Int32} (hQ : cv_Q n P A a1 a2 a3 a4 a5 a6 a7) (hF : F ≤ 32767) (H : ∀ b8 b9, post (cv_I (cv_G P cv_o n 0 F 0)) (nI n, a1, a2, a3, a4, a5, a6, a7, b8, b9)) : wpX_count post (nI n, a1, a2, a3, a4, a5, a6, a7, a8, a9) (nI F) := by
  unfold wpX_count
  refine cv_badFilter hF (br_t rfl (cv_gather (γ := 0) hQ (by decide) hF (fun b8 b9 h8 h9 => ?_)))
  show post (b8 0) (nI n, a1, a2, a3, a4, a5, a6, a7, b8, b9)
  rw [h8 0 (by decide)]
  exact H b8 b9
theorem cv_sum {post : Int32 → St1 → Prop} {n F : Nat} {P : Nat → Nat} {A : Nat → Int} {a1 a2 a3 a4 a5 a6 a7 a8 a9 : Nat → Int32} (hQ : cv_Q n P A a1 a2 a3 a4 a5 a6 a7) (hF : F ≤ 32767) (H : ∀ b8 b9, post (cv_I (cv_G P A n 0 F 0)) (nI n, a1, a2, a3, a4, a5, a6, a7, b8, b9)) : wpX_sum post (nI n, a1, a2, a3, a4, a5, a6, a7, a8, a9) (nI F) := by
  unfold wpX_sum
  refine cv_badFilter hF (br_t rfl (cv_gather (γ := 0) hQ (by decide) hF (fun b8 b9 h8 h9 => ?_)))
  show post (b9 0) (nI n, a1, a2, a3, a4, a5, a6, a7, b8, b9)
  rw [h9 0 (by decide)]
  exact H b8 b9
/-- how many groups have a fact -/
def cv_Gn (P : Nat → Nat) (n γ F : Nat) : Nat → Int := cv_sm (fun q => if 0 < cv_G P cv_o n γ F q then 1 else 0)
theorem cv_C_in {P : Nat → Nat} {n γ F : Nat} (q : Nat) (hn : n ≤ 40) : 0 ≤ cv_G P cv_o n γ F q ∧ cv_G P cv_o n γ F q ≤ 40 := by
  have b0 : 0 ≤ cv_G P cv_o n γ F q := cv_S_o_nonneg _ _ _
  have b1 : cv_G P cv_o n γ F q ≤ n := cv_S_o_le _ _ _
  omega
theorem cv_groups {post : Int32 → St1 → Prop} {n γ F : Nat} {P : Nat → Nat} {A : Nat → Int} {a1 a2 a3 a4 a5 a6 a7 a8 a9 : Nat → Int32} (hQ : cv_Q n P A a1 a2 a3 a4 a5 a6 a7) (hγ : γ < 8) (hF : F ≤ 32767) (H : ∀ b8 b9, post (cv_I (cv_Gn P n γ F 120)) (nI n, a1, a2, a3, a4, a5, a6, a7, b8, b9)) : wpX_groups post (nI n, a1, a2, a3, a4, a5, a6, a7, a8, a9) (nI γ) (nI F) := by
  have hn := hQ.1.1
  unfold wpX_groups
  refine cv_badGrouping hγ (br_t rfl (cv_badFilter hF (br_t rfl (cv_gather hQ hγ hF (fun b8 b9 h8 h9 => ?_)))))
  refine pk_loop (σ := Unit) (fun m i _ => wX_groups_30 post (nI n) a1 a2 a3 a4 a5 a6 a7 b8 b9 m (cv_I (cv_Gn P n γ F i)) (nI i)) (fun _ _ => True) 120 0 () (by omega) trivial ?_ ?_
  · intro m _ _
    exact pk_le 120 120 (fun _ => H b8 b9) (fun z => absurd z (by omega))
  · intro m i _ hi _ hw
    have ecl : (nI i).toNatClampNeg = i := nI_clamp (by omega)
    have hc := cv_C_in (P := P) (γ := γ) (F := F) i hn
    have hw := hw () trivial
    have st : cv_Gn P n γ F (i + 1) = cv_Gn P n γ F i + (if 0 < cv_G P cv_o n γ F i then 1 else 0) := rfl
    refine pk_le 120 i (fun z => absurd z (by omega)) (fun _ => ⟨pk_in i 120 hi, ?_⟩)
    rw [ecl, h8 i hi]
    refine cv_le (cv_G P cv_o n γ F i) 0 (fun z => nm_r (nI_1 i) ?_) (fun z => nm_r (cv_I_add _ 1) (nm_r (nI_1 i) ?_))
    · rw [if_neg (by omega), Int.add_zero] at st
      rw [st] at hw
      exact hw
    · rw [if_pos z] at st
      rw [st] at hw
      exact hw
/-- how many groups have a fact and a sum of at least x -/
def cv_AL (P : Nat → Nat) (A : Nat → Int) (n γ : Nat) (x : Int) : Nat → Int := cv_sm (fun q => if 0 < cv_G P cv_o n γ 32767 q ∧ x ≤ cv_G P A n γ 32767 q then 1 else 0)
theorem cv_G_in {P : Nat → Nat} {A : Nat → Int} {n γ F : Nat} {a1 a2 : Nat → Int32} (hB : cv_B n P A a1 a2) (q : Nat) : cv_G P A n γ F q ≤ 50 * cv_G P cv_o n γ F q ∧ (-50) * cv_G P cv_o n γ F q ≤ cv_G P A n γ F q :=
  ⟨cv_S_up (fun i hi _ => (hB.2 i hi).2.2.1), cv_S_dn (fun i hi _ => (hB.2 i hi).2.1)⟩
theorem cv_G_in2 {P : Nat → Nat} {A : Nat → Int} {n γ F : Nat} {a1 a2 : Nat → Int32} (hB : cv_B n P A a1 a2) (q : Nat) : -2000 ≤ cv_G P A n γ F q ∧ cv_G P A n γ F q ≤ 2000 := by
  have h1 := cv_G_in (γ := γ) (F := F) hB q
  have h2 := cv_C_in (P := P) (γ := γ) (F := F) q hB.1
  omega
theorem cv_atLeast {post : Int32 → St1 → Prop} {n γ : Nat} {x : Int} {P : Nat → Nat} {A : Nat → Int} {a1 a2 a3 a4 a5 a6 a7 a8 a9 : Nat → Int32} (hQ : cv_Q n P A a1 a2 a3 a4 a5 a6 a7) (hγ : γ < 8) (hx : -2147483648 ≤ x ∧ x < 2147483648) (H : ∀ b8 b9, post (cv_I (cv_AL P A n γ x 120)) (nI n, a1, a2, a3, a4, a5, a6, a7, b8, b9)) : wpX_atLeast post (nI n, a1, a2, a3, a4, a5, a6, a7, a8, a9) (nI γ) (cv_I x) := by
  have hn := hQ.1.1
  unfold wpX_atLeast
  refine cv_badGrouping hγ (br_t rfl (cv_gather (F := 32767) hQ hγ (by decide) (fun b8 b9 h8 h9 => ?_)))
  refine pk_loop (σ := Unit) (fun m i _ => wX_atLeast_24 post (cv_I x) (nI n) a1 a2 a3 a4 a5 a6 a7 b8 b9 m (cv_I (cv_AL P A n γ x i)) (nI i)) (fun _ _ => True) 120 0 () (by omega) trivial ?_ ?_
  · intro m _ _
    exact pk_le 120 120 (fun _ => H b8 b9) (fun z => absurd z (by omega))
  · intro m i _ hi _ hw
    have ecl : (nI i).toNatClampNeg = i := nI_clamp (by omega)
    have hc := cv_C_in (P := P) (γ := γ) (F := 32767) i hn
    have hs := cv_G_in2 (γ := γ) (F := 32767) hQ.1 i
    have hw := hw () trivial
    have st : cv_AL P A n γ x (i + 1) = cv_AL P A n γ x i + (if 0 < cv_G P cv_o n γ 32767 i ∧ x ≤ cv_G P A n γ 32767 i then 1 else 0) := rfl
    refine pk_le 120 i (fun z => absurd z (by omega)) (fun _ => ⟨pk_in i 120 hi, ?_⟩)
    rw [ecl, h8 i hi, h9 i hi]
    refine cv_le (cv_G P cv_o n γ 32767 i) 0 (fun z => nm_r (nI_1 i) ?_) (fun z => ⟨pk_in i 120 hi, cv_lt (cv_G P A n γ 32767 i) x (fun y => nm_r (nI_1 i) ?_) (fun y => nm_r (cv_I_add _ 1) (nm_r (nI_1 i) ?_)) rfl rfl (by omega) hx⟩)
    · rw [if_neg (by omega), Int.add_zero] at st
      rw [st] at hw
      exact hw
    · rw [if_neg (by omega), Int.add_zero] at st
      rw [st] at hw
      exact hw
    · rw [if_pos ⟨z, y⟩] at st
      rw [st] at hw
      exact hw
/-- the first group with the greatest sum -/
def cv_isTop (P : Nat → Nat) (A : Nat → Int) (n γ F b : Nat) : Prop := b < 120 ∧ 0 < cv_G P cv_o n γ F b ∧ ∀ q, q < 120 → 0 < cv_G P cv_o n γ F q → cv_G P A n γ F q ≤ cv_G P A n γ F b
theorem cv_top {post : Int32 → St1 → Prop} {n γ F : Nat} {P : Nat → Nat} {A : Nat → Int} {a1 a2 a3 a4 a5 a6 a7 a8 a9 : Nat → Int32} (hQ : cv_Q n P A a1 a2 a3 a4 a5 a6 a7) (hγ : γ < 8) (hF : F ≤ 32767)
    (H0 : (∀ q, q < 120 → cv_G P cv_o n γ F q ≤ 0) → ∀ b8 b9, post (-1) (nI n, a1, a2, a3, a4, a5, a6, a7, b8, b9))
    (H1 : ∀ b, cv_isTop P A n γ F b → ∀ b8 b9, b9 b = cv_I (cv_G P A n γ F b) → post (nI b) (nI n, a1, a2, a3, a4, a5, a6, a7, b8, b9)) : wpX_top post (nI n, a1, a2, a3, a4, a5, a6, a7, a8, a9) (nI γ) (nI F) := by
  have hn := hQ.1.1
  unfold wpX_top
  refine cv_gather hQ hγ hF (fun b8 b9 h8 h9 => ?_)
  refine pk_loop (fun m i s => wX_top_11 post (nI n) a1 a2 a3 a4 a5 a6 a7 b8 b9 m s (nI i)) (fun i s => (s = -1 ∧ ∀ q, q < i → cv_G P cv_o n γ F q ≤ 0) ∨ ∃ b, s = nI b ∧ b < 120 ∧ 0 < cv_G P cv_o n γ F b ∧ ∀ q, q < i → 0 < cv_G P cv_o n γ F q → cv_G P A n γ F q ≤ cv_G P A n γ F b) 120 0 (-1) (by omega) (Or.inl ⟨rfl, fun q hq => absurd hq (by omega)⟩) ?_ ?_
  · intro m s hs
    refine pk_le 120 120 (fun _ => ?_) (fun z => absurd z (by omega))
    rcases hs with ⟨rfl, h⟩ | ⟨b, rfl, h⟩
    · exact H0 h b8 b9
    · exact H1 b h b8 b9 (h9 b h.1)
  · intro m i s hi hs hw
    have ecl : (nI i).toNatClampNeg = i := nI_clamp (by omega)
    have hc := cv_C_in (P := P) (γ := γ) (F := F) i hn
    have hsi := cv_G_in2 (γ := γ) (F := F) hQ.1 i
    refine pk_le 120 i (fun z => absurd z (by omega)) (fun _ => ⟨pk_in i 120 hi, ?_⟩)
    rw [ecl, h8 i hi, h9 i hi]
    rcases hs with ⟨rfl, h⟩ | ⟨b, rfl, hb, h1, h2⟩
    · refine cv_le (cv_G P cv_o n γ F i) 0 (fun z => nm_r (nI_1 i) (hw _ (Or.inl ⟨rfl, fun q hq => ?_⟩))) (fun z => br_t (by decide) (nm_r (nI_1 i) (hw _ (Or.inr ⟨i, rfl, hi, z, fun q hq hz => ?_⟩))))
      · by_cases e : q = i
        · rw [e]; exact z
        · exact h q (by omega)
      · by_cases e : q = i
        · rw [e]; exact Int.le_refl _
        · exact absurd (h q (by omega)) (by omega)
    · have hsb := cv_G_in2 (γ := γ) (F := F) hQ.1 b
      have ecb : (nI b).toNatClampNeg = b := nI_clamp (by omega)
      rw [ecb, h9 b hb]
      refine cv_le (cv_G P cv_o n γ F i) 0 (fun z => nm_r (nI_1 i) (hw _ (Or.inr ⟨b, rfl, hb, h1, fun q hq hz => ?_⟩))) (fun z => br_f (nI_pos (by omega)) ⟨pk_in i 120 hi, pk_in b 120 hb, cv_le (cv_G P A n γ F i) (cv_G P A n γ F b) (fun y => nm_r (nI_1 i) (hw _ (Or.inr ⟨b, rfl, hb, h1, fun q hq hz => ?_⟩))) (fun y => nm_r (nI_1 i) (hw _ (Or.inr ⟨i, rfl, hi, z, fun q hq hz => ?_⟩)))⟩)
      · by_cases e : q = i
        · rw [e] at hz; exact absurd hz (by omega)
        · exact h2 q (by omega) hz
      · by_cases e : q = i
        · rw [e]; exact y
        · exact h2 q (by omega) hz
      · by_cases e : q = i
        · rw [e]; exact Int.le_refl _
        · exact Int.le_trans (h2 q (by omega) hz) (by omega)
theorem cv_topSum {post : Int32 → St1 → Prop} {n γ F : Nat} {P : Nat → Nat} {A : Nat → Int} {a1 a2 a3 a4 a5 a6 a7 a8 a9 : Nat → Int32} (hQ : cv_Q n P A a1 a2 a3 a4 a5 a6 a7) (hγ : γ < 8) (hF : F ≤ 32767)
    (H0 : (∀ q, q < 120 → cv_G P cv_o n γ F q ≤ 0) → ∀ b8 b9, post (-4000000) (nI n, a1, a2, a3, a4, a5, a6, a7, b8, b9))
    (H1 : ∀ b, cv_isTop P A n γ F b → ∀ b8 b9, post (cv_I (cv_G P A n γ F b)) (nI n, a1, a2, a3, a4, a5, a6, a7, b8, b9)) : wpX_topSum post (nI n, a1, a2, a3, a4, a5, a6, a7, a8, a9) (nI γ) (nI F) := by
  unfold wpX_topSum
  refine cv_badGrouping hγ (br_t rfl (cv_badFilter hF (br_t rfl (cv_top hQ hγ hF (fun h b8 b9 => br_f (by decide) (H0 h b8 b9)) (fun b hb b8 b9 e => ?_)))))
  have hb1 := hb.1
  refine br_t (nI_pos' (by omega)) ⟨pk_in b 120 hb1, ?_⟩
  rw [nI_clamp (by omega), e]
  exact H1 b hb b8 b9
theorem cv_topGroup {post : Int32 → St1 → Prop} {n γ F : Nat} {P : Nat → Nat} {A : Nat → Int} {a1 a2 a3 a4 a5 a6 a7 a8 a9 : Nat → Int32} (hQ : cv_Q n P A a1 a2 a3 a4 a5 a6 a7) (hγ : γ < 8) (hF : F ≤ 32767)
    (H0 : (∀ q, q < 120 → cv_G P cv_o n γ F q ≤ 0) → ∀ b8 b9, post (-4000000) (nI n, a1, a2, a3, a4, a5, a6, a7, b8, b9))
    (H1 : ∀ b, cv_isTop P A n γ F b → ∀ b8 b9, post (nI b) (nI n, a1, a2, a3, a4, a5, a6, a7, b8, b9)) : wpX_topGroup post (nI n, a1, a2, a3, a4, a5, a6, a7, a8, a9) (nI γ) (nI F) := by
  unfold wpX_topGroup
  refine cv_badGrouping hγ (br_t rfl (cv_badFilter hF (br_t rfl (cv_top hQ hγ hF (fun h b8 b9 => br_f (by decide) (H0 h b8 b9)) (fun b hb b8 b9 e => ?_)))))
  have hb1 := hb.1
  exact br_t (nI_pos' (by omega)) (H1 b hb b8 b9)
theorem cv_growth {post : Int32 → St1 → Prop} {n m : Nat} {P : Nat → Nat} {A : Nat → Int} {a1 a2 a3 a4 a5 a6 a7 a8 a9 : Nat → Int32} (hQ : cv_Q n P A a1 a2 a3 a4 a5 a6 a7) (h1 : 1 ≤ m) (h6 : m < 6)
    (H : ∀ b8 b9, post (cv_I (cv_G P A n 4 32767 (20 * m) - cv_G P A n 4 32767 (20 * (m - 1)))) (nI n, a1, a2, a3, a4, a5, a6, a7, b8, b9)) : wpX_growth post (nI n, a1, a2, a3, a4, a5, a6, a7, a8, a9) (nI m) := by
  have e1 : 20 * nI m = nI (20 * m) := pk_mul 20 m
  have e2 : 20 * nI m - 20 = nI (20 * (m - 1)) := by
    rw [e1]
    have t : nI (20 * m) - nI 20 = nI (20 * m - 20) := pk_sub (by omega)
    rw [show 20 * (m - 1) = 20 * m - 20 by omega, ← t]
    rfl
  refine br_f (nI_nlt (b := 1) h1 (by omega)) (br_t (nI_lt (b := 6) h6 (by decide)) (cv_gather (γ := 4) (F := 32767) hQ (by decide) (by decide) (fun b8 b9 h8 h9 => ⟨pk_in (20 * m) 120 (by omega) e1, pk_in (20 * (m - 1)) 120 (by omega) e2, ?_⟩)))
  rw [e2, e1, nI_clamp (by omega), nI_clamp (by omega), h9 _ (by omega), h9 _ (by omega), cv_I_sub]
  exact H b8 b9
end
section
/-! ===== what changes the facts or the summaries ===== -/
def cv_u {α : Type} (f : Nat → α) (k : Nat) (x : α) : Nat → α := fun j => if j = k then x else f j
theorem cv_us {α : Type} {f : Nat → α} {k : Nat} {x : α} : cv_u f k x k = x := if_pos rfl
theorem cv_un {α : Type} {f : Nat → α} {k j : Nat} {x : α} (h : j ≠ k) : cv_u f k x j = f j := if_neg h
theorem cv_lk_congr {P P' : Nat → Nat} {q n : Nat} (h : ∀ i, i < n → P' i = P i) : cv_lk P' q n = cv_lk P q n := by
  induction n with
  | zero => rfl
  | succ n ih =>
    show (if P' n = q then (n : Int) else cv_lk P' q n) = (if P n = q then (n : Int) else cv_lk P q n)
    rw [h n (by omega), ih (fun i hi => h i (by omega))]
theorem cv_K_s {P P' : Nat → Nat} {A A' : Nat → Int} {n : Nat} (hP : ∀ i, i < n → P' i = P i) (hA : ∀ i, i < n → A' i = A i) (g q : Nat) : cv_K P' A' (n + 1) g q = cv_K P A n g q + (if cv_grp (P' n) g = q then A' n else 0) := by
  have e : cv_K P' A' n g q = cv_K P A n g q := cv_S_congr (fun i hi => by rw [hP i hi]) hA
  rw [← e]
  show cv_S P' A' (fun p => decide (cv_grp p g = q)) (n + 1) = cv_S P' A' (fun p => decide (cv_grp p g = q)) n + _
  rw [cv_S_s]
  congr 1
  by_cases z : cv_grp (P' n) g = q
  · rw [if_pos z, if_pos (decide_eq_true z)]
  · rw [if_neg z, if_neg (fun w => z (of_decide_eq_true w))]
theorem cv_init {post : St1 → Prop} (H : ∀ b3 : Nat → Int32, cv_Q 0 (fun _ => 0) (fun _ => 0) (fun _ => 0) (fun _ => 0) b3 (fun _ => 0) (fun _ => 0) (fun _ => 0) (fun _ => 0) → post (nI 0, (fun _ => 0), (fun _ => 0), b3, (fun _ => 0), (fun _ => 0), (fun _ => 0), (fun _ => 0), (fun _ => 0), (fun _ => 0))) : wpX_init post 9 2408 0 := by
  refine ⟨by decide, by decide, by decide, by decide, by decide, by decide, by decide, by decide, by decide, by decide, by decide, by decide, by decide, by decide, by decide, by decide, by decide, by decide, ?_⟩
  refine pk_loop (fun m i s => wX_init_80 post 9 2408 9 2408 0 m (nI i) (fun _ => 0) (fun _ => 0) s (fun _ => 0) (fun _ => 0) (fun _ => 0) (fun _ => 0) (fun _ => 0) (fun _ => 0)) (fun i s => ∀ q, q < i → s q = -1) 120 0 (fun _ => 0) (by omega) (fun q hq => absurd hq (by omega)) ?_ ?_
  · intro m b3 h
    refine pk_le 120 120 (fun _ => H b3 ⟨⟨by omega, fun i hi => absurd hi (by omega)⟩, ⟨fun p hp => h p hp, fun i hi => absurd hi (by omega)⟩, fun g _ h5 => absurd rfl h5⟩) (fun z => absurd z (by omega))
  · intro m i b3 hi h hw
    have ecl : (nI i).toNatClampNeg = i := nI_clamp (by omega)
    refine pk_le 120 i (fun z => absurd z (by omega)) (fun _ => ⟨pk_in i 120 hi, fun c3 e3 => nm_r (nI_1 i) (hw c3 (fun q hq => ?_))⟩)
    rw [ecl] at e3
    subst e3
    by_cases e : q = i
    · subst e
      exact pk_us
    · rw [pk_un e]
      exact h q (by omega)
theorem cv_enter {post : St1 → Prop} {c : Int32} {a1 a2 a3 a4 a5 a6 a7 a8 a9 : Nat → Int32} {p : Nat} {m v : Int} {X X' Y Y' : Nat → Nat → Int} (hp : p < 120)
    (hK : ∀ g, g < 8 → ¬ a5 g = 0 → ∀ q, q < 120 → a6 (120 * g + q) = cv_I (X g q) ∧ a7 (120 * g + q) = cv_I (Y g q))
    (hX : ∀ g q, X' g q = X g q + (if cv_grp p g = q then m else 0)) (hY : ∀ g q, Y' g q = Y g q + (if cv_grp p g = q then v else 0))
    (H : ∀ b6 b7, (∀ g, g < 8 → ¬ a5 g = 0 → ∀ q, q < 120 → b6 (120 * g + q) = cv_I (X' g q) ∧ b7 (120 * g + q) = cv_I (Y' g q)) → post (c, a1, a2, a3, a4, a5, b6, b7, a8, a9)) :
    wpX_enter post (c, a1, a2, a3, a4, a5, a6, a7, a8, a9) (nI p) (cv_I m) (cv_I v) := by
  refine pk_loop (fun k i s => wX_enter_3 post (nI p) (cv_I m) (cv_I v) c k (nI i) a1 a2 a3 a4 a5 s.1 s.2 a8 a9) (fun i s => ∀ g, g < 8 → ¬ a5 g = 0 → ∀ q, q < 120 → s.1 (120 * g + q) = cv_I (if g < i then X' g q else X g q) ∧ s.2 (120 * g + q) = cv_I (if g < i then Y' g q else Y g q)) 8 0 (a6, a7) (by omega) (fun g hg h5 q hq => by rw [if_neg (by omega), if_neg (by omega)]; exact hK g hg h5 q hq) ?_ ?_
  · rintro k ⟨b6, b7⟩ h
    refine pk_le 8 8 (fun _ => H b6 b7 (fun g hg h5 q hq => ?_)) (fun z => absurd z (by omega))
    have t := h g hg h5 q hq
    rw [if_pos hg, if_pos hg] at t
    exact t
  · rintro k i ⟨b6, b7⟩ hi h hw
    have ecl : (nI i).toNatClampNeg = i := nI_clamp (by omega)
    show wX_enter_3 post (nI p) (cv_I m) (cv_I v) c (k + 1) (nI i) a1 a2 a3 a4 a5 b6 b7 a8 a9
    refine pk_le 8 i (fun z => absurd z (by omega)) (fun _ => ⟨pk_in i 8 hi, ?_⟩)
    rw [ecl]
    refine br_c (fun z => nm_r (nI_1 i) (hw (b6, b7) (fun g hg h5 q hq => ?_))) (fun z => ?_)
    · have hne : g ≠ i := fun e => h5 (by rw [e]; exact z)
      have t := h g hg h5 q hq
      by_cases e : g < i
      · rw [if_pos e, if_pos e] at t
        rw [if_pos (by omega), if_pos (by omega)]
        exact t
      · rw [if_neg e, if_neg e] at t
        rw [if_neg (by omega), if_neg (by omega)]
        exact t
    · have hk := cv_grp_lt i hp
      have ea : 120 * nI i + nI (cv_grp p i) = nI (120 * i + cv_grp p i) := by
        rw [← nI_add, ← pk_mul]
        rfl
      have eca : (nI (120 * i + cv_grp p i)).toNatClampNeg = 120 * i + cv_grp p i := nI_clamp (by omega)
      have hin : vp_in (nI (120 * i + cv_grp p i)) 960 := pk_in (120 * i + cv_grp p i) 960 (by omega)
      refine cv_group hp hi (nm_r ea ⟨hin, hin, fun c6 e6 => ⟨hin, hin, fun c7 e7 => nm_r (nI_1 i) (hw (c6, c7) (fun g hg h5 q hq => ?_))⟩⟩)
      rw [eca] at e6 e7
      subst e6 e7
      show upd b6 _ _ (120 * g + q) = _ ∧ upd b7 _ _ (120 * g + q) = _
      by_cases e : g = i
      · subst e
        rw [if_pos (by omega), if_pos (by omega)]
        have t6 : ∀ q, q < 120 → b6 (120 * g + q) = cv_I (X g q) := fun q hq => by
          have t := (h g hg h5 q hq).1
          rw [if_neg (by omega)] at t
          exact t
        have t7 : ∀ q, q < 120 → b7 (120 * g + q) = cv_I (Y g q) := fun q hq => by
          have t := (h g hg h5 q hq).2
          rw [if_neg (by omega)] at t
          exact t
        exact ⟨cv_addO (T' := X' g) t6 hk rfl (fun q _ => hX g q) q hq, cv_addO (T' := Y' g) t7 hk rfl (fun q _ => hY g q) q hq⟩
      · rw [pk_un (by omega), pk_un (by omega)]
        have t := h g hg h5 q hq
        by_cases e' : g < i
        · rw [if_pos e', if_pos e'] at t
          rw [if_pos (by omega), if_pos (by omega)]
          exact t
        · rw [if_neg e', if_neg e'] at t
          rw [if_neg (by omega), if_neg (by omega)]
          exact t
/-- an amount in range -/
theorem cv_amt {y : Int32} (h0 : ¬ y < -50) (h1 : y ≤ 50) : ∃ v : Int, y = cv_I v ∧ -50 ≤ v ∧ v ≤ 50 := by
  refine ⟨y.toInt, cv_I_of y, ?_, ?_⟩
  · have e : (-50 : Int32).toInt = -50 := by decide
    have t : ¬ y.toInt < -50 := fun z => h0 (Int32.lt_iff_toInt_lt.mpr (by rw [e]; exact z))
    omega
  · have e : (50 : Int32).toInt = 50 := by decide
    have t := Int32.le_iff_toInt_le.mp h1
    rw [e] at t
    exact t
theorem cv_below {x : Int32} {N : Nat} (hN : N < 2 ^ 31) (h0 : ¬ x < 0) (h1 : ¬ nI N ≤ x) : ∃ j, j < N ∧ x = nI j := by
  obtain ⟨j, hj, rfl⟩ := nI_of h0
  refine ⟨j, ?_, rfl⟩
  rcases Nat.lt_or_ge j N with z | z
  · exact z
  · exact absurd (nI_le z hj) h1
theorem cv_addW {post : Int32 → St1 → Prop} {n : Nat} {P : Nat → Nat} {A : Nat → Int} {a1 a2 a3 a4 a5 a6 a7 a8 a9 : Nat → Int32} {x y : Int32} (hQ : cv_Q n P A a1 a2 a3 a4 a5 a6 a7)
    (H0 : ∀ r, r ≤ -1000000 → post r (nI n, a1, a2, a3, a4, a5, a6, a7, a8, a9))
    (H1 : ∀ (p : Nat) (v : Int) (b1 b2 b3 b4 b6 b7 : Nat → Int32), y = cv_I v → p < 120 → n < 40 → cv_Q (n + 1) (cv_u P n p) (cv_u A n v) b1 b2 b3 b4 a5 b6 b7 → post (nI n) (nI (n + 1), b1, b2, b3, b4, a5, b6, b7, a8, a9)) :
    wpX_add post (nI n, a1, a2, a3, a4, a5, a6, a7, a8, a9) x y := by
  obtain ⟨⟨hn, hB⟩, ⟨hL1, hL2⟩, hM⟩ := hQ
  refine br_c (fun _ => H0 _ (by decide)) (fun hx0 => br_c (fun _ => H0 _ (by decide)) (fun hx1 => br_c (fun _ => H0 _ (by decide)) (fun hy0 => br_c (fun hy1 => br_c (fun _ => H0 _ (by decide)) (fun hc => ?_)) (fun _ => H0 _ (by decide)))))
  obtain ⟨p, hp, rfl⟩ := cv_below (N := 120) (by decide) hx0 hx1
  obtain ⟨v, rfl, hv0, hv1⟩ := cv_amt hy0 hy1
  have hn4 : n < 40 := by
    rcases Nat.lt_or_ge n 40 with z | z
    · exact z
    · have e : n = 40 := by omega
      subst e
      exact absurd rfl hc
  refine ⟨pk_in n 40 hn4, fun b1 e1 => ⟨pk_in n 40 hn4, fun b2 e2 => ⟨pk_in p 120 hp, pk_in n 40 hn4, fun b4 e4 => ⟨pk_in p 120 hp, fun b3 e3 => nm_r (nI_1 n) ?_⟩⟩⟩⟩
  rw [nI_clamp (n := n) (by omega)] at e1 e2 e4
  rw [nI_clamp (n := p) (by omega)] at e3 e4
  subst e1 e2 e3 e4
  have hPn : ∀ i, i < n → cv_u P n p i = P i := fun i hi => cv_un (by omega)
  have hAn : ∀ i, i < n → cv_u A n v i = A i := fun i hi => cv_un (by omega)
  refine cv_enter (m := 1) (v := v) (X := fun g q => cv_K P cv_o n g q) (Y := fun g q => cv_K P A n g q) (X' := fun g q => cv_K (cv_u P n p) cv_o (n + 1) g q) (Y' := fun g q => cv_K (cv_u P n p) (cv_u A n v) (n + 1) g q) hp hM ?_ ?_ (fun b6 b7 hM' => ?_)
  · intro g q
    have t := cv_K_s (A := cv_o) (A' := cv_o) hPn (fun _ _ => rfl) g q
    rw [cv_us] at t
    exact t
  · intro g q
    have t := cv_K_s hPn hAn g q
    rw [cv_us, cv_us] at t
    exact t
  · show post (nI (n + 1) - 1) (nI (n + 1), upd a1 n (nI p), upd a2 n (cv_I v), upd a3 p (nI n), upd a4 n (a3 p), a5, b6, b7, a8, a9)
    rw [nI_pred]
    refine H1 p v _ _ _ _ _ _ rfl hp hn4 ⟨⟨by omega, fun i hi => ?_⟩, ⟨fun q hq => ?_, fun i hi => ?_⟩, hM'⟩
    · by_cases e : i = n
      · subst e
        rw [cv_us, cv_us, pk_us, pk_us]
        exact ⟨hp, hv0, hv1, rfl, rfl⟩
      · rw [cv_un e, cv_un e, pk_un e, pk_un e]
        exact hB i (by omega)
    · show upd a3 p (nI n) q = cv_I (if cv_u P n p n = q then (n : Int) else cv_lk (cv_u P n p) q n)
      rw [cv_us]
      by_cases e : q = p
      · subst e
        rw [pk_us, if_pos rfl]
        exact cv_I_nat n
      · rw [pk_un e, if_neg (fun z => e z.symm), cv_lk_congr hPn]
        exact hL1 q hq
    · by_cases e : i = n
      · subst e
        rw [pk_us, cv_us, cv_lk_congr hPn]
        exact hL1 p hp
      · rw [pk_un e, cv_un e, cv_lk_congr (P := P) (fun j hj => hPn j (by omega))]
        exact hL2 i (by omega)
theorem cv_removeW {post : Int32 → St1 → Prop} {n : Nat} {P : Nat → Nat} {A : Nat → Int} {a1 a2 a3 a4 a5 a6 a7 a8 a9 : Nat → Int32} (hQ : cv_Q n P A a1 a2 a3 a4 a5 a6 a7)
    (H0 : post (-4000000) (nI n, a1, a2, a3, a4, a5, a6, a7, a8, a9))
    (H1 : ∀ (k : Nat) (b3 b6 b7 : Nat → Int32), n = k + 1 → -50 ≤ A k → A k ≤ 50 → P k < 120 → cv_Q k P A a1 a2 b3 a4 a5 b6 b7 → post (cv_I (A k)) (nI k, a1, a2, b3, a4, a5, b6, b7, a8, a9)) :
    wpX_remove post (nI n, a1, a2, a3, a4, a5, a6, a7, a8, a9) := by
  obtain ⟨⟨hn, hB⟩, ⟨hL1, hL2⟩, hM⟩ := hQ
  cases n with
  | zero => exact br_t rfl H0
  | succ k =>
    obtain ⟨hp, hv0, hv1, e1, e2⟩ := hB k (by omega)
    have ecl : (nI k).toNatClampNeg = k := nI_clamp (by omega)
    have ecp : (nI (P k)).toNatClampNeg = P k := nI_clamp (by omega)
    have ik : vp_in (nI k) 40 := pk_in k 40 (by omega)
    refine br_f (nI_ne0 (by omega) (by omega)) (nm_r (nI_pred k) ⟨ik, nm_r (by rw [ecl, e1]) ⟨ik, pk_in (P k) 120 hp, fun b3 e3 => ⟨ik, ?_⟩⟩⟩)
    rw [ecl, ecp] at e3
    subst e3
    rw [ecl, e2, cv_I_neg]
    refine cv_enter (m := -1) (v := -A k) (X := fun g q => cv_K P cv_o (k + 1) g q) (Y := fun g q => cv_K P A (k + 1) g q) (X' := fun g q => cv_K P cv_o k g q) (Y' := fun g q => cv_K P A k g q) hp hM ?_ ?_ (fun b6 b7 hM' => ⟨ik, ?_⟩)
    · intro g q
      have t := cv_K_s (P := P) (P' := P) (A := cv_o) (A' := cv_o) (n := k) (fun _ _ => rfl) (fun _ _ => rfl) g q
      show cv_K P cv_o k g q = cv_K P cv_o (k + 1) g q + _
      rw [t]
      by_cases e : cv_grp (P k) g = q
      · rw [if_pos e, if_pos e]
        show _ = _ + 1 + (-1)
        omega
      · rw [if_neg e, if_neg e]; omega
    · intro g q
      have t := cv_K_s (P := P) (P' := P) (A := A) (A' := A) (n := k) (fun _ _ => rfl) (fun _ _ => rfl) g q
      show cv_K P A k g q = cv_K P A (k + 1) g q + _
      rw [t]
      by_cases e : cv_grp (P k) g = q
      · rw [if_pos e, if_pos e]; omega
      · rw [if_neg e, if_neg e]; omega
    · rw [ecl, e2]
      refine H1 k _ b6 b7 rfl hv0 hv1 hp ⟨⟨by omega, fun i hi => hB i (by omega)⟩, ⟨fun q hq => ?_, fun i hi => hL2 i (by omega)⟩, hM'⟩
      by_cases e : q = P k
      · subst e
        rw [pk_us]
        exact hL2 k (by omega)
      · rw [pk_un e]
        have t := hL1 q hq
        have s : cv_lk P q (k + 1) = if P k = q then (k : Int) else cv_lk P q k := rfl
        rw [s, if_neg (fun z => e z.symm)] at t
        exact t
theorem cv_changeW {post : Int32 → St1 → Prop} {n : Nat} {P : Nat → Nat} {A : Nat → Int} {a1 a2 a3 a4 a5 a6 a7 a8 a9 : Nat → Int32} {x y : Int32} (hQ : cv_Q n P A a1 a2 a3 a4 a5 a6 a7)
    (H0 : post (-1000000) (nI n, a1, a2, a3, a4, a5, a6, a7, a8, a9))
    (H1 : ∀ (i : Nat) (v : Int) (b2 b6 b7 : Nat → Int32), i < n → y = cv_I v → -50 ≤ A i → A i ≤ 50 → P i < 120 → cv_Q n P (cv_u A i v) a1 b2 a3 a4 a5 b6 b7 → post (cv_I (A i)) (nI n, a1, b2, a3, a4, a5, b6, b7, a8, a9)) :
    wpX_change post (nI n, a1, a2, a3, a4, a5, a6, a7, a8, a9) x y := by
  obtain ⟨⟨hn, hB⟩, hL, hM⟩ := hQ
  refine br_c (fun _ => H0) (fun hx0 => br_c (fun _ => H0) (fun hx1 => br_c (fun _ => H0) (fun hy0 => br_c (fun hy1 => ?_) (fun _ => H0))))
  obtain ⟨i, hi, rfl⟩ := cv_below (N := n) (by omega) hx0 hx1
  obtain ⟨v, rfl, hv0, hv1⟩ := cv_amt hy0 hy1
  obtain ⟨hp, hw0, hw1, e1, e2⟩ := hB i hi
  have ecl : (nI i).toNatClampNeg = i := nI_clamp (by omega)
  have ii : vp_in (nI i) 40 := pk_in i 40 (by omega)
  refine ⟨ii, nm_r (by rw [ecl, e2]) ⟨ii, fun b2 eb => ⟨ii, ?_⟩⟩⟩
  rw [ecl] at eb
  subst eb
  rw [ecl, e1, cv_I_sub]
  have hAn : ∀ j, j ≠ i → cv_u A i v j = A j := fun j hj => cv_un hj
  refine cv_enter (m := 0) (v := v - A i) (X := fun g q => cv_K P cv_o n g q) (Y := fun g q => cv_K P A n g q) (X' := fun g q => cv_K P cv_o n g q) (Y' := fun g q => cv_K P (cv_u A i v) n g q) hp hM ?_ ?_ (fun b6 b7 hM' => ?_)
  · intro g q
    rw [ite_self, Int.add_zero]
  · intro g q
    have t := cv_S_chg (P := P) hi hAn (fun p => decide (cv_grp p g = q))
    refine Eq.trans t ?_
    rw [cv_us]
    by_cases e : cv_grp (P i) g = q
    · rw [if_pos e, if_pos (decide_eq_true e)]; rfl
    · rw [if_neg e, if_neg (fun w => e (of_decide_eq_true w))]; rfl
  · refine H1 i v _ b6 b7 hi rfl hw0 hw1 hp ⟨⟨hn, fun j hj => ?_⟩, hL, hM'⟩
    obtain ⟨g1, g2, g3, g4, g5⟩ := hB j hj
    by_cases e : j = i
    · subst e
      rw [cv_us, pk_us]
      exact ⟨g1, hv0, hv1, g4, rfl⟩
    · rw [cv_un e, pk_un e]
      exact ⟨g1, g2, g3, g4, g5⟩
/-! ===== plan ===== -/
theorem cv_fill {post : St1 → Prop} {n g : Nat} {P : Nat → Nat} {A : Nat → Int} {a1 a2 a3 a4 a5 a6 a7 a8 a9 : Nat → Int32} (hB : cv_B n P A a1 a2) (hg : g < 8)
    (H : ∀ b6 b7, (∀ q, q < 120 → b6 (120 * g + q) = cv_I (cv_K P cv_o n g q) ∧ b7 (120 * g + q) = cv_I (cv_K P A n g q)) → (∀ j, j < 120 * g ∨ 120 * g + 120 ≤ j → b6 j = a6 j ∧ b7 j = a7 j) → post (nI n, a1, a2, a3, a4, a5, b6, b7, a8, a9)) :
    wpX_fill post (nI n, a1, a2, a3, a4, a5, a6, a7, a8, a9) (nI g) := by
  obtain ⟨hn, hB⟩ := hB
  refine pk_loop (fun k i s => wX_fill_2 post (nI g) (nI n) k (nI i) a1 a2 a3 a4 a5 s.1 s.2 a8 a9) (fun i s => (∀ q, q < i → s.1 (120 * g + q) = 0 ∧ s.2 (120 * g + q) = 0) ∧ (∀ j, j < 120 * g ∨ 120 * g + 120 ≤ j → s.1 j = a6 j ∧ s.2 j = a7 j)) 120 0 (a6, a7) (by omega) ⟨fun q hq => absurd hq (by omega), fun j _ => ⟨rfl, rfl⟩⟩ ?_ ?_
  · rintro k ⟨b6, b7⟩ ⟨h1, h2⟩
    dsimp only at h1 h2
    refine pk_le 120 120 (fun _ => ?_) (fun z => absurd z (by omega))
    refine pk_loop (fun k i s => wX_fill_40 post (nI g) (nI n) k (nI i) a1 a2 a3 a4 a5 s.1 s.2 a8 a9) (fun i s => (∀ q, q < 120 → s.1 (120 * g + q) = cv_I (cv_K P cv_o i g q)) ∧ (∀ q, q < 120 → s.2 (120 * g + q) = cv_I (cv_K P A i g q)) ∧ (∀ j, j < 120 * g ∨ 120 * g + 120 ≤ j → s.1 j = a6 j ∧ s.2 j = a7 j)) n 0 (b6, b7) (by omega) ⟨fun q hq => (h1 q hq).1, fun q hq => (h1 q hq).2, h2⟩ ?_ ?_
    · rintro k ⟨d6, d7⟩ ⟨g1, g2, g3⟩
      exact pk_le n n (fun _ => H d6 d7 (fun q hq => ⟨g1 q hq, g2 q hq⟩) g3) (fun z => absurd z (by omega))
    · rintro k i ⟨d6, d7⟩ hi ⟨g1, g2, g3⟩ hw
      dsimp only at g1 g2 g3
      obtain ⟨hp, _, _, e1, e2⟩ := hB i hi
      have ecl : (nI i).toNatClampNeg = i := nI_clamp (by omega)
      have hk := cv_grp_lt g hp
      have ea : 120 * nI g + nI (cv_grp (P i) g) = nI (120 * g + cv_grp (P i) g) := by
        rw [← nI_add, ← pk_mul]
        rfl
      have eca : (nI (120 * g + cv_grp (P i) g)).toNatClampNeg = 120 * g + cv_grp (P i) g := nI_clamp (by omega)
      have hin : vp_in (nI (120 * g + cv_grp (P i) g)) 960 := pk_in (120 * g + cv_grp (P i) g) 960 (by omega)
      have ii : vp_in (nI i) 40 := pk_in i 40 (by omega)
      show wX_fill_40 post (nI g) (nI n) (k + 1) (nI i) a1 a2 a3 a4 a5 d6 d7 a8 a9
      refine pk_le n i (fun z => absurd z (by omega)) (fun _ => ⟨ii, ?_⟩)
      rw [ecl, e1, e2]
      refine cv_group hp hg (nm_r ea ⟨hin, hin, fun c6 e6 => ⟨hin, ii, hin, fun c7 e7 => nm_r (nI_1 i) (hw (c6, c7) ?_)⟩⟩)
      rw [eca] at e6 e7
      subst e6 e7
      have st : ∀ (B : Nat → Int) (q : Nat), cv_K P B (i + 1) g q = cv_K P B i g q + (if cv_grp (P i) g = q then B i else 0) := fun B q => cv_K_s (fun _ _ => rfl) (fun _ _ => rfl) g q
      refine ⟨cv_addO (T' := cv_K P cv_o (i + 1) g) g1 hk (v := cv_o i) rfl (fun q _ => st cv_o q), cv_addO (T' := cv_K P A (i + 1) g) g2 hk (v := A i) rfl (fun q _ => st A q), fun j hj => ?_⟩
      show upd d6 _ _ j = _ ∧ upd d7 _ _ j = _
      rw [pk_un (by omega), pk_un (by omega)]
      exact g3 j hj
  · rintro k i ⟨b6, b7⟩ hi ⟨h1, h2⟩ hw
    dsimp only at h1 h2
    have ea : 120 * nI g + nI i = nI (120 * g + i) := by
      rw [← nI_add, ← pk_mul]
      rfl
    have eca : (120 * nI g + nI i).toNatClampNeg = 120 * g + i := by
      rw [ea]
      exact nI_clamp (by omega)
    have hin : vp_in (120 * nI g + nI i) 960 := pk_in (120 * g + i) 960 (by omega) ea
    show wX_fill_2 post (nI g) (nI n) (k + 1) (nI i) a1 a2 a3 a4 a5 b6 b7 a8 a9
    refine pk_le 120 i (fun z => absurd z (by omega)) (fun _ => ⟨hin, fun c6 e6 => ⟨hin, fun c7 e7 => nm_r (nI_1 i) (hw (c6, c7) ?_)⟩⟩)
    rw [eca] at e6 e7
    subst e6 e7
    refine ⟨fun q hq => ?_, fun j hj => ?_⟩
    · show upd b6 _ _ _ = _ ∧ upd b7 _ _ _ = _
      by_cases e : q = i
      · subst e
        exact ⟨pk_us, pk_us⟩
      · rw [pk_un (by omega), pk_un (by omega)]
        exact h1 q (by omega)
    · show upd b6 _ _ _ = _ ∧ upd b7 _ _ _ = _
      rw [pk_un (by omega), pk_un (by omega)]
      exact h2 j hj
theorem cv_workWith {post : Int32 → Prop} {u : St1} {x : Int32} (h : ∀ r, post r) : wpX_workWith post u x := by
  obtain ⟨c, a1, a2, a3, a4, a5, a6, a7, a8, a9⟩ := u
  refine pk_loop (fun k i s => wX_workWith_4 post x c a1 a2 a3 a4 a5 a6 a7 a8 a9 k s (nI i)) (fun _ _ => True) 8 0 0 (by omega) trivial ?_ ?_
  · intro k s _
    exact pk_le 8 8 (fun _ => h s) (fun z => absurd z (by omega))
  · intro k i s hi _ hw
    refine pk_le 8 i (fun z => absurd z (by omega)) (fun _ => ?_)
    refine pk_loop (fun k' j t => wX_workWith_18 post (wX_workWith_4 post x c a1 a2 a3 a4 a5 a6 a7 a8 a9 k) x s (nI i) c a1 a2 a3 a4 a5 a6 a7 a8 a9 k' t (nI j)) (fun _ _ => True) 8 0 160 (by omega) trivial ?_ ?_
    · intro k' t _
      exact pk_le 8 8 (fun _ => nm_e (nm_r (nI_1 i) (hw _ trivial))) (fun z => absurd z (by omega))
    · intro k' j t hj _ hv
      have h41 : wX_workWith_41 post (wX_workWith_4 post x c a1 a2 a3 a4 a5 a6 a7 a8 a9 k) (wX_workWith_18 post (wX_workWith_4 post x c a1 a2 a3 a4 a5 a6 a7 a8 a9 k) x s (nI i) c a1 a2 a3 a4 a5 a6 a7 a8 a9 k') x s (nI i) t (nI j) c a1 a2 a3 a4 a5 a6 a7 a8 a9 :=
        br_c (fun _ => cv_cells (fun r => br_c (fun _ => nm_r (nI_1 j) (hv _ trivial)) (fun _ => cv_cells (fun r' => nm_r (nI_1 j) (hv _ trivial))))) (fun _ => nm_r (nI_1 j) (hv _ trivial))
      exact pk_le 8 j (fun z => absurd z (by omega)) (fun _ => ⟨pk_in j 8 hj, br_c (fun _ => br_c (fun _ => h41) (fun _ => nm_r (nI_1 j) (hv _ trivial))) (fun _ => h41)⟩)
theorem cv_p138 {post : Int32 → St1 → Prop} {J : Int32 → Int32 → Int32 → Int32 → (Nat → Int32) → (Nat → Int32) → (Nat → Int32) → (Nat → Int32) → (Nat → Int32) → (Nat → Int32) → (Nat → Int32) → (Nat → Int32) → (Nat → Int32) → Prop} {n k g : Nat} {P : Nat → Nat} {A : Nat → Int} {a1 a2 a3 a4 a5 a6 a7 a8 a9 : Nat → Int32} {x2 : Int32} (hB : cv_B n P A a1 a2) (hM : cv_M n P A a5 a6 a7) (hg : g < 8)
    (hJ : ∀ x2 x3 b5 b6 b7, cv_M n P A b5 b6 b7 → J x2 x3 (nI (k + 1)) (nI n) a1 a2 a3 a4 b5 b6 b7 a8 a9) : wX_plan_138 post J x2 (nI k) (nI g) 1 (nI n) a1 a2 a3 a4 a5 a6 a7 a8 a9 := by
  have ecl : (nI g).toNatClampNeg = g := nI_clamp (by omega)
  refine br_f (by decide) ⟨pk_in g 8 hg, fun b5 e5 => cv_cells (fun r => nm_e (cv_fill hB hg (fun b6 b7 h1 h2 => nm_r (nI_1 k) (hJ _ _ _ _ _ (fun g' hg' h5 q hq => ?_)))))⟩
  rw [ecl] at e5
  subst e5
  by_cases e : g' = g
  · subst e
    exact h1 q hq
  · rw [pk_un e] at h5
    obtain ⟨t1, t2⟩ := h2 (120 * g' + q) (by omega)
    rw [t1, t2]
    exact hM g' hg' h5 q hq
theorem cv_p69 {post : Int32 → St1 → Prop} {J : Int32 → Int32 → Int32 → Int32 → (Nat → Int32) → (Nat → Int32) → (Nat → Int32) → (Nat → Int32) → (Nat → Int32) → (Nat → Int32) → (Nat → Int32) → (Nat → Int32) → (Nat → Int32) → Prop} {n k : Nat} {P : Nat → Nat} {A : Nat → Int} {a1 a2 a3 a4 a5 a6 a7 a8 a9 : Nat → Int32} {x2 x5 : Int32} (hB : cv_B n P A a1 a2) (hM : cv_M n P A a5 a6 a7)
    (hJ : ∀ x2 x3 b5 b6 b7, cv_M n P A b5 b6 b7 → J x2 x3 (nI (k + 1)) (nI n) a1 a2 a3 a4 b5 b6 b7 a8 a9) : ∃ fu, wX_plan_69 post J x2 (nI k) x5 (nI n) a1 a2 a3 a4 a5 a6 a7 a8 a9 fu (-1) 0 0 := by
  refine pk_loop (fun m i s => wX_plan_69 post J x2 (nI k) x5 (nI n) a1 a2 a3 a4 a5 a6 a7 a8 a9 m s.1 s.2 (nI i)) (fun _ s => s.1 = -1 ∨ ∃ g, g < 8 ∧ s.1 = nI g) 8 0 ((-1 : Int32), (0 : Int32)) (by omega) (Or.inl rfl) ?_ ?_
  · rintro m ⟨x6, x7⟩ hs
    refine pk_le 8 8 (fun _ => ?_) (fun z => absurd z (by omega))
    rcases hs with hs | ⟨g, hg, hs⟩
    · dsimp only at hs
      subst hs
      exact br_t (show (-1 : Int32) < 0 by decide) (br_t rfl (nm_r (nI_1 k) (hJ _ _ _ _ _ hM)))
    · dsimp only at hs
      subst hs
      exact br_f (nI_pos (by omega)) (cv_p138 hB hM hg hJ)
  · rintro m i ⟨x6, x7⟩ hi hs hw
    show wX_plan_69 post J x2 (nI k) x5 (nI n) a1 a2 a3 a4 a5 a6 a7 a8 a9 (m + 1) x6 x7 (nI i)
    have go : wX_plan_69 post J x2 (nI k) x5 (nI n) a1 a2 a3 a4 a5 a6 a7 a8 a9 m x6 x7 (nI (i + 1)) := hw (x6, x7) hs
    exact pk_le 8 i (fun z => absurd z (by omega)) (fun _ => cv_workWith (fun r => nm_e ⟨pk_in i 8 hi, br_c (fun _ => cv_cells (fun r' => br_c (fun _ => nm_r (nI_1 i) go) (fun _ => br_c (fun _ => nm_r (nI_1 i) go) (fun _ => nm_r (nI_1 i) (hw (nI i, _) (Or.inr ⟨i, hi, rfl⟩)))))) (fun _ => nm_r (nI_1 i) go)⟩))
theorem cv_planW {post : Int32 → St1 → Prop} {n : Nat} {P : Nat → Nat} {A : Nat → Int} {a1 a2 a3 a4 a5 a6 a7 a8 a9 : Nat → Int32} {x : Int32} (hQ : cv_Q n P A a1 a2 a3 a4 a5 a6 a7)
    (H : ∀ (r : Int32) (b5 b6 b7 : Nat → Int32), r = 0 ∨ r = -1000000 → cv_Q n P A a1 a2 a3 a4 b5 b6 b7 → post r (nI n, a1, a2, a3, a4, b5, b6, b7, a8, a9)) : wpX_plan post (nI n, a1, a2, a3, a4, a5, a6, a7, a8, a9) x := by
  have hbad := H (-1000000) _ _ _ (Or.inr rfl) hQ
  obtain ⟨hB, hL, hM⟩ := hQ
  refine br_c (fun _ => hbad) (fun _ => br_c (fun _ => ?_) (fun _ => hbad))
  refine pk_loop (fun k i s => wX_plan_16 post x (nI n) k (nI i) a1 a2 a3 a4 s a6 a7 a8 a9) (fun i s => ∀ g, g < i → s g = 0) 8 0 a5 (by omega) (fun g hg => absurd hg (by omega)) ?_ ?_
  · intro k b5 h5
    refine pk_le 8 8 (fun _ => ?_) (fun z => absurd z (by omega))
    refine pk_loop (fun k i s => wX_plan_42 post k s.1 s.2.1 (nI i) (nI n) a1 a2 a3 a4 s.2.2.1 s.2.2.2.1 s.2.2.2.2 a8 a9) (fun _ s => cv_M n P A s.2.2.1 s.2.2.2.1 s.2.2.2.2) 8 0 (x, (1 : Int32), b5, a6, a7) (by omega) (fun g hg h => absurd (h5 g hg) h) ?_ ?_
    · rintro m ⟨x2, x3, d5, d6, d7⟩ hs
      exact pk_le 8 8 (fun _ => H 0 d5 d6 d7 (Or.inl rfl) ⟨hB, hL, hs⟩) (fun z => absurd z (by omega))
    · rintro m i ⟨x2, x3, d5, d6, d7⟩ hi hs hw
      exact pk_le 8 i (fun z => absurd z (by omega)) (fun _ => br_c (fun _ => H 0 d5 d6 d7 (Or.inl rfl) ⟨hB, hL, hs⟩) (fun _ => cv_workWith (fun r => cv_p69 hB hs (fun y2 y3 c5 c6 c7 hc => hw (y2, y3, c5, c6, c7) hc))))
  · intro k i b5 hi h5 hw
    have ecl : (nI i).toNatClampNeg = i := nI_clamp (by omega)
    refine pk_le 8 i (fun z => absurd z (by omega)) (fun _ => ⟨pk_in i 8 hi, fun c5 e5 => nm_r (nI_1 i) (hw c5 (fun g hg => ?_))⟩)
    rw [ecl] at e5
    subst e5
    by_cases e : g = i
    · subst e
      exact pk_us
    · rw [pk_un e]
      exact h5 g (by omega)
end
section
/-! ===== the greatest amount ===== -/
/-- B bounds A over the facts that D takes; there is none: NONE -/
def cv_mx (D : Nat → Prop) (A : Nat → Int) (n : Nat) (B : Int) : Prop := (B = -4000000 ∧ ∀ i, i < n → ¬ D i) ∨ ((-50 ≤ B ∧ B ≤ 50) ∧ (∃ i, i < n ∧ D i) ∧ ∀ i, i < n → D i → A i ≤ B)
theorem cv_mx_in {D : Nat → Prop} {A : Nat → Int} {n : Nat} {B : Int} (h : cv_mx D A n B) : -4000000 ≤ B ∧ B ≤ 50 := by
  rcases h with ⟨h, _⟩ | ⟨h, _⟩ <;> omega
theorem cv_mx_congr {D D' : Nat → Prop} {A : Nat → Int} {n : Nat} {B : Int} (h : cv_mx D A n B) (e : ∀ i, i < n → (D' i ↔ D i)) : cv_mx D' A n B := by
  rcases h with ⟨h1, h2⟩ | ⟨h1, ⟨i, hi, hd⟩, h3⟩
  · exact Or.inl ⟨h1, fun i hi z => h2 i hi ((e i hi).mp z)⟩
  · exact Or.inr ⟨h1, ⟨i, hi, (e i hi).mpr hd⟩, fun i hi z => h3 i hi ((e i hi).mp z)⟩
theorem cv_mx_or {D E D' : Nat → Prop} {A : Nat → Int} {n : Nat} {B C : Int} (h : cv_mx D A n B) (k : cv_mx E A n C) (e : ∀ i, i < n → (D' i ↔ (D i ∨ E i))) : cv_mx D' A n (if C ≤ B then B else C) := by
  rcases h with ⟨h1, h2⟩ | ⟨h1, ⟨i, hi, hd⟩, h3⟩
  · rcases k with ⟨k1, k2⟩ | ⟨k1, ⟨j, hj, kd⟩, k3⟩
    · rw [if_pos (by omega)]
      exact Or.inl ⟨h1, fun i hi z => ((e i hi).mp z).elim (h2 i hi) (k2 i hi)⟩
    · rw [if_neg (by omega)]
      exact Or.inr ⟨k1, ⟨j, hj, (e j hj).mpr (Or.inr kd)⟩, fun i hi z => ((e i hi).mp z).elim (fun w => absurd w (h2 i hi)) (k3 i hi)⟩
  · rcases k with ⟨k1, k2⟩ | ⟨k1, ⟨j, hj, kd⟩, k3⟩
    · rw [if_pos (by omega)]
      exact Or.inr ⟨h1, ⟨i, hi, (e i hi).mpr (Or.inl hd)⟩, fun i hi z => ((e i hi).mp z).elim (h3 i hi) (fun w => absurd w (k2 i hi))⟩
    · by_cases q : C ≤ B
      · rw [if_pos q]
        exact Or.inr ⟨h1, ⟨i, hi, (e i hi).mpr (Or.inl hd)⟩, fun i hi z => ((e i hi).mp z).elim (h3 i hi) (fun w => Int.le_trans (k3 i hi w) q)⟩
      · rw [if_neg q]
        exact Or.inr ⟨k1, ⟨i, hi, (e i hi).mpr (Or.inl hd)⟩, fun i hi z => ((e i hi).mp z).elim (fun w => Int.le_trans (h3 i hi w) (by omega)) (k3 i hi)⟩
theorem cv_lk_or (P : Nat → Nat) (p n : Nat) : (cv_lk P p n = -1 ∧ ∀ i, i < n → P i ≠ p) ∨ ∃ j : Nat, cv_lk P p n = (j : Int) ∧ j < n ∧ P j = p ∧ ∀ i, i < n → j < i → P i ≠ p := by
  induction n with
  | zero => exact Or.inl ⟨rfl, fun i hi => absurd hi (by omega)⟩
  | succ n ih =>
    have s : cv_lk P p (n + 1) = if P n = p then (n : Int) else cv_lk P p n := rfl
    rw [s]
    by_cases e : P n = p
    · rw [if_pos e]
      exact Or.inr ⟨n, rfl, by omega, e, fun i hi hj => absurd hi (by omega)⟩
    · rw [if_neg e]
      rcases ih with ⟨h1, h2⟩ | ⟨j, h1, h2, h3, h4⟩
      · refine Or.inl ⟨h1, fun i hi => ?_⟩
        by_cases q : i = n
        · rw [q]; exact e
        · exact h2 i (by omega)
      · refine Or.inr ⟨j, h1, by omega, h3, fun i hi hj => ?_⟩
        by_cases q : i = n
        · rw [q]; exact e
        · exact h4 i (by omega) hj
theorem cv_greatestAt {post : Int32 → Prop} {n p : Nat} {P : Nat → Nat} {A : Nat → Int} {a1 a2 a3 a4 a5 a6 a7 a8 a9 : Nat → Int32} (hB : cv_B n P A a1 a2) (hL : cv_L n P a3 a4) (hp : p < 120)
    (H : ∀ B, cv_mx (fun i => P i = p) A n B → post (cv_I B)) : wpX_greatestAt post (nI n, a1, a2, a3, a4, a5, a6, a7, a8, a9) (nI p) := by
  obtain ⟨hn, hB⟩ := hB
  obtain ⟨hL1, hL2⟩ := hL
  have ecp : (nI p).toNatClampNeg = p := nI_clamp (by omega)
  have fin : ∀ B, cv_mx (fun i => P i = p ∧ (-1 : Int) < (i : Int)) A n B → post (cv_I B) := fun B h => H B (cv_mx_congr h (fun i _ => ⟨fun z => ⟨z, by omega⟩, fun z => z.1⟩))
  refine ⟨pk_in p 120 hp, nm_r (by rw [ecp, hL1 p hp]) ?_⟩
  refine pk_loop (fun m k s => wX_greatestAt_13 post (nI n) a1 a2 a3 a4 a5 a6 a7 a8 a9 m s.1 s.2 (nI k)) (fun k s => ∃ e B : Int, s.1 = cv_I B ∧ s.2 = cv_I e ∧ (e = -1 ∨ ∃ j : Nat, e = (j : Int) ∧ j + k < n ∧ P j = p) ∧ cv_mx (fun i => P i = p ∧ e < (i : Int)) A n B) 40 0 ((-4000000 : Int32), cv_I (cv_lk P p n)) (by omega) ?_ ?_ ?_
  · refine ⟨cv_lk P p n, -4000000, rfl, rfl, ?_, Or.inl ⟨rfl, ?_⟩⟩
    · rcases cv_lk_or P p n with ⟨h1, _⟩ | ⟨j, h1, h2, h3, _⟩
      · exact Or.inl h1
      · exact Or.inr ⟨j, h1, by omega, h3⟩
    · rintro i hi ⟨e1, e2⟩
      rcases cv_lk_or P p n with ⟨_, h2⟩ | ⟨j, h1, _, _, h4⟩
      · exact h2 i hi e1
      · rw [h1] at e2
        exact h4 i hi (by omega) e1
  · rintro m ⟨x2, x3⟩ ⟨e, B, h1, h2, h3, h4⟩
    dsimp only at h1 h2
    subst h1 h2
    refine pk_le 40 40 (fun _ => ?_) (fun z => absurd z (by omega))
    rcases h3 with h3 | ⟨j, _, hj, _⟩
    · subst h3
      exact fin B h4
    · exact absurd hj (by omega)
  · rintro m k ⟨x2, x3⟩ hk ⟨e, B, h1, h2, h3, h4⟩ hw
    dsimp only at h1 h2
    subst h1 h2
    show wX_greatestAt_13 post (nI n) a1 a2 a3 a4 a5 a6 a7 a8 a9 (m + 1) (cv_I B) (cv_I e) (nI k)
    refine pk_le 40 k (fun z => absurd z (by omega)) (fun _ => ?_)
    rcases h3 with h3 | ⟨j, ej, hj, hPj⟩
    · subst h3
      exact br_t (by decide) (fin B h4)
    · subst ej
      obtain ⟨_, hA1, hA2, _, e2⟩ := hB j (by omega)
      have e4 := hL2 j (by omega)
      rw [hPj] at e4
      have hmB := cv_mx_in h4
      rw [← cv_I_nat]
      have ecj : (nI j).toNatClampNeg = j := nI_clamp (by omega)
      have ij : vp_in (nI j) 40 := pk_in j 40 (by omega)
      refine br_f (nI_pos (by omega)) ⟨ij, ?_⟩
      rw [ecj, e2]
      have hm1 : cv_mx (fun i => i = j) A n (A j) := Or.inr ⟨⟨hA1, hA2⟩, ⟨j, by omega, rfl⟩, fun i _ z => by rw [z]; exact Int.le_refl _⟩
      have hm2 : cv_mx (fun i => P i = p ∧ cv_lk P p j < (i : Int)) A n (if A j ≤ B then B else A j) := by
        refine cv_mx_or h4 hm1 (fun i hi => ⟨fun ⟨z1, z2⟩ => ?_, fun z => ?_⟩)
        · rcases Nat.lt_trichotomy i j with q | q | q
          · rcases cv_lk_or P p j with ⟨_, w⟩ | ⟨j', w1, _, _, w4⟩
            · exact absurd z1 (w i q)
            · rw [w1] at z2
              exact absurd z1 (w4 i q (by omega))
          · exact Or.inr q
          · exact Or.inl ⟨z1, by omega⟩
        · have hlt : cv_lk P p j < (j : Int) := by
            rcases cv_lk_or P p j with ⟨w, _⟩ | ⟨j', w1, w2, _, _⟩ <;> omega
          rcases z with ⟨z1, z2⟩ | z
          · exact ⟨z1, by omega⟩
          · rw [z]
            exact ⟨hPj, hlt⟩
      have hlk : cv_lk P p j = -1 ∨ ∃ j' : Nat, cv_lk P p j = (j' : Int) ∧ j' + (k + 1) < n ∧ P j' = p := by
        rcases cv_lk_or P p j with ⟨w, _⟩ | ⟨j', w1, w2, w3, _⟩
        · exact Or.inl w
        · exact Or.inr ⟨j', w1, by omega, w3⟩
      have h44 : ∀ B', cv_mx (fun i => P i = p ∧ cv_lk P p j < (i : Int)) A n B' → wX_greatestAt_44 post (wX_greatestAt_13 post (nI n) a1 a2 a3 a4 a5 a6 a7 a8 a9 m) (nI j) (nI k) (cv_I B') (nI n) a1 a2 a3 a4 a5 a6 a7 a8 a9 := by
        intro B' hB'
        exact ⟨ij, nm_r (by rw [ecj, e4]) (nm_r (nI_1 k) (hw (cv_I B', cv_I (cv_lk P p j)) ⟨_, B', rfl, rfl, hlk, hB'⟩))⟩
      refine cv_le (A j) B (fun z => ?_) (fun z => ⟨ij, ?_⟩)
      · rw [if_pos z] at hm2
        exact h44 B hm2
      · rw [if_neg (by omega)] at hm2
        exact h44 (A j) hm2
theorem cv_greatest {post : Int32 → Prop} {n F : Nat} {P : Nat → Nat} {A : Nat → Int} {a1 a2 a3 a4 a5 a6 a7 a8 a9 : Nat → Int32} (hQ : cv_Q n P A a1 a2 a3 a4 a5 a6 a7) (hF : F ≤ 32767)
    (H : ∀ B, cv_mx (fun i => cv_pass (P i) F 7 = true) A n B → post (cv_I B)) : wpX_greatest post (nI n, a1, a2, a3, a4, a5, a6, a7, a8, a9) (nI F) := by
  obtain ⟨hB, hL, hM⟩ := hQ
  unfold wpX_greatest
  refine cv_badFilter hF (br_t rfl ?_)
  refine pk_loop (fun m p s => wX_greatest_16 post (nI F) (nI n) a1 a2 a3 a4 a5 a6 a7 a8 a9 m s (nI p)) (fun p s => ∃ B : Int, s = cv_I B ∧ cv_mx (fun i => P i < p ∧ cv_pass (P i) F 7 = true) A n B) 120 0 (-4000000) (by omega) ⟨-4000000, rfl, Or.inl ⟨rfl, fun i _ z => absurd z.1 (by omega)⟩⟩ ?_ ?_
  · rintro m s ⟨B, rfl, h⟩
    exact pk_le 120 120 (fun _ => H B (cv_mx_congr h (fun i hi => ⟨fun z => ⟨(hB.2 i hi).1, z⟩, fun z => z.2⟩))) (fun z => absurd z (by omega))
  · rintro m p s hp ⟨B, rfl, h⟩ hw
    have ecp : (nI p).toNatClampNeg = p := nI_clamp (by omega)
    have hmB := cv_mx_in h
    refine pk_le 120 p (fun z => absurd z (by omega)) (fun _ => ⟨pk_in p 120 hp, ?_⟩)
    rw [ecp, hL.1 p hp]
    rcases cv_lk_or P p n with ⟨h1, h2⟩ | ⟨j, h1, h2, h3, _⟩
    · rw [h1]
      refine br_t (by decide) (nm_r (nI_1 p) (hw _ ⟨B, rfl, cv_mx_congr h (fun i hi => ⟨fun z => ⟨?_, z.2⟩, fun z => ⟨by omega, z.2⟩⟩)⟩))
      have := h2 i hi
      have := z.1
      omega
    · rw [h1, ← cv_I_nat]
      have hn := hB.1
      refine br_f (nI_pos (by omega)) (cv_passes (d := 7) hp hF (by decide) ?_)
      cases hb : cv_pass p F 7
      · refine br_t rfl (nm_r (nI_1 p) (hw _ ⟨B, rfl, cv_mx_congr h (fun i hi => ⟨fun z => ⟨?_, z.2⟩, fun z => ⟨by omega, z.2⟩⟩)⟩))
        by_cases e : P i = p
        · have t := z.2
          rw [e, hb] at t
          exact absurd t Bool.false_ne_true
        · have := z.1
          omega
      · refine br_f (by decide) (cv_greatestAt hB hL hp (fun C hC => ?_))
        have hmC := cv_mx_in hC
        have hm := cv_mx_or (D' := fun i => P i < p + 1 ∧ cv_pass (P i) F 7 = true) h hC (fun i hi => ⟨fun z => ?_, fun z => ?_⟩)
        · refine cv_le C B (fun z => nm_r (nI_1 p) (hw _ ⟨B, rfl, ?_⟩)) (fun z => nm_r (nI_1 p) (hw _ ⟨C, rfl, ?_⟩))
          · rw [if_pos z] at hm
            exact hm
          · rw [if_neg (by omega)] at hm
            exact hm
        · by_cases e : P i = p
          · exact Or.inr e
          · exact Or.inl ⟨by have := z.1; omega, z.2⟩
        · rcases z with z | z
          · exact ⟨by have := z.1; omega, z.2⟩
          · rw [z]
            exact ⟨by omega, hb⟩
end
section
/-! ===== what the answers must satisfy, in plain numbers ===== -/
theorem cv_c_0 (F p : Nat) : cv_c 0 F 0 p = cv_pass p F 7 := by
  unfold cv_c
  rw [decide_eq_true (cv_grp_0 p), Bool.and_true]
/-- the groups together are the whole -/
theorem cv_tot {P : Nat → Nat} {n : Nat} (hP : ∀ i, i < n → P i < 120) (B : Nat → Int) (γ F : Nat) : cv_sm (fun q => cv_G P B n γ F q) 120 = cv_G P B n 0 F 0 := by
  have e : cv_sm (fun q => cv_G P B n γ F q) 120 = cv_sm (fun i => cv_sm (fun q => if cv_c γ F q (P i) = true then B i else 0) 120) n := cv_sm_swap (fun q i => if cv_c γ F q (P i) = true then B i else 0) n 120
  rw [e]
  refine cv_sm_congr (fun i hi => ?_)
  rw [cv_c_0]
  by_cases hb : cv_pass (P i) F 7 = true
  · rw [if_pos hb]
    have t := cv_sm_one (B i) (cv_grp (P i) γ) 120
    rw [if_pos (cv_grp_lt γ (hP i hi))] at t
    refine Eq.trans (cv_sm_congr (fun q _ => ?_)) t
    unfold cv_c
    rw [hb, Bool.true_and]
    by_cases z : cv_grp (P i) γ = q
    · rw [if_pos z, if_pos (decide_eq_true z)]
    · rw [if_neg z, if_neg (fun w => z (of_decide_eq_true w))]
  · rw [if_neg hb]
    refine cv_sm_zero (fun q _ => ?_)
    unfold cv_c
    rw [Bool.eq_false_iff.mpr hb, Bool.false_and, if_neg Bool.false_ne_true]
theorem cv_Gn_nonneg (P : Nat → Nat) (n γ F N : Nat) : 0 ≤ cv_Gn P n γ F N := by
  refine cv_sm_nonneg (fun q _ => ?_)
  by_cases z : 0 < cv_G P cv_o n γ F q
  · rw [if_pos z]; exact Int.one_nonneg
  · rw [if_neg z]; exact Int.le_refl _
theorem cv_Gn_le {P : Nat → Nat} {n : Nat} (hP : ∀ i, i < n → P i < 120) (γ F : Nat) : cv_Gn P n γ F 120 ≤ cv_G P cv_o n 0 F 0 := by
  rw [← cv_tot hP cv_o γ F]
  refine cv_sm_le (fun q _ => ?_)
  have b0 : 0 ≤ cv_G P cv_o n γ F q := cv_S_o_nonneg _ _ _
  by_cases z : 0 < cv_G P cv_o n γ F q
  · rw [if_pos z]; omega
  · rw [if_neg z]; exact b0
theorem cv_Gn_pos {P : Nat → Nat} {n : Nat} (hP : ∀ i, i < n → P i < 120) (γ F : Nat) (h : 0 < cv_G P cv_o n 0 F 0) : 0 < cv_Gn P n γ F 120 ∧ ¬ ∀ q, q < 120 → cv_G P cv_o n γ F q ≤ 0 := by
  obtain ⟨i, hi, hc⟩ := cv_S_pos h
  rw [cv_c_0] at hc
  have hg := cv_grp_lt γ (hP i hi)
  have hpos : 0 < cv_G P cv_o n γ F (cv_grp (P i) γ) := by
    refine cv_S_has hi ?_
    unfold cv_c
    rw [hc, decide_eq_true rfl]
    rfl
  constructor
  · have t := cv_sm_term (f := fun q => if 0 < cv_G P cv_o n γ F q then (1 : Int) else 0) (n := 120) (j := cv_grp (P i) γ) (fun q _ => by
      by_cases z : 0 < cv_G P cv_o n γ F q
      · rw [if_pos z]; exact Int.one_nonneg
      · rw [if_neg z]; exact Int.le_refl _) hg
    rw [if_pos hpos] at t
    exact Int.lt_of_lt_of_le (show (0 : Int) < 1 by decide) t
  · intro z
    have := z _ hg
    omega
theorem cv_none {P : Nat → Nat} {n : Nat} {γ F : Nat} (h : cv_G P cv_o n 0 F 0 ≤ 0) : ∀ q, cv_G P cv_o n γ F q ≤ 0 := by
  intro q
  rcases Int.lt_or_le 0 (cv_G P cv_o n γ F q) with z | z
  · obtain ⟨i, hi, hc⟩ := cv_S_pos z
    have hb : cv_pass (P i) F 7 = true := by
      unfold cv_c at hc
      exact (Bool.and_eq_true _ _ ▸ hc).1
    have t : 0 < cv_G P cv_o n 0 F 0 := cv_S_has hi (by rw [cv_c_0]; exact hb)
    omega
  · exact z
theorem cv_top_le {P : Nat → Nat} {A : Nat → Int} {n γ F b : Nat} (hP : ∀ i, i < n → P i < 120) (h : cv_isTop P A n γ F b) : cv_G P A n 0 F 0 ≤ cv_G P A n γ F b * cv_Gn P n γ F 120 := by
  rw [← cv_tot hP A γ F]
  unfold cv_Gn
  rw [← cv_sm_mul]
  refine cv_sm_le (fun q hq => ?_)
  by_cases z : 0 < cv_G P cv_o n γ F q
  · rw [if_pos z, Int.mul_one]
    exact h.2.2 q hq z
  · rw [if_neg z, Int.mul_zero]
    have e : cv_G P A n γ F q = 0 := cv_S_none (by show cv_G P cv_o n γ F q ≤ 0; omega)
    rw [e]
    exact Int.le_refl _
theorem cv_top_at {P : Nat → Nat} {A : Nat → Int} {n γ F b : Nat} (hP : ∀ i, i < n → P i < 120) (h : cv_isTop P A n γ F b) : (γ % 2 = 0 → b % 4 = 0) ∧ (γ / 4 % 2 = 0 → b ≤ 19) := by
  obtain ⟨i, hi, hc⟩ := cv_S_pos h.2.1
  have e : cv_grp (P i) γ = b := by
    unfold cv_c at hc
    exact of_decide_eq_true (Bool.and_eq_true _ _ ▸ hc).2
  constructor
  · intro z
    rw [← e, cv_grp_r, if_pos z]
  · intro z
    have t := cv_grp_m (P i) γ
    rw [if_pos z, e] at t
    omega
theorem cv_AL_all {P : Nat → Nat} {A : Nat → Int} {n : Nat} {a1 a2 : Nat → Int32} (hB : cv_B n P A a1 a2) (γ : Nat) : cv_AL P A n γ (-2000) 120 = cv_Gn P n γ 32767 120 := by
  refine cv_sm_congr (fun q _ => ?_)
  have t := (cv_G_in2 (γ := γ) (F := 32767) hB q).1
  by_cases z : 0 < cv_G P cv_o n γ 32767 q
  · rw [if_pos z, if_pos ⟨z, t⟩]
  · rw [if_neg z, if_neg (fun w => z w.1)]
theorem cv_AL_none {P : Nat → Nat} {A : Nat → Int} {n : Nat} {a1 a2 : Nat → Int32} (hB : cv_B n P A a1 a2) (γ : Nat) : cv_AL P A n γ 2001 120 = 0 := by
  refine cv_sm_zero (fun q _ => ?_)
  have t := (cv_G_in2 (γ := γ) (F := 32767) hB q).2
  rw [if_neg (fun w => by omega)]
theorem cv_AL_le (P : Nat → Nat) (A : Nat → Int) (n γ : Nat) : cv_AL P A n γ 0 120 ≤ cv_AL P A n γ (-1) 120 := by
  refine cv_sm_le (fun q _ => ?_)
  by_cases z : 0 < cv_G P cv_o n γ 32767 q ∧ 0 ≤ cv_G P A n γ 32767 q
  · rw [if_pos z, if_pos ⟨z.1, by omega⟩]; exact Int.le_refl _
  · rw [if_neg z]
    by_cases y : 0 < cv_G P cv_o n γ 32767 q ∧ -1 ≤ cv_G P A n γ 32767 q
    · rw [if_pos y]; exact Int.one_nonneg
    · rw [if_neg y]; exact Int.le_refl _
theorem cv_AL_in (P : Nat → Nat) (A : Nat → Int) (n γ : Nat) (x : Int) : 0 ≤ cv_AL P A n γ x 120 ∧ cv_AL P A n γ x 120 ≤ 120 := by
  constructor
  · refine cv_sm_nonneg (fun q _ => ?_)
    by_cases z : 0 < cv_G P cv_o n γ 32767 q ∧ x ≤ cv_G P A n γ 32767 q
    · rw [if_pos z]; exact Int.one_nonneg
    · rw [if_neg z]; exact Int.le_refl _
  · have t := cv_sm_le (f := fun q => if 0 < cv_G P cv_o n γ 32767 q ∧ x ≤ cv_G P A n γ 32767 q then (1 : Int) else 0) (g := fun _ => 1) (n := 120) (fun q _ => by
      by_cases z : 0 < cv_G P cv_o n γ 32767 q ∧ x ≤ cv_G P A n γ 32767 q
      · rw [if_pos z]; exact Int.le_refl _
      · rw [if_neg z]; exact Int.one_nonneg)
    rw [cv_sm_const] at t
    exact t
/-- the finest grouping has the most groups -/
theorem cv_Gn_7 {P : Nat → Nat} {n : Nat} (hP : ∀ i, i < n → P i < 120) (γ F : Nat) : cv_Gn P n γ F 120 ≤ cv_Gn P n 7 F 120 := by
  have h1 : cv_Gn P n γ F 120 ≤ cv_sm (fun q => cv_sm (fun p => if cv_grp p γ = q then (if 0 < cv_G P cv_o n 7 F p then (1 : Int) else 0) else 0) 120) 120 := by
    refine cv_sm_le (fun q _ => ?_)
    have nn : ∀ p, p < 120 → 0 ≤ (if cv_grp p γ = q then (if 0 < cv_G P cv_o n 7 F p then (1 : Int) else 0) else 0) := by
      intro p _
      split
      · split
        · exact Int.one_nonneg
        · exact Int.le_refl _
      · exact Int.le_refl _
    by_cases z : 0 < cv_G P cv_o n γ F q
    · rw [if_pos z]
      obtain ⟨i, hi, hc⟩ := cv_S_pos z
      unfold cv_c at hc
      have hb : cv_pass (P i) F 7 = true := (Bool.and_eq_true _ _ ▸ hc).1
      have hq : cv_grp (P i) γ = q := of_decide_eq_true (Bool.and_eq_true _ _ ▸ hc).2
      have h7 : 0 < cv_G P cv_o n 7 F (P i) := by
        refine cv_S_has hi ?_
        unfold cv_c
        rw [hb, cv_grp_7, decide_eq_true rfl]
        rfl
      have t := cv_sm_term (f := fun p => if cv_grp p γ = q then (if 0 < cv_G P cv_o n 7 F p then (1 : Int) else 0) else 0) (n := 120) (j := P i) nn (hP i hi)
      rw [if_pos hq, if_pos h7] at t
      exact t
    · rw [if_neg z]
      exact cv_sm_nonneg nn
  refine Int.le_trans h1 ?_
  rw [cv_sm_swap (fun q p => if cv_grp p γ = q then (if 0 < cv_G P cv_o n 7 F p then (1 : Int) else 0) else 0)]
  refine cv_sm_le (fun p hp => ?_)
  rw [cv_sm_one, if_pos (cv_grp_lt γ hp)]
  exact Int.le_refl _
theorem cv_Gn_in (P : Nat → Nat) (n γ F : Nat) : 0 ≤ cv_Gn P n γ F 120 ∧ cv_Gn P n γ F 120 ≤ 120 := by
  refine ⟨cv_Gn_nonneg P n γ F 120, ?_⟩
  have t := cv_sm_le (f := fun q => if 0 < cv_G P cv_o n γ F q then (1 : Int) else 0) (g := fun _ => 1) (n := 120) (fun q _ => by
    by_cases z : 0 < cv_G P cv_o n γ F q
    · rw [if_pos z]; exact Int.le_refl _
    · rw [if_neg z]; exact Int.one_nonneg)
  rw [cv_sm_const] at t
  exact t
theorem cv_m5 : ∀ p, p < 120 → cv_c 4 32767 100 p = cv_c 0 16895 0 p := by decide +kernel
theorem cv_m0 : ∀ p, p < 120 → cv_c 4 32767 0 p = cv_c 0 1023 0 p := by decide +kernel
theorem cv_all : ∀ p, p < 120 → cv_c 0 32767 0 p = true := by decide +kernel
theorem cv_month5 {P : Nat → Nat} {n : Nat} (hP : ∀ i, i < n → P i < 120) (A : Nat → Int) : cv_G P A n 4 32767 100 = cv_G P A n 0 16895 0 := cv_S_congr (fun i hi => cv_m5 _ (hP i hi)) (fun _ _ => rfl)
theorem cv_month0 {P : Nat → Nat} {n : Nat} (hP : ∀ i, i < n → P i < 120) (A : Nat → Int) : cv_G P A n 4 32767 0 = cv_G P A n 0 1023 0 := cv_S_congr (fun i hi => cv_m0 _ (hP i hi)) (fun _ _ => rfl)
/-- the greatest against the sum and the count -/
theorem cv_mx_law {P : Nat → Nat} {A : Nat → Int} {n F : Nat} {B : Int} (h : cv_mx (fun i => cv_pass (P i) F 7 = true) A n B) : (cv_G P cv_o n 0 F 0 = 0 ∧ B = -4000000) ∨ (0 < cv_G P cv_o n 0 F 0 ∧ -50 ≤ B ∧ B ≤ 50 ∧ cv_G P A n 0 F 0 ≤ B * cv_G P cv_o n 0 F 0) := by
  have b0 : 0 ≤ cv_G P cv_o n 0 F 0 := cv_S_o_nonneg _ _ _
  rcases h with ⟨h1, h2⟩ | ⟨⟨h1, h1'⟩, ⟨i, hi, hd⟩, h3⟩
  · refine Or.inl ⟨?_, h1⟩
    rcases Int.lt_or_le 0 (cv_G P cv_o n 0 F 0) with z | z
    · obtain ⟨i, hi, hc⟩ := cv_S_pos z
      rw [cv_c_0] at hc
      exact absurd hc (h2 i hi)
    · omega
  · refine Or.inr ⟨cv_S_has hi (by rw [cv_c_0]; exact hd), h1, h1', cv_S_up (fun i hi hc => ?_)⟩
    rw [cv_c_0] at hc
    exact h3 i hi hc
end
section
/-! ===== sound answers 1 ===== -/
theorem cv_facts {post : Int32 → Prop} {c : Int32} {a1 a2 a3 a4 a5 a6 a7 a8 a9 : Nat → Int32} (h : post c) : wpX_facts post (c, a1, a2, a3, a4, a5, a6, a7, a8, a9) := h
theorem cv_growthX {post : Int32 → St1 → Prop} {n : Nat} {P : Nat → Nat} {A : Nat → Int} {a1 a2 a3 a4 a5 a6 a7 a8 a9 : Nat → Int32} (hQ : cv_Q n P A a1 a2 a3 a4 a5 a6 a7) (m a b : Nat) (h1 : 1 ≤ m) (h6 : m < 6) (ha : 20 * m = a) (hb : 20 * (m - 1) = b)
    (H : ∀ b8 b9, post (cv_I (cv_G P A n 4 32767 a - cv_G P A n 4 32767 b)) (nI n, a1, a2, a3, a4, a5, a6, a7, b8, b9)) : wpX_growth post (nI n, a1, a2, a3, a4, a5, a6, a7, a8, a9) (nI m) := by
  subst ha hb
  exact cv_growth hQ h1 h6 H
theorem cv_growth6 {post : Int32 → St1 → Prop} {c : Int32} {a1 a2 a3 a4 a5 a6 a7 a8 a9 : Nat → Int32} (h : post (-1000000) (c, a1, a2, a3, a4, a5, a6, a7, a8, a9)) : wpX_growth post (c, a1, a2, a3, a4, a5, a6, a7, a8, a9) 6 := br_f (by decide) (br_f (by decide) h)
theorem cv_quarter2 {post : Int32 → St1 → Prop} {c : Int32} {a1 a2 a3 a4 a5 a6 a7 a8 a9 : Nat → Int32} (h : post (-1000000) (c, a1, a2, a3, a4, a5, a6, a7, a8, a9)) : wpX_quarter post (c, a1, a2, a3, a4, a5, a6, a7, a8, a9) 2 0 := br_f (by decide) (br_t (by decide) h)
theorem cv_bad1 {post : Int32 → Prop} {u : St1} (h : post 1) : wpX_badFilter post u 32768 := by
  obtain ⟨c, a1, a2, a3, a4, a5, a6, a7, a8, a9⟩ := u
  exact br_f (by decide) (br_f (by decide) h)
theorem cv_bad2 {post : Int32 → Prop} {u : St1} (h : post 1) : wpX_badGrouping post u 8 := by
  obtain ⟨c, a1, a2, a3, a4, a5, a6, a7, a8, a9⟩ := u
  exact br_f (by decide) (br_f (by decide) h)
theorem cv_sumB {post : Int32 → St1 → Prop} {c : Int32} {a1 a2 a3 a4 a5 a6 a7 a8 a9 : Nat → Int32} (h : post (-1000000) (c, a1, a2, a3, a4, a5, a6, a7, a8, a9)) : wpX_sum post (c, a1, a2, a3, a4, a5, a6, a7, a8, a9) 32768 := by
  unfold wpX_sum
  exact cv_bad1 (br_f (by decide) h)
theorem cv_groupsB {post : Int32 → St1 → Prop} {c : Int32} {a1 a2 a3 a4 a5 a6 a7 a8 a9 : Nat → Int32} (h : post (-1000000) (c, a1, a2, a3, a4, a5, a6, a7, a8, a9)) : wpX_groups post (c, a1, a2, a3, a4, a5, a6, a7, a8, a9) 8 0 := by
  unfold wpX_groups
  exact cv_bad2 (br_f (by decide) h)
theorem cv_prod {s k M : Int} (h1 : -M ≤ s) (h2 : s ≤ M) (h3 : 0 ≤ k) : -(M * k) ≤ s * k ∧ s * k ≤ M * k := by
  have t1 := Int.mul_le_mul_of_nonneg_right h2 h3
  have t2 := Int.mul_le_mul_of_nonneg_right h1 h3
  rw [Int.neg_mul] at t2
  exact ⟨t2, t1⟩
theorem cv_P {n : Nat} {P : Nat → Nat} {A : Nat → Int} {a1 a2 a3 a4 a5 a6 a7 : Nat → Int32} (hQ : cv_Q n P A a1 a2 a3 a4 a5 a6 a7) : ∀ i, i < n → P i < 120 := fun i hi => (hQ.1.2 i hi).1
theorem cv_s284 {post : Int32 → St1 → Prop} {J : Int32 → Int32 → (Nat → Int32) → (Nat → Int32) → (Nat → Int32) → (Nat → Int32) → (Nat → Int32) → (Nat → Int32) → (Nat → Int32) → (Nat → Int32) → (Nat → Int32) → Prop} {n F g : Nat} {P : Nat → Nat} {A : Nat → Int} {a1 a2 a3 a4 a5 a6 a7 a8 a9 : Nat → Int32} {x3 x4 : Int32} (hQ : cv_Q n P A a1 a2 a3 a4 a5 a6 a7) (hF : F ≤ 32767) (hg : g < 8)
    (hJ : ∀ b8 b9, J (nI (g + 1)) (nI n) a1 a2 a3 a4 a5 a6 a7 b8 b9) : wL_sound_284 post J (nI F) x3 x4 (nI g) (nI n) a1 a2 a3 a4 a5 a6 a7 a8 a9 := by
  unfold wL_sound_284
  refine cv_groups (F := 32767) hQ hg (by decide) (fun b8 b9 => ?_)
  refine cv_atLeast (x := -2000) hQ hg (by decide) (fun b8 b9 => ?_)
  refine br_t (congrArg cv_I (cv_AL_all hQ.1 g)) ?_
  refine cv_atLeast (x := 2001) hQ hg (by decide) (fun b8 b9 => ?_)
  refine br_t (congrArg cv_I (cv_AL_none hQ.1 g)) ?_
  refine cv_atLeast (x := 0) hQ hg (by decide) (fun b8 b9 => ?_)
  refine cv_atLeast (x := -1) hQ hg (by decide) (fun b8 b9 => ?_)
  have t0 := cv_AL_in P A n g 0
  have t1 := cv_AL_in P A n g (-1)
  have t2 := cv_AL_le P A n g
  refine cv_le (cv_AL P A n g 0 120) (cv_AL P A n g (-1) 120) (fun _ => ?_) (fun z => absurd t2 (by omega))
  have e3 : nI g &&& 3 = nI (g % 4) := pk_andN (m := 3) (by omega) 2 (by decide)
  refine nm_r e3 ?_
  refine cv_groups hQ (by omega) hF (fun b8 b9 => ?_)
  refine cv_groups (γ := 7) hQ (by decide) hF (fun b8 b9 => ?_)
  have u0 := cv_Gn_in P n (g % 4) F
  have u1 := cv_Gn_in P n 7 F
  have u2 := cv_Gn_7 (cv_P hQ) (g % 4) F
  exact cv_le (cv_Gn P n (g % 4) F 120) (cv_Gn P n 7 F 120) (fun _ => nm_r (nI_1 g) (hJ _ _)) (fun z => absurd u2 (by omega))
theorem cv_s163n {post : Int32 → St1 → Prop} {J : Int32 → Int32 → (Nat → Int32) → (Nat → Int32) → (Nat → Int32) → (Nat → Int32) → (Nat → Int32) → (Nat → Int32) → (Nat → Int32) → (Nat → Int32) → (Nat → Int32) → Prop} {n F g : Nat} {P : Nat → Nat} {A : Nat → Int} {a1 a2 a3 a4 a5 a6 a7 a8 a9 : Nat → Int32} {a b : Int} {x4 : Int32} (hQ : cv_Q n P A a1 a2 a3 a4 a5 a6 a7) (hF : F ≤ 32767) (hg : g < 8) (ha : a = 0) (hb : b = 0)
    (hJ : ∀ b8 b9, J (nI (g + 1)) (nI n) a1 a2 a3 a4 a5 a6 a7 b8 b9) : wL_sound_163 post J (nI F) (cv_I a) x4 (nI g) (cv_I b) (-4000000) (-4000000) 1 (nI n) a1 a2 a3 a4 a5 a6 a7 a8 a9 := by
  subst ha hb
  exact br_f (by decide) (br_f (by decide) (br_t rfl (br_t rfl (br_t rfl (br_t rfl (br_t rfl (br_t rfl (br_f (by decide) (cv_s284 hQ hF hg hJ)))))))))
theorem cv_s163s {post : Int32 → St1 → Prop} {J : Int32 → Int32 → (Nat → Int32) → (Nat → Int32) → (Nat → Int32) → (Nat → Int32) → (Nat → Int32) → (Nat → Int32) → (Nat → Int32) → (Nat → Int32) → (Nat → Int32) → Prop} {n F g b : Nat} {P : Nat → Nat} {A : Nat → Int} {a1 a2 a3 a4 a5 a6 a7 a8 a9 : Nat → Int32} {N T G s : Int} (hQ : cv_Q n P A a1 a2 a3 a4 a5 a6 a7) (hF : F ≤ 32767) (hg : g < 8)
    (hN : N ≤ 40) (hG0 : 0 < G) (hG1 : G ≤ N) (hs0 : -2000 ≤ s) (hs1 : s ≤ 2000) (hT0 : -2000 ≤ T) (hT1 : T ≤ 2000) (hT : T ≤ s * G) (hb : b < 120) (hb1 : g % 2 = 0 → b % 4 = 0) (hb2 : g / 4 % 2 = 0 → b ≤ 19)
    (hJ : ∀ b8 b9, J (nI (g + 1)) (nI n) a1 a2 a3 a4 a5 a6 a7 b8 b9) : wL_sound_163 post J (nI F) (cv_I N) (cv_I T) (nI g) (cv_I G) (cv_I s) (nI b) 0 (nI n) a1 a2 a3 a4 a5 a6 a7 a8 a9 := by
  have hp := cv_prod (s := s) (k := G) (M := 2000) (by omega) hs1 (by omega)
  have h284 : wL_sound_284 post J (nI F) (cv_I N) (cv_I T) (nI g) (nI n) a1 a2 a3 a4 a5 a6 a7 a8 a9 := cv_s284 hQ hF hg hJ
  have h268 : wL_sound_268 post J (nI F) (cv_I N) (cv_I T) (nI g) (nI b) (nI n) a1 a2 a3 a4 a5 a6 a7 a8 a9 :=
    ek_if (cv_and4 g hg) (fun z => br_t (nI_le (b := 19) (hb2 z) (by decide)) h284) (fun _ => h284)
  have e4 : nI b - nI b / 4 * 4 = nI (b % 4) := pk_rem (d := 4) (by omega) (by decide) (by decide)
  have h222 : wL_sound_222 post J (nI F) (cv_I N) (cv_I T) (nI g) (cv_I G) (cv_I s) (nI b) 0 0 0 (nI n) a1 a2 a3 a4 a5 a6 a7 a8 a9 := by
    refine br_t rfl (br_t rfl (br_f (nI_pos (by omega)) (br_f (nI_nlt (a := 119) (by omega) (by decide)) ?_)))
    refine cv_lt (s * G) T (fun z => absurd hT (by omega)) (fun _ => ?_) (cv_I_mul s G) rfl (by omega) (by omega)
    refine ek_if (cv_and1 g hg) (fun z => ⟨by decide, br_t ?_ h268⟩) (fun _ => h268)
    rw [e4, hb1 z]
    rfl
  have hnb : ¬ nI b = -4000000 := fun z => nI_pos (n := b) (by omega) (by rw [z]; decide)
  have h205 : wL_sound_205 post J (nI F) (cv_I N) (cv_I T) (nI g) (cv_I G) (cv_I s) (nI b) 0 0 0 (nI n) a1 a2 a3 a4 a5 a6 a7 a8 a9 := br_t rfl (br_f hnb h222)
  have h188 : wL_sound_188 post J (nI F) (cv_I N) (cv_I T) (nI g) (cv_I G) (cv_I s) (nI b) 0 0 0 (nI n) a1 a2 a3 a4 a5 a6 a7 a8 a9 := br_t rfl (cv_eq s (-4000000) (fun z => absurd z (by omega)) (fun _ => h205))
  exact cv_lt G 0 (fun z => absurd z (by omega)) (fun _ => cv_lt N G (fun z => absurd z (by omega)) (fun _ => cv_eq G 0 (fun z => absurd z (by omega)) (fun _ => h188)))
theorem cv_s120 {post : Int32 → St1 → Prop} {n F : Nat} {P : Nat → Nat} {A : Nat → Int} {a1 a2 a3 a4 a5 a6 a7 a8 a9 : Nat → Int32} (hQ : cv_Q n P A a1 a2 a3 a4 a5 a6 a7) (hF : F ≤ 32767) (H : ∀ b8 b9, post 1 (nI n, a1, a2, a3, a4, a5, a6, a7, b8, b9)) :
    ∃ fu, wL_sound_120 post (nI F) (cv_I (cv_G P cv_o n 0 F 0)) (cv_I (cv_G P A n 0 F 0)) fu 0 (nI n) a1 a2 a3 a4 a5 a6 a7 a8 a9 := by
  have hP := cv_P hQ
  refine pk_loop (fun m i s => wL_sound_120 post (nI F) (cv_I (cv_G P cv_o n 0 F 0)) (cv_I (cv_G P A n 0 F 0)) m (nI i) (nI n) a1 a2 a3 a4 a5 a6 a7 s.1 s.2) (fun _ _ => True) 8 0 (a8, a9) (by omega) trivial ?_ ?_
  · rintro m ⟨b8, b9⟩ _
    refine pk_le 8 8 (fun _ => ?_) (fun z => absurd z (by omega))
    refine cv_growthX hQ 1 20 0 (by decide) (by decide) rfl rfl (fun b8 b9 => ?_)
    refine cv_growthX hQ 2 40 20 (by decide) (by decide) rfl rfl (fun b8 b9 => ?_)
    refine cv_growthX hQ 3 60 40 (by decide) (by decide) rfl rfl (fun b8 b9 => ?_)
    refine cv_growthX hQ 4 80 60 (by decide) (by decide) rfl rfl (fun b8 b9 => ?_)
    refine cv_growthX hQ 5 100 80 (by decide) (by decide) rfl rfl (fun b8 b9 => ?_)
    refine nm_e ?_
    refine cv_sum (F := 16895) hQ (by decide) (fun b8 b9 => ?_)
    refine cv_sum (F := 1023) hQ (by decide) (fun b8 b9 => ?_)
    refine br_t ?_ ?_
    · rw [cv_I_add, cv_I_add, cv_I_add, cv_I_add, cv_I_sub, ← cv_month5 hP, ← cv_month0 hP]
      congr 1
      omega
    · refine cv_growth6 (br_t rfl ?_)
      refine cv_quarter2 (br_t rfl ?_)
      refine cv_sumB (br_t rfl ?_)
      exact cv_groupsB (br_t rfl (H _ _))
  · rintro m i ⟨b8, b9⟩ hi _ hw
    have hJ : ∀ b8 b9, wL_sound_120 post (nI F) (cv_I (cv_G P cv_o n 0 F 0)) (cv_I (cv_G P A n 0 F 0)) m (nI (i + 1)) (nI n) a1 a2 a3 a4 a5 a6 a7 b8 b9 := fun b8 b9 => hw (b8, b9) trivial
    have hn := hQ.1.1
    have hc := cv_C_in (P := P) (γ := 0) (F := F) 0 hn
    have ht := cv_G_in2 (γ := 0) (F := F) hQ.1 0
    have hgl := cv_Gn_le hP i F
    have hg0 := cv_Gn_nonneg P n i F 120
    refine pk_le 8 i (fun z => absurd z (by omega)) (fun _ => ?_)
    refine cv_groups hQ hi hF (fun b8 b9 => ?_)
    refine cv_topSum hQ hi hF (fun hz b8 b9 => ?_) (fun b hb b8 b9 => ?_)
    · have hN : cv_G P cv_o n 0 F 0 = 0 := by
        rcases Int.lt_or_le 0 (cv_G P cv_o n 0 F 0) with z | z
        · exact absurd hz (cv_Gn_pos hP i F z).2
        · omega
      refine cv_topGroup hQ hi hF (fun _ b8 b9 => ?_) (fun b hb b8 b9 => absurd (hz b hb.1) (by have := hb.2.1; omega))
      exact cv_eq (cv_G P cv_o n 0 F 0) 0 (fun z => cv_s163n hQ hF hi hN (by omega) hJ) (fun z => absurd hN z)
    · have hN : 0 < cv_G P cv_o n 0 F 0 := by
        rcases Int.lt_or_le 0 (cv_G P cv_o n 0 F 0) with z | z
        · exact z
        · have := cv_none (γ := i) z b
          have := hb.2.1
          omega
      refine cv_topGroup hQ hi hF (fun hz b8 b9 => absurd (hz b hb.1) (by have := hb.2.1; omega)) (fun b' hb' b8 b9 => ?_)
      have hs := cv_G_in2 (γ := i) (F := F) hQ.1 b
      have hat := cv_top_at hP hb'
      exact cv_eq (cv_G P cv_o n 0 F 0) 0 (fun z => absurd z (by omega)) (fun z => cv_s163s hQ hF hi hc.2 (cv_Gn_pos hP i F hN).1 hgl hs.1 hs.2 ht.1 ht.2 (cv_top_le hP hb) hb'.1 hat.1 hat.2 hJ)
theorem cv_sound {post : Int32 → St1 → Prop} {n F : Nat} {P : Nat → Nat} {A : Nat → Int} {a1 a2 a3 a4 a5 a6 a7 a8 a9 : Nat → Int32} (hQ : cv_Q n P A a1 a2 a3 a4 a5 a6 a7) (hF : F ≤ 32767) (H : ∀ b8 b9, post 1 (nI n, a1, a2, a3, a4, a5, a6, a7, b8, b9)) : wpL_sound post (nI n, a1, a2, a3, a4, a5, a6, a7, a8, a9) (nI F) := by
  have hn := hQ.1.1
  have hc := cv_C_in (P := P) (γ := 0) (F := F) 0 hn
  have hcn : cv_G P cv_o n 0 F 0 ≤ n := cv_S_o_le _ _ _
  have ht := cv_G_in2 (γ := 0) (F := F) hQ.1 0
  have ht2 := cv_G_in (γ := 0) (F := F) hQ.1 0
  unfold wpL_sound
  refine cv_facts ?_
  refine cv_count hQ hF (fun b8 b9 => ?_)
  refine cv_sum hQ hF (fun b8 b9 => ?_)
  refine cv_greatest hQ hF (fun B hB => ?_)
  refine br_f (nI_pos (by omega)) (br_f (nI_nlt (a := 40) hn (by decide)) ?_)
  refine cv_lt (cv_G P cv_o n 0 F 0) 0 (fun z => absurd z (by omega)) (fun _ => ?_)
  refine cv_lt (n : Int) (cv_G P cv_o n 0 F 0) (fun z => absurd z (by omega)) (fun _ => ?_) (cv_I_nat n) rfl (by omega) (by omega)
  refine cv_lt (50 * cv_G P cv_o n 0 F 0) (cv_G P A n 0 F 0) (fun z => absurd z (by omega)) (fun _ => ?_) (cv_I_mul 50 _) rfl (by omega) (by omega)
  have e50 : (-50 : Int32) = cv_I (-50) := by decide
  have e51 : (-50 : Int32) * cv_I (cv_G P cv_o n 0 F 0) = cv_I ((-50) * cv_G P cv_o n 0 F 0) := by
    rw [e50]
    exact cv_I_mul (-50) _
  refine cv_lt (cv_G P A n 0 F 0) ((-50) * cv_G P cv_o n 0 F 0) (fun z => absurd z (by omega)) (fun _ => ?_) rfl e51 (by omega) (by omega)
  have h120 := cv_s120 (a8 := b8) (a9 := b9) hQ hF H
  rcases cv_mx_law hB with ⟨h0, hB0⟩ | ⟨h0, hB0, hB1, hB2⟩
  · subst hB0
    refine cv_eq (cv_G P cv_o n 0 F 0) 0 (fun _ => br_t rfl (br_t rfl ?_)) (fun z => absurd h0 z)
    exact cv_le (cv_G P cv_o n 0 F 0) 0 (fun _ => h120) (fun z => absurd z (by omega))
  · have hp := cv_prod (s := B) (k := cv_G P cv_o n 0 F 0) (M := 50) (by omega) hB1 (by omega)
    refine cv_eq (cv_G P cv_o n 0 F 0) 0 (fun z => absurd z (by omega)) (fun _ => cv_eq B (-4000000) (fun z => absurd z (by omega)) (fun _ => br_t rfl ?_))
    refine cv_le (cv_G P cv_o n 0 F 0) 0 (fun z => absurd z (by omega)) (fun _ => ?_)
    refine cv_lt 50 B (fun z => absurd z (by omega)) (fun _ => ?_)
    refine cv_lt B (-50) (fun z => absurd z (by omega)) (fun _ => ?_)
    exact cv_le (cv_G P A n 0 F 0) (B * cv_G P cv_o n 0 F 0) (fun _ => h120) (fun z => absurd hB2 (by omega)) rfl (cv_I_mul B _) (by omega) (by omega)
end
section
/-! ===== a turn, the law's loop ===== -/
/-- what a turn answers and does: before n facts and the total t, behind it n' and t' -/
def cv_R (o : Nat) (y r : Int32) (n n' : Nat) (t t' : Int32) : Prop := (r ≤ -1000000 ∧ n' = n ∧ t' = t) ∨ (¬ r ≤ -1000000 ∧ ((o < 10 ∧ n' = n + 1 ∧ t' = t + y ∧ r = nI n) ∨ (o = 10 ∧ n = n' + 1 ∧ t' = t + (-r)) ∨ (10 < o ∧ o < 14 ∧ n' = n ∧ t' = t + (y - r)) ∨ (14 ≤ o ∧ n' = n ∧ t' = t)))
theorem cv_big {a : Int} (h : -1000 ≤ a) (h' : a ≤ 1000) : ¬ cv_I a ≤ -1000000 := by
  intro z
  have t := Int32.le_iff_toInt_le.mp z
  rw [cv_I_toInt (by omega) (by omega)] at t
  have e : (-1000000 : Int32).toInt = -1000000 := by decide
  rw [e] at t
  omega
theorem cv_turn {post : Int32 → St1 → Prop} {n o : Nat} {P : Nat → Nat} {A : Nat → Int} {a1 a2 a3 a4 a5 a6 a7 a8 a9 : Nat → Int32} {x y : Int32} (hQ : cv_Q n P A a1 a2 a3 a4 a5 a6 a7) (ho : o < 16)
    (H : ∀ (r : Int32) (n' : Nat) (P' : Nat → Nat) (A' : Nat → Int) (b1 b2 b3 b4 b5 b6 b7 b8 b9 : Nat → Int32), cv_Q n' P' A' b1 b2 b3 b4 b5 b6 b7 → cv_R o y r n n' (cv_I (cv_G P A n 0 32767 0)) (cv_I (cv_G P' A' n' 0 32767 0)) → post r (nI n', b1, b2, b3, b4, b5, b6, b7, b8, b9)) :
    wpL_turn post (nI n, a1, a2, a3, a4, a5, a6, a7, a8, a9) (nI o) x y := by
  have e15 : nI o &&& 15 = nI o := by
    have t : nI o &&& 15 = nI (o % 16) := pk_andN (m := 15) (by omega) 4 (by decide)
    rw [t, Nat.mod_eq_of_lt ho]
  have hn := hQ.1.1
  unfold wpL_turn
  refine nm_r e15 ?_
  refine pk_le 10 o (fun h10 => pk_eq o 10 (fun he => ?_) (fun hne => pk_le 14 o (fun h14 => ?_) (fun h14 => ?_))) (fun h10 => ?_)
  · refine cv_removeW hQ (H _ n P A _ _ _ _ _ _ _ _ _ hQ (Or.inl ⟨by decide, rfl, rfl⟩)) (fun k b3 b6 b7 hk h0 h1 hp hQ' => ?_)
    refine H _ k P A _ _ _ _ _ _ _ _ _ hQ' (Or.inr ⟨cv_big (by omega) (by omega), Or.inr (Or.inl ⟨he, hk, ?_⟩)⟩)
    subst hk
    rw [cv_I_neg, cv_I_add]
    have s : cv_G P A (k + 1) 0 32767 0 = cv_G P A k 0 32767 0 + (if cv_c 0 32767 0 (P k) = true then A k else 0) := rfl
    rw [s, if_pos (cv_all _ hp)]
    congr 1
    omega
  · refine cv_planW hQ (fun r b5 b6 b7 hr hQ' => ?_)
    rcases hr with rfl | rfl
    · exact H _ n P A _ _ _ _ _ _ _ _ _ hQ' (Or.inr ⟨by decide, Or.inr (Or.inr (Or.inr ⟨h14, rfl, rfl⟩))⟩)
    · exact H _ n P A _ _ _ _ _ _ _ _ _ hQ' (Or.inl ⟨by decide, rfl, rfl⟩)
  · refine cv_changeW hQ (H _ n P A _ _ _ _ _ _ _ _ _ hQ (Or.inl ⟨by decide, rfl, rfl⟩)) (fun i v b2 b6 b7 hi hy h0 h1 hp hQ' => ?_)
    refine H _ n P (cv_u A i v) _ _ _ _ _ _ _ _ _ hQ' (Or.inr ⟨cv_big (by omega) (by omega), Or.inr (Or.inr (Or.inl ⟨by omega, h14, rfl, ?_⟩))⟩)
    rw [hy, cv_I_sub, cv_I_add]
    have s : cv_G P (cv_u A i v) n 0 32767 0 = cv_G P A n 0 32767 0 + (if cv_c 0 32767 0 (P i) = true then cv_u A i v i - A i else 0) := cv_S_chg hi (fun j hj => cv_un hj) _
    rw [s, if_pos (cv_all _ hp), cv_us]
  · refine cv_addW hQ (fun r hr => H _ n P A _ _ _ _ _ _ _ _ _ hQ (Or.inl ⟨hr, rfl, rfl⟩)) (fun p v b1 b2 b3 b4 b6 b7 hy hp h40 hQ' => ?_)
    refine H _ (n + 1) (cv_u P n p) (cv_u A n v) _ _ _ _ _ _ _ _ _ hQ' (Or.inr ⟨by rw [cv_I_nat]; exact cv_big (by omega) (by omega), Or.inl ⟨h10, rfl, ?_, rfl⟩⟩)
    rw [hy, cv_I_add]
    have s : cv_G (cv_u P n p) (cv_u A n v) (n + 1) 0 32767 0 = cv_G (cv_u P n p) (cv_u A n v) n 0 32767 0 + (if cv_c 0 32767 0 (cv_u P n p n) = true then cv_u A n v n else 0) := rfl
    have s2 : cv_G (cv_u P n p) (cv_u A n v) n 0 32767 0 = cv_G P A n 0 32767 0 := cv_S_congr (fun i hi => by rw [cv_un (by omega)]) (fun i hi => cv_un (by omega))
    rw [s, cv_us, cv_us, if_pos (cv_all _ hp), s2]
theorem cv_l73 {post : Int32 → Prop} {L kc ks : Nat} {xs : Nat → Int32} {J : Int32 → Int32 → (Nat → Int32) → (Nat → Int32) → (Nat → Int32) → (Nat → Int32) → (Nat → Int32) → (Nat → Int32) → (Nat → Int32) → (Nat → Int32) → (Nat → Int32) → Prop} {n n' o : Nat} {P : Nat → Nat} {A : Nat → Int} {a1 a2 a3 a4 a5 a6 a7 a8 a9 : Nat → Int32} {x2 y r t z0 : Int32} (hQ : cv_Q n' P A a1 a2 a3 a4 a5 a6 a7) (ho : o < 16) (hin : vp_in (x2 + 1) L)
    (hR : cv_R o y r n n' t (cv_I (cv_G P A n' 0 32767 0))) (hz : (z0 = 0 ∧ r ≤ -1000000) ∨ (z0 = 1 ∧ ¬ r ≤ -1000000)) (hJ : ∀ b8 b9, J (x2 + 3) (nI n') a1 a2 a3 a4 a5 a6 a7 b8 b9) :
    wL_law_73 post L xs J x2 (nI o) y (nI n) t r z0 kc ks (nI n') a1 a2 a3 a4 a5 a6 a7 a8 a9 := by
  unfold wL_law_73
  refine cv_facts ?_
  refine cv_sum (F := 32767) hQ (by decide) (fun b8 b9 => ?_)
  refine ⟨hin, ?_⟩
  obtain ⟨j, hj, ej⟩ := pk_andE (xs (x2 + 1).toNatClampNeg) (m := 511) 9 (by decide)
  obtain ⟨k, hk, ek⟩ := pk_andE y (m := 63) 6 (by decide)
  have eF : (xs (x2 + 1).toNatClampNeg &&& 511) * 64 + (y &&& 63) = nI (j * 64 + k) := by
    rw [ej, ek, ← nI_add, ← pk_mul]
    rfl
  rw [eF]
  refine cv_sound hQ (by omega) (fun b8 b9 => ?_)
  refine br_f (by decide) ?_
  refine cv_sound (F := 32767) hQ (by decide) (fun b8 b9 => ?_)
  refine br_f (by decide) ?_
  have next := nm_e (P := fun y => J y (nI n') a1 a2 a3 a4 a5 a6 a7 b8 b9) (hJ b8 b9)
  generalize cv_I (cv_G P A n' 0 32767 0) = t' at *
  rcases hR with ⟨hd, en, et⟩ | ⟨hd, hR⟩
  · rcases hz with ⟨z, _⟩ | ⟨_, w⟩
    · subst z en et
      exact br_t rfl (br_t (Int32.add_zero _).symm (br_t rfl (br_t rfl (br_t rfl next))))
    · exact absurd hd w
  · rcases hz with ⟨_, w⟩ | ⟨z, _⟩
    · exact absurd w hd
    · subst z
      refine br_f (by decide) ?_
      rcases hR with ⟨h10, en, et, er⟩ | ⟨h10, en, et⟩ | ⟨h10, h14, en, et⟩ | ⟨h14, en, et⟩
      · subst en et er
        exact pk_le o 13 (fun _ => pk_le 10 o (fun z => absurd z (by omega)) (fun _ => br_t rfl (br_f (by decide) (pk_le 10 o (fun z => absurd z (by omega)) (fun _ => br_t (nI_1 n).symm (br_f (by decide) (pk_le 10 o (fun z => absurd z (by omega)) (fun _ => br_t rfl next)))))))) (fun z => absurd z (by omega))
      · subst h10 en et
        exact br_t (by decide) (br_t (by decide) (br_t rfl (br_t rfl (br_f (by decide) (br_t (by decide) (br_t rfl (br_t (nI_pred n').symm (br_f (by decide) (br_t (by decide) next)))))))))
      · subst en et
        exact pk_le o 13 (fun _ => pk_le 10 o (fun _ => pk_eq o 10 (fun z => absurd z (by omega)) (fun _ => br_t rfl (br_f (by decide) (pk_le 10 o (fun _ => pk_eq o 10 (fun z => absurd z (by omega)) (fun _ => br_t rfl (br_f (by decide) (pk_le 10 o (fun _ => next) (fun z => absurd z (by omega)))))) (fun z => absurd z (by omega)))))) (fun z => absurd z (by omega))) (fun z => absurd z (by omega))
      · subst en et
        exact pk_le o 13 (fun z => absurd z (by omega)) (fun _ => br_t (Int32.add_zero _).symm (br_f (by decide) (pk_le 10 o (fun _ => pk_eq o 10 (fun z => absurd z (by omega)) (fun _ => br_t rfl (br_f (by decide) (pk_le 10 o (fun _ => next) (fun z => absurd z (by omega)))))) (fun z => absurd z (by omega)))))
theorem i_vc (xs : Nat → Int32) (L : Nat) (hL : L ≤ 260) : wpL_law (fun r => r = 1) L xs := by
  refine ⟨9, 2408, by decide, by decide, cv_init (fun b3 hQ => ?_)⟩
  refine lp11 (wL_law_10 (fun r => r = 1) L xs (1 + 9) (10 + 2408)) (fun x2 c a1 a2 a3 a4 a5 a6 a7 a8 a9 => ∃ (j n : Nat) (P : Nat → Nat) (A : Nat → Int), x2 = nI j ∧ j ≤ L ∧ c = nI n ∧ cv_Q n P A a1 a2 a3 a4 a5 a6 a7) (fun x2 _ _ _ _ _ _ _ _ _ _ => L - x2.toNatClampNeg) ?_ _ _ _ _ _ _ _ _ _ _ _ ⟨0, 0, _, _, nI_0.symm, by omega, rfl, hQ⟩
  rintro m x2 c a1 a2 a3 a4 a5 a6 a7 a8 a9 ⟨j, n, P, A, rfl, hj, rfl, hQ⟩ ih
  have e2 : nI j + 2 = nI (j + 2) := nI_add j 2
  refine pk_le L (j + 2) (fun _ => (rfl : (1 : Int32) = 1)) (fun hlt => ?_) rfl e2 (by omega) (by omega)
  obtain ⟨o, ho, eo⟩ := pk_andE (xs (nI j).toNatClampNeg) (m := 15) 4 (by decide)
  have hin : vp_in (nI j + 1) L := pk_in (j + 1) L (by omega) (nI_add j 1) (by omega)
  refine ⟨pk_in j L (by omega) rfl (by omega), nm_r eo ⟨pk_in (j + 2) L (by omega) e2 (by omega), nm_e ?_⟩⟩
  refine cv_facts ?_
  refine cv_sum (F := 32767) hQ (by decide) (fun b8 b9 => ?_)
  refine ⟨hin, ?_⟩
  refine cv_turn hQ (by omega) (fun r n' P' A' c1 c2 c3 c4 c5 c6 c7 c8 c9 hQ' hR => ?_)
  have hJ : ∀ d8 d9, wL_law_10 (fun r => r = 1) L xs (1 + 9) (10 + 2408) m (nI j + 3) (nI n') c1 c2 c3 c4 c5 c6 c7 d8 d9 := fun d8 d9 => ih _ _ _ _ _ _ _ _ _ _ _ ⟨j + 3, n', P', A', nI_add j 3, by omega, rfl, hQ'⟩ (by
    show L - (nI j + 3).toNatClampNeg < L - (nI j).toNatClampNeg
    have e3 : nI j + 3 = nI (j + 3) := nI_add j 3
    rw [e3, nI_clamp (by omega), nI_clamp (by omega)]
    omega)
  exact br_c (fun z => cv_l73 hQ' (by omega) hin hR (Or.inl ⟨rfl, z⟩) hJ) (fun z => cv_l73 hQ' (by omega) hin hR (Or.inr ⟨rfl, z⟩) hJ)
end
