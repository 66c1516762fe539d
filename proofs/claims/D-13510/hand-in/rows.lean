section
/-! sums over the facts i < n that P picks -/
def cv_s (a : Nat → Int32) (P : Nat → Bool) : Nat → Int32
  | 0 => 0
  | n + 1 => cv_s a P n + (if P n = true then a n else 0)
def cv_n (P : Nat → Bool) : Nat → Nat
  | 0 => 0
  | n + 1 => cv_n P n + (if P n = true then 1 else 0)
theorem cv_sS (a : Nat → Int32) (P : Nat → Bool) (n : Nat) : cv_s a P (n + 1) = cv_s a P n + (if P n = true then a n else 0) := rfl
theorem cv_nS (P : Nat → Bool) (n : Nat) : cv_n P (n + 1) = cv_n P n + (if P n = true then 1 else 0) := rfl
theorem cv_sT {a : Nat → Int32} {P : Nat → Bool} {n : Nat} (h : P n = true) : cv_s a P (n + 1) = cv_s a P n + a n := by
  rw [cv_sS, if_pos h]
theorem cv_sF {a : Nat → Int32} {P : Nat → Bool} {n : Nat} (h : P n = false) : cv_s a P (n + 1) = cv_s a P n := by
  rw [cv_sS, h, if_neg (by decide), Int32.add_zero]
theorem cv_congr {a b : Nat → Int32} {P Q : Nat → Bool} {n : Nat} (h : ∀ i, i < n → a i = b i ∧ P i = Q i) : cv_s a P n = cv_s b Q n := by
  induction n with
  | zero => rfl
  | succ n ih =>
    have e := h n (by omega)
    rw [cv_sS, cv_sS, ih (fun i hi => h i (by omega)), e.1, e.2]
theorem cv_cong {a : Nat → Int32} {P Q : Nat → Bool} {n : Nat} (h : ∀ i, i < n → P i = Q i) : cv_s a P n = cv_s a Q n :=
  cv_congr (fun i hi => ⟨rfl, h i hi⟩)
theorem cv_zero {a : Nat → Int32} {P : Nat → Bool} {n : Nat} (h : ∀ i, i < n → P i = false) : cv_s a P n = 0 := by
  induction n with
  | zero => rfl
  | succ n ih => rw [cv_sF (h n (by omega)), ih (fun i hi => h i (by omega))]
theorem cv_or {a : Nat → Int32} {P Q R : Nat → Bool} {n : Nat} (h : ∀ i, i < n → P i = (Q i || R i) ∧ (Q i && R i) = false) : cv_s a P n = cv_s a Q n + cv_s a R n := by
  induction n with
  | zero => rfl
  | succ n ih =>
    have e := h n (by omega)
    have e2 := e.2
    rw [cv_sS, cv_sS, cv_sS, ih (fun i hi => h i (by omega)), e.1]
    generalize cv_s a Q n = x
    generalize cv_s a R n = y
    generalize a n = z
    generalize Q n = q at e2 ⊢
    generalize R n = r at e2 ⊢
    cases q <;> cases r
    · simp
    · show x + y + z = x + 0 + (y + z)
      grind
    · show x + y + z = x + z + (y + 0)
      grind
    · exact absurd e2 (by decide)
theorem cv_one (P : Nat → Bool) (n : Nat) : cv_s (fun _ => 1) P n = nI (cv_n P n) := by
  induction n with
  | zero => rfl
  | succ n ih =>
    rw [cv_sS, cv_nS, ih]
    by_cases h : P n = true
    · rw [if_pos h, if_pos h, nI_1]
    · rw [if_neg h, if_neg h, Int32.add_zero, Nat.add_zero]
theorem cv_n_le (P : Nat → Bool) (n : Nat) : cv_n P n ≤ n := by
  induction n with
  | zero => exact Nat.le_refl 0
  | succ n ih =>
    rw [cv_nS]
    by_cases h : P n = true
    · rw [if_pos h]; omega
    · rw [if_neg h]; omega
theorem cv_n_0 {P : Nat → Bool} {n : Nat} (h : cv_n P n = 0) : ∀ i, i < n → P i = false := by
  induction n with
  | zero => exact fun i hi => absurd hi (by omega)
  | succ n ih =>
    rw [cv_nS] at h
    intro i hi
    by_cases e : P n = true
    · rw [if_pos e] at h
      omega
    · by_cases ei : i = n
      · rw [ei]
        exact Bool.eq_false_iff.mpr e
      · exact ih (by omega) i (by omega)
/-- no count, no fact -/
theorem cv_none {P : Nat → Bool} {n : Nat} (hn : n ≤ 40) (h : cv_s (fun _ => 1) P n ≤ 0) : ∀ i, i < n → P i = false := by
  have l := cv_n_le P n
  rw [cv_one] at h
  have h' : nI (cv_n P n) ≤ nI 0 := h
  rw [nI_leI (by omega) (by omega)] at h'
  exact cv_n_0 (by omega)
theorem cv_addI {x y : Int32} {b c : Int} (hx : -b ≤ x.toInt ∧ x.toInt ≤ b) (hy : -c ≤ y.toInt ∧ y.toInt ≤ c) (h : b + c ≤ 1000000) : -(b + c) ≤ (x + y).toInt ∧ (x + y).toInt ≤ b + c := by
  rw [Int32.toInt_add, Int.bmod_eq_of_le_mul_two (by omega) (by omega)]
  omega
theorem cv_bd {a : Nat → Int32} {P : Nat → Bool} {n : Nat} (hn : n ≤ 40) (h : ∀ i, i < n → -50 ≤ (a i).toInt ∧ (a i).toInt ≤ 50) : -(50 * (n : Int)) ≤ (cv_s a P n).toInt ∧ (cv_s a P n).toInt ≤ 50 * (n : Int) := by
  induction n with
  | zero => exact ⟨by show -(50 * ((0 : Nat) : Int)) ≤ (0 : Int32).toInt; decide, by show (0 : Int32).toInt ≤ 50 * ((0 : Nat) : Int); decide⟩
  | succ n ih =>
    have i1 := ih (by omega) (fun i hi => h i (by omega))
    have i2 := h n (by omega)
    rw [cv_sS]
    have i3 : -50 ≤ (if P n = true then a n else 0).toInt ∧ (if P n = true then a n else 0).toInt ≤ 50 := by
      by_cases e : P n = true
      · rw [if_pos e]; exact i2
      · rw [if_neg e]; decide
    have i4 := cv_addI i1 i3 (by omega)
    omega
/-- every sum is above -4000000 -/
theorem cv_top {a : Nat → Int32} {P : Nat → Bool} {n : Nat} (hn : n ≤ 40) (h : ∀ i, i < n → -50 ≤ (a i).toInt ∧ (a i).toInt ≤ 50) : ¬ cv_s a P n ≤ -4000000 := by
  have b := cv_bd (P := P) hn h
  rw [Int32.le_iff_toInt_le]
  have e : (-4000000 : Int32).toInt = -4000000 := by decide
  rw [e]
  omega
theorem cv_upd {a : Nat → Int32} {P : Nat → Bool} {n i : Nat} {v : Int32} (hi : i < n) : cv_s (upd a i v) P n = cv_s a P n + (if P i = true then v - a i else 0) := by
  induction n with
  | zero => exact absurd hi (by omega)
  | succ n ih =>
    rw [cv_sS, cv_sS]
    by_cases e : i = n
    · rw [e, pk_us, cv_congr (a := upd a n v) (b := a) (P := P) (Q := P) (n := n) (fun j hj => ⟨pk_un (by omega), rfl⟩)]
      by_cases p : P n = true
      · rw [if_pos p, if_pos p, if_pos p]
        generalize cv_s a P n = x
        generalize a n = z
        grind
      · rw [if_neg p, if_neg p, if_neg p]
        generalize cv_s a P n = x
        grind
    · rw [ih (by omega), pk_un (by omega)]
      generalize cv_s a P n = x
      generalize (if P i = true then v - a i else 0) = y
      generalize (if P n = true then a n else 0) = z
      grind
/-! places, groups, filters -/
def cv_g (p g : Nat) : Nat := (if g.testBit 0 = true then p % 4 else 0) + 4 * (if g.testBit 1 = true then p / 4 % 5 else 0) + 20 * (if g.testBit 2 = true then p / 20 else 0)
def cv_p (p F : Nat) : Bool := F.testBit (p % 4) && F.testBit (4 + p / 4 % 5) && F.testBit (9 + p / 20)
def cv_pd (p F d : Nat) : Bool := (!d.testBit 0 || F.testBit (p % 4)) && (!d.testBit 1 || F.testBit (4 + p / 4 % 5)) && (!d.testBit 2 || F.testBit (9 + p / 20))
def cv_c (F : Nat) : Nat := (if F % 16 = 15 then 0 else 1) + (if F / 16 % 32 = 31 then 0 else 2) + (if F / 512 = 63 then 0 else 4)
theorem cv_g_lt {p g : Nat} (hp : p < 120) : cv_g p g < 120 := by
  unfold cv_g
  split <;> split <;> split <;> omega
theorem cv_g_r (p g : Nat) : cv_g p g % 4 = if g.testBit 0 = true then p % 4 else 0 := by
  unfold cv_g
  split <;> split <;> split <;> omega
theorem cv_g_k (p g : Nat) : cv_g p g / 4 % 5 = if g.testBit 1 = true then p / 4 % 5 else 0 := by
  unfold cv_g
  split <;> split <;> split <;> omega
theorem cv_g_m (p g : Nat) : cv_g p g / 20 = if g.testBit 2 = true then p / 20 else 0 := by
  unfold cv_g
  split <;> split <;> split <;> omega
theorem cv_g_g {p g h : Nat} (s : ∀ j, h.testBit j = true → g.testBit j = true) : cv_g (cv_g p g) h = cv_g p h := by
  have s0 := s 0
  have s1 := s 1
  have s2 := s 2
  show (if h.testBit 0 = true then cv_g p g % 4 else 0) + 4 * (if h.testBit 1 = true then cv_g p g / 4 % 5 else 0) + 20 * (if h.testBit 2 = true then cv_g p g / 20 else 0) = cv_g p h
  rw [cv_g_r, cv_g_k, cv_g_m]
  unfold cv_g
  have e0 : (if h.testBit 0 = true then (if g.testBit 0 = true then p % 4 else 0) else 0) = if h.testBit 0 = true then p % 4 else 0 := by
    by_cases z : h.testBit 0 = true
    · rw [if_pos z, if_pos z, if_pos (s0 z)]
    · rw [if_neg z, if_neg z]
  have e1 : (if h.testBit 1 = true then (if g.testBit 1 = true then p / 4 % 5 else 0) else 0) = if h.testBit 1 = true then p / 4 % 5 else 0 := by
    by_cases z : h.testBit 1 = true
    · rw [if_pos z, if_pos z, if_pos (s1 z)]
    · rw [if_neg z, if_neg z]
  have e2 : (if h.testBit 2 = true then (if g.testBit 2 = true then p / 20 else 0) else 0) = if h.testBit 2 = true then p / 20 else 0 := by
    by_cases z : h.testBit 2 = true
    · rw [if_pos z, if_pos z, if_pos (s2 z)]
    · rw [if_neg z, if_neg z]
  rw [e0, e1, e2]
theorem cv_g_7 {p : Nat} : cv_g p 7 = p := by
  unfold cv_g
  rw [if_pos (by decide), if_pos (by decide), if_pos (by decide)]
  omega
theorem cv_g_0 {p : Nat} : cv_g p 0 = 0 := by
  unfold cv_g
  rw [if_neg (by decide), if_neg (by decide), if_neg (by decide)]
theorem cv_g_4 {p : Nat} : cv_g p 4 = 20 * (p / 20) := by
  unfold cv_g
  rw [if_neg (by decide), if_neg (by decide), if_pos (by decide)]
  omega
theorem cv_c_lt (F : Nat) : cv_c F < 8 := by
  unfold cv_c
  split <;> split <;> split <;> omega
theorem cv_c0 {F : Nat} (h : (cv_c F).testBit 0 = false) : F % 16 = 15 := by
  unfold cv_c at h
  by_cases z : F % 16 = 15
  · exact z
  · rw [if_neg z] at h
    revert h
    split <;> split <;> exact fun w => absurd w (by decide)
theorem cv_c1 {F : Nat} (h : (cv_c F).testBit 1 = false) : F / 16 % 32 = 31 := by
  unfold cv_c at h
  by_cases z : F / 16 % 32 = 31
  · exact z
  · rw [if_neg z] at h
    revert h
    split <;> split <;> exact fun w => absurd w (by decide)
theorem cv_c2 {F : Nat} (h : (cv_c F).testBit 2 = false) : F / 512 = 63 := by
  unfold cv_c at h
  by_cases z : F / 512 = 63
  · exact z
  · rw [if_neg z] at h
    revert h
    split <;> split <;> exact fun w => absurd w (by decide)
theorem cv_f0 {F j : Nat} (h : F % 16 = 15) (hj : j < 4) : F.testBit j = true := by
  have e := Nat.testBit_mod_two_pow F 4 j
  rw [show F % 2 ^ 4 = 15 from h, decide_eq_true hj, Bool.true_and] at e
  rw [← e]
  exact (by decide : ∀ j, j < 4 → Nat.testBit 15 j = true) j hj
theorem cv_f1 {F j : Nat} (h : F / 16 % 32 = 31) (hj : j < 5) : F.testBit (4 + j) = true := by
  have e := Nat.testBit_mod_two_pow (F / 2 ^ 4) 5 j
  rw [show F / 2 ^ 4 % 2 ^ 5 = 31 from h, decide_eq_true hj, Bool.true_and, Nat.testBit_div_two_pow] at e
  rw [Nat.add_comm 4 j, ← e]
  exact (by decide : ∀ j, j < 5 → Nat.testBit 31 j = true) j hj
theorem cv_f2 {F j : Nat} (h : F / 512 = 63) (hj : j < 6) : F.testBit (9 + j) = true := by
  have e := Nat.testBit_div_two_pow (n := 9) F j
  rw [show F / 2 ^ 9 = 63 from h] at e
  rw [Nat.add_comm 9 j, ← e]
  exact (by decide : ∀ j, j < 6 → Nat.testBit 63 j = true) j hj
/-- a cell's place passes in the needed dimensions just when its facts pass -/
theorem cv_pd_g {p g F d : Nat} (hp : p < 120) (s : ∀ j, d.testBit j = true → g.testBit j = true) (h0 : d.testBit 0 = false → F % 16 = 15) (h1 : d.testBit 1 = false → F / 16 % 32 = 31) (h2 : d.testBit 2 = false → F / 512 = 63) : cv_pd (cv_g p g) F d = cv_p p F := by
  unfold cv_pd cv_p
  rw [cv_g_r, cv_g_k, cv_g_m]
  have e0 : (!d.testBit 0 || F.testBit (if g.testBit 0 = true then p % 4 else 0)) = F.testBit (p % 4) := by
    cases z : d.testBit 0
    · rw [cv_f0 (h0 z) (show p % 4 < 4 by omega)]
      rfl
    · rw [if_pos (s 0 z)]
      rfl
  have e1 : (!d.testBit 1 || F.testBit (4 + if g.testBit 1 = true then p / 4 % 5 else 0)) = F.testBit (4 + p / 4 % 5) := by
    cases z : d.testBit 1
    · rw [cv_f1 (h1 z) (show p / 4 % 5 < 5 by omega)]
      rfl
    · rw [if_pos (s 1 z)]
      rfl
  have e2 : (!d.testBit 2 || F.testBit (9 + if g.testBit 2 = true then p / 20 else 0)) = F.testBit (9 + p / 20) := by
    cases z : d.testBit 2
    · rw [cv_f2 (h2 z) (show p / 20 < 6 by omega)]
      rfl
    · rw [if_pos (s 2 z)]
      rfl
  rw [e0, e1, e2]
theorem cv_pd_7 (p F : Nat) : cv_pd p F 7 = cv_p p F := rfl
theorem cv_p_all {p : Nat} (hp : p < 120) : cv_p p 32767 = true := by
  unfold cv_p
  rw [cv_f0 (by decide) (by omega), cv_f1 (by decide) (by omega), cv_f2 (by decide) (by omega)]
  rfl
theorem cv_p_and (p A B : Nat) : cv_p p (A &&& B) = (cv_p p A && cv_p p B) := by
  unfold cv_p
  rw [Nat.testBit_and, Nat.testBit_and, Nat.testBit_and]
  generalize A.testBit (p % 4) = a
  generalize B.testBit (p % 4) = b
  generalize A.testBit (4 + p / 4 % 5) = c
  generalize B.testBit (4 + p / 4 % 5) = d
  generalize A.testBit (9 + p / 20) = e
  generalize B.testBit (9 + p / 20) = f
  revert a b c d e f
  decide
/-! the law's mask of a group -/
def cv_own (g p : Nat) : Nat := (if g.testBit 0 = true then 2 ^ (p % 4) else 15) + 16 * (if g.testBit 1 = true then 2 ^ (p / 4 % 5) else 31) + 512 * (if g.testBit 2 = true then 2 ^ (p / 20) else 63)
theorem cv_mb0 {R K M j : Nat} (hR : R < 16) (hj : j < 4) : (R + 16 * K + 512 * M).testBit j = R.testBit j := by
  have e := Nat.testBit_mod_two_pow (R + 16 * K + 512 * M) 4 j
  rw [show (R + 16 * K + 512 * M) % 2 ^ 4 = R by omega, decide_eq_true hj, Bool.true_and] at e
  exact e.symm
theorem cv_mb1 {R K M j : Nat} (hR : R < 16) (hK : K < 32) (hj : j < 5) : (R + 16 * K + 512 * M).testBit (4 + j) = K.testBit j := by
  have e := Nat.testBit_mod_two_pow ((R + 16 * K + 512 * M) / 2 ^ 4) 5 j
  rw [show (R + 16 * K + 512 * M) / 2 ^ 4 % 2 ^ 5 = K by omega, decide_eq_true hj, Bool.true_and, Nat.testBit_div_two_pow, Nat.add_comm j 4] at e
  exact e.symm
theorem cv_mb2 {R K M j : Nat} (hR : R < 16) (hK : K < 32) : (R + 16 * K + 512 * M).testBit (9 + j) = M.testBit j := by
  have e := Nat.testBit_div_two_pow (n := 9) (R + 16 * K + 512 * M) j
  rw [show (R + 16 * K + 512 * M) / 2 ^ 9 = M by omega, Nat.add_comm j 9] at e
  exact e.symm
theorem cv_pw4 : ∀ j, j < 4 → 2 ^ j < 16 := by decide
theorem cv_pw5 : ∀ j, j < 5 → 2 ^ j < 32 := by decide
theorem cv_pw6 : ∀ j, j < 6 → 2 ^ j < 64 := by decide
theorem cv_oR {g p : Nat} : (if g.testBit 0 = true then 2 ^ (p % 4) else 15) < 16 := by
  split
  · exact cv_pw4 _ (by omega)
  · decide
theorem cv_oK {g p : Nat} : (if g.testBit 1 = true then 2 ^ (p / 4 % 5) else 31) < 32 := by
  split
  · exact cv_pw5 _ (by omega)
  · decide
theorem cv_oM {g p : Nat} (hp : p < 120) : (if g.testBit 2 = true then 2 ^ (p / 20) else 63) < 64 := by
  split
  · exact cv_pw6 _ (by omega)
  · decide
theorem cv_own_lt {g p : Nat} (hp : p < 120) : cv_own g p < 32768 := by
  have h1 := cv_oR (g := g) (p := p)
  have h2 := cv_oK (g := g) (p := p)
  have h3 := cv_oM (g := g) hp
  unfold cv_own
  omega
theorem cv_own0 {g p j : Nat} (hj : j < 4) : (cv_own g p).testBit j = decide (g.testBit 0 = true → p % 4 = j) := by
  unfold cv_own
  rw [cv_mb0 cv_oR hj]
  by_cases z : g.testBit 0 = true
  · rw [if_pos z, Nat.testBit_two_pow]
    exact decide_eq_decide.mpr ⟨fun h _ => h, fun h => h z⟩
  · rw [if_neg z, (by decide : ∀ j, j < 4 → Nat.testBit 15 j = true) j hj]
    exact (decide_eq_true (fun y => absurd y z)).symm
theorem cv_own1 {g p j : Nat} (hj : j < 5) : (cv_own g p).testBit (4 + j) = decide (g.testBit 1 = true → p / 4 % 5 = j) := by
  unfold cv_own
  rw [cv_mb1 cv_oR cv_oK hj]
  by_cases z : g.testBit 1 = true
  · rw [if_pos z, Nat.testBit_two_pow]
    exact decide_eq_decide.mpr ⟨fun h _ => h, fun h => h z⟩
  · rw [if_neg z, (by decide : ∀ j, j < 5 → Nat.testBit 31 j = true) j hj]
    exact (decide_eq_true (fun y => absurd y z)).symm
theorem cv_own2 {g p j : Nat} (hj : j < 6) : (cv_own g p).testBit (9 + j) = decide (g.testBit 2 = true → p / 20 = j) := by
  unfold cv_own
  rw [cv_mb2 cv_oR cv_oK]
  by_cases z : g.testBit 2 = true
  · rw [if_pos z, Nat.testBit_two_pow]
    exact decide_eq_decide.mpr ⟨fun h _ => h, fun h => h z⟩
  · rw [if_neg z, (by decide : ∀ j, j < 6 → Nat.testBit 63 j = true) j hj]
    exact (decide_eq_true (fun y => absurd y z)).symm
/-- p stands for its own group just when it is 0 where g does not part -/
theorem cv_rep {g p : Nat} : cv_g p g = p ↔ ((g.testBit 0 = false → p % 4 = 0) ∧ (g.testBit 1 = false → p / 4 % 5 = 0)) ∧ (g.testBit 2 = false → p / 20 = 0) := by
  unfold cv_g
  generalize g.testBit 0 = b0
  generalize g.testBit 1 = b1
  generalize g.testBit 2 = b2
  cases b0 <;> cases b1 <;> cases b2 <;> simp <;> omega
theorem cv_gp {g p x : Nat} (e : cv_g p g = p) : cv_g x g = p ↔ ((g.testBit 0 = true → p % 4 = x % 4) ∧ (g.testBit 1 = true → p / 4 % 5 = x / 4 % 5)) ∧ (g.testBit 2 = true → p / 20 = x / 20) := by
  rw [cv_rep] at e
  unfold cv_g
  generalize g.testBit 0 = b0 at e ⊢
  generalize g.testBit 1 = b1 at e ⊢
  generalize g.testBit 2 = b2 at e ⊢
  cases b0 <;> cases b1 <;> cases b2 <;> simp at e ⊢ <;> omega
theorem cv_own_p {g p x : Nat} (hx : x < 120) (e : cv_g p g = p) : cv_p x (cv_own g p) = decide (cv_g x g = p) := by
  unfold cv_p
  rw [cv_own0 (by omega), cv_own1 (by omega), cv_own2 (by omega), ← Bool.decide_and, ← Bool.decide_and]
  exact decide_eq_decide.mpr (cv_gp e).symm
/-- the filter has all of a cell's bits just when the cell's place passes -/
theorem cv_cell {p F : Nat} (hp : p < 120) : F &&& cv_own 7 p = cv_own 7 p ↔ cv_p p F = true := by
  have c0 : ∀ j, j < 4 → (cv_own 7 p).testBit j = decide (p % 4 = j) := fun j hj => by
    rw [cv_own0 hj]
    exact decide_eq_decide.mpr ⟨fun h => h (by decide), fun h _ => h⟩
  have c1 : ∀ j, j < 5 → (cv_own 7 p).testBit (4 + j) = decide (p / 4 % 5 = j) := fun j hj => by
    rw [cv_own1 hj]
    exact decide_eq_decide.mpr ⟨fun h => h (by decide), fun h _ => h⟩
  have c2 : ∀ j, (cv_own 7 p).testBit (9 + j) = decide (p / 20 = j) := fun j => by
    unfold cv_own
    rw [cv_mb2 cv_oR cv_oK, if_pos (by decide), Nat.testBit_two_pow]
  constructor
  · intro h
    have t : ∀ j, (cv_own 7 p).testBit j = true → F.testBit j = true := fun j hj => by
      have e := congrArg (fun x => Nat.testBit x j) h
      rw [Nat.testBit_and, hj, Bool.and_true] at e
      exact e
    unfold cv_p
    rw [t _ (by rw [c0 _ (by omega)]; exact decide_eq_true rfl), t (4 + _) (by rw [c1 _ (by omega)]; exact decide_eq_true rfl), t (9 + _) (by rw [c2]; exact decide_eq_true rfl)]
    rfl
  · intro h
    unfold cv_p at h
    rw [Bool.and_eq_true, Bool.and_eq_true] at h
    obtain ⟨⟨h0, h1⟩, h2⟩ := h
    apply Nat.eq_of_testBit_eq
    intro j
    rw [Nat.testBit_and]
    cases z : (cv_own 7 p).testBit j
    · exact Bool.and_false _
    · rw [Bool.and_true]
      rcases Nat.lt_or_ge j 4 with l | l
      · rw [c0 j l] at z
        rw [← of_decide_eq_true z]
        exact h0
      · rcases Nat.lt_or_ge j 9 with l2 | l2
        · obtain ⟨i, rfl⟩ : ∃ i, j = 4 + i := ⟨j - 4, by omega⟩
          rw [c1 i (by omega)] at z
          rw [← of_decide_eq_true z]
          exact h1
        · obtain ⟨i, rfl⟩ : ∃ i, j = 9 + i := ⟨j - 9, by omega⟩
          rw [c2 i] at z
          rw [← of_decide_eq_true z]
          exact h2
end
section
/-! ints of the program as naturals -/
theorem cv_if {c A B : Prop} {b : Bool} (e : c ↔ b = false) (f : b = false → A) (g : b = true → B) : (c → A) ∧ (¬ c → B) := by
  refine ⟨fun h => f (e.mp h), fun h => g ?_⟩
  cases b
  · exact absurd (e.mpr rfl) h
  · rfl
theorem cv_ift {c A B : Prop} {b : Bool} (e : c ↔ b = true) (f : b = true → A) (g : b = false → B) : (c → A) ∧ (¬ c → B) := by
  refine ⟨fun h => f (e.mp h), fun h => g ?_⟩
  cases b
  · rfl
  · exact absurd (e.mpr rfl) h
theorem cv_andN (a b : Nat) : nI a &&& nI b = nI (a &&& b) := by
  apply Int32.toBitVec_inj.1
  show BitVec.ofNat 32 a &&& BitVec.ofNat 32 b = BitVec.ofNat 32 (a &&& b)
  apply BitVec.eq_of_getLsbD_eq
  intro i hi
  simp [hi]
theorem cv_d1 {g : Nat} (h : g < 8) : nI g &&& 1 = 0 ↔ g.testBit 0 = false := (by decide +kernel : ∀ g, g < 8 → (nI g &&& 1 = 0 ↔ g.testBit 0 = false)) g h
theorem cv_d2 {g : Nat} (h : g < 8) : nI g &&& 2 = 0 ↔ g.testBit 1 = false := (by decide +kernel : ∀ g, g < 8 → (nI g &&& 2 = 0 ↔ g.testBit 1 = false)) g h
theorem cv_d4 {g : Nat} (h : g < 8) : nI g &&& 4 = 0 ↔ g.testBit 2 = false := (by decide +kernel : ∀ g, g < 8 → (nI g &&& 4 = 0 ↔ g.testBit 2 = false)) g h
theorem cv_sm : ∀ n, n < 32 → ((nI n &&& 31).toBitVec.smod 32).toNat = n := by decide +kernel
theorem cv_bit {F j : Nat} (hF : F < 32768) (hj : j < 32) : (nI F >>> (nI j &&& 31)) &&& 1 = 1 ↔ F.testBit j = true := by
  rw [pk_shrN (by omega) _ j (cv_sm j hj)]
  have l : F / 2 ^ j ≤ F := Nat.div_le_self _ _
  rw [pk_andN (by omega) 1 (by decide), Nat.testBit_eq_decide_div_mod_eq]
  have e : nI (F / 2 ^ j % 2 ^ 1) = 1 ↔ F / 2 ^ j % 2 ^ 1 = 1 := nI_eq (a := F / 2 ^ j % 2 ^ 1) (b := 1) (by omega) (by omega)
  rw [e]
  exact decide_eq_true_iff.symm
theorem cv_sh1 : ∀ j, j < 15 → (1 : Int32) <<< (nI j &&& 31) = nI (2 ^ j) := by decide +kernel
theorem cv_r {p : Nat} (hp : p < 120) : nI p - nI p / 4 * 4 = nI (p % 4) := pk_rem (d := 4) (by omega) (by omega) (by omega)
theorem cv_k {p : Nat} (hp : p < 120) : nI p / 4 - nI p / 4 / 5 * 5 = nI (p / 4 % 5) := by
  have e : nI p / 4 = nI (p / 4) := pk_div (d := 4) (by omega) (by omega) (by omega)
  rw [e]
  exact pk_rem (d := 5) (by omega) (by omega) (by omega)
theorem cv_m {p : Nat} (hp : p < 120) : nI p / 20 = nI (p / 20) := pk_div (d := 20) (by omega) (by omega) (by omega)
/-- bits of one need among another's -/
theorem cv_sub : ∀ g d, g < 8 → d < 8 → nI g &&& nI d = nI d → ∀ j, j < 3 → d.testBit j = true → g.testBit j = true := by
  have h : ∀ g, g < 8 → ∀ d, d < 8 → nI g &&& nI d = nI d → ∀ j, j < 3 → d.testBit j = true → g.testBit j = true := by decide +kernel
  exact fun g d hg hd => h g hg d hd
theorem cv_hi {d j : Nat} (hd : d < 8) (hj : 3 ≤ j) : d.testBit j = false := by
  have l : 2 ^ 3 ≤ 2 ^ j := Nat.pow_le_pow_right (by decide) hj
  exact Nat.testBit_lt_two_pow (Nat.lt_of_lt_of_le hd l)
theorem cv_subA {g d : Nat} (hg : g < 8) (hd : d < 8) (h : nI g &&& nI d = nI d) : ∀ j, d.testBit j = true → g.testBit j = true := by
  intro j e
  rcases Nat.lt_or_ge j 3 with l | l
  · exact cv_sub g d hg hd h j l e
  · rw [cv_hi hd l] at e
    exact absurd e (by decide)
/-- the need: the filter's cuts and the grouping -/
theorem cv_need : ∀ c h, c < 8 → h < 8 → ∃ d, d < 8 ∧ nI c ||| nI h = nI d ∧ (∀ j, j < 3 → d.testBit j = (c.testBit j || h.testBit j)) := by
  intro c h hc hh
  refine ⟨c ||| h, Nat.or_lt_two_pow (n := 3) hc hh, ?_, fun j _ => Nat.testBit_or c h j⟩
  apply Int32.toBitVec_inj.1
  show BitVec.ofNat 32 c ||| BitVec.ofNat 32 h = BitVec.ofNat 32 (c ||| h)
  apply BitVec.eq_of_getLsbD_eq
  intro i hi
  simp [hi]
end
section
/-! the small methods -/
def cv_b (b : Bool) : Int32 := if b = true then 1 else 0
section
variable {post : Int32 → Prop} {c : Int32} {a1 a2 a3 a4 a5 a6 a7 a8 a9 : Nat → Int32}
theorem cw_cells {x : Int32} (hp : ∀ r, post r) : wpX_cells post (c, a1, a2, a3, a4, a5, a6, a7, a8, a9) x := by
  have h25 : ∀ z, wX_cells_25 post x z c a1 a2 a3 a4 a5 a6 a7 a8 a9 := fun z => br_c (fun _ => hp _) (fun _ => hp _)
  have h11 : ∀ z, wX_cells_11 post x z c a1 a2 a3 a4 a5 a6 a7 a8 a9 := fun z => br_c (fun _ => h25 _) (fun _ => h25 _)
  exact br_c (fun _ => h11 _) (fun _ => h11 _)
theorem cw_month {p : Nat} (hp : p < 120) (h : post (nI (p / 20))) : wpX_month post (c, a1, a2, a3, a4, a5, a6, a7, a8, a9) (nI p) := by
  have h' : post (nI p / 20) := by rw [cv_m hp]; exact h
  exact And.intro (by decide) h'
theorem cw_kind {p : Nat} (hp : p < 120) (h : post (nI (p / 4 % 5))) : wpX_kind post (c, a1, a2, a3, a4, a5, a6, a7, a8, a9) (nI p) := by
  have h' : post (nI p / 4 - nI p / 4 / 5 * 5) := by rw [cv_k hp]; exact h
  exact And.intro (by decide) (And.intro (by decide) h')
theorem cw_region {p : Nat} (hp : p < 120) (h : post (nI (p % 4))) : wpX_region post (c, a1, a2, a3, a4, a5, a6, a7, a8, a9) (nI p) := by
  have h' : post (nI p - nI p / 4 * 4) := by rw [cv_r hp]; exact h
  exact And.intro (by decide) h'
theorem cw_cuts {F : Nat} (hF : F < 32768) (h : post (nI (cv_c F))) : wpX_cuts post (c, a1, a2, a3, a4, a5, a6, a7, a8, a9) (nI F) := by
  have e1 : nI F &&& 15 = nI (F % 16) := pk_andN (by omega) 4 (by decide)
  have e3 : nI F >>> ((9 : Int32) &&& 31) = nI (F / 512) := pk_shrN (by omega) _ 9 (by decide)
  have e2 : (nI F >>> ((4 : Int32) &&& 31)) &&& 31 = nI (F / 16 % 32) := by
    rw [pk_shrN (by omega) _ 4 (by decide)]
    exact pk_andN (by omega) 5 (by decide)
  have h33 : ∀ z w : Int32, z = w → post w → post z := fun z w e hw => by rw [e]; exact hw
  unfold cv_c at h
  by_cases z1 : F % 16 = 15 <;> by_cases z2 : F / 16 % 32 = 31 <;> by_cases z3 : F / 512 = 63 <;> simp only [z1, z2, z3, if_true, if_false] at h
  all_goals
    refine pk_eq (F % 16) 15 (fun y1 => ?_) (fun y1 => ?_) e1 <;> first | exact absurd y1 z1 | exact absurd z1 y1 | refine pk_eq (F / 16 % 32) 31 (fun y2 => ?_) (fun y2 => ?_) e2 <;> first | exact absurd y2 z2 | exact absurd z2 y2 | refine pk_eq (F / 512) 63 (fun y3 => ?_) (fun y3 => ?_) e3 <;> first | exact absurd y3 z3 | exact absurd z3 y3 | exact h33 _ _ (by decide) h
theorem cw_smallest {d : Nat} (h1 : post (-1)) (h2 : ∀ g, g < 8 → ¬ a5 g = 0 → nI g &&& nI d = nI d → post (nI g)) : wpX_smallest post (c, a1, a2, a3, a4, a5, a6, a7, a8, a9) (nI d) := by
  refine pk_loop (fun n i s => wX_smallest_4 post (nI d) c a1 a2 a3 a4 a5 a6 a7 a8 a9 n s (nI i)) (fun _ s => s = -1 ∨ ∃ g, g < 8 ∧ ¬ a5 g = 0 ∧ nI g &&& nI d = nI d ∧ s = nI g) 8 0 (-1) (by omega) (Or.inl rfl) ?_ ?_
  · intro n s h
    refine pk_le 8 8 (fun _ => ?_) (fun z => absurd z (by omega))
    rcases h with rfl | ⟨g, hg, k1, k2, rfl⟩
    · exact h1
    · exact h2 g hg k1 k2
  · intro n i s hi h hw
    have hc : (nI i).toNatClampNeg = i := nI_clamp (by omega)
    refine pk_le 8 i (fun z => absurd z (by omega)) (fun _ => ⟨pk_in i 8 hi, ?_⟩)
    rw [hc]
    refine br_c (fun _ => nm_r (nI_1 i) (hw _ h)) (fun k1 => br_c (fun k2 => ?_) (fun _ => nm_r (nI_1 i) (hw _ h)))
    have hI : nI i = -1 ∨ ∃ g, g < 8 ∧ ¬ a5 g = 0 ∧ nI g &&& nI d = nI d ∧ nI i = nI g := Or.inr ⟨i, hi, k1, k2, rfl⟩
    exact br_c (fun _ => nm_r (nI_1 i) (hw _ hI)) (fun _ => cw_cells (fun _ => cw_cells (fun _ => br_c (fun _ => nm_r (nI_1 i) (hw _ h)) (fun _ => nm_r (nI_1 i) (hw _ hI)))))
theorem cw_p81 {b0 b1 b2 : Bool} (h : post (cv_b (b0 && b1 && b2))) : wX_passes_81 post (cv_b b0) (cv_b b1) (cv_b b2) c a1 a2 a3 a4 a5 a6 a7 a8 a9 := by
  cases b0
  · exact br_t rfl h
  · refine br_f (by decide) ?_
    cases b1
    · exact br_t rfl h
    · refine br_f (by decide) ?_
      cases b2
      · exact br_t rfl h
      · exact br_f (by decide) h
theorem cw_p52 {p F d : Nat} (hp : p < 120) (hF : F < 32768) (hd : d < 8) {b0 b1 : Bool} (h : post (cv_b (b0 && b1 && (!d.testBit 2 || F.testBit (9 + p / 20))))) : wX_passes_52 post (nI p) (nI F) (nI d) (cv_b b0) (cv_b b1) c a1 a2 a3 a4 a5 a6 a7 a8 a9 := by
  refine cv_if (cv_d4 hd) (fun z => ?_) (fun z => ?_)
  · rw [z] at h
    exact cw_p81 (b2 := true) h
  · rw [z] at h
    refine cw_month hp ?_
    have e : (nI F >>> (((9 : Int32) + nI (p / 20)) &&& 31)) &&& 1 = 1 ↔ F.testBit (9 + p / 20) = true := by
      rw [show (9 : Int32) + nI (p / 20) = nI (9 + p / 20) from nI_add 9 (p / 20)]
      exact cv_bit hF (by omega)
    refine cv_ift e (fun y => ?_) (fun y => ?_)
    · rw [y] at h
      exact cw_p81 (b2 := true) h
    · rw [y] at h
      exact cw_p81 (b2 := false) h
theorem cw_p24 {p F d : Nat} (hp : p < 120) (hF : F < 32768) (hd : d < 8) {b0 : Bool} (h : post (cv_b (b0 && (!d.testBit 1 || F.testBit (4 + p / 4 % 5)) && (!d.testBit 2 || F.testBit (9 + p / 20))))) : wX_passes_24 post (nI p) (nI F) (nI d) (cv_b b0) c a1 a2 a3 a4 a5 a6 a7 a8 a9 := by
  refine cv_if (cv_d2 hd) (fun z => ?_) (fun z => ?_)
  · rw [z] at h
    exact cw_p52 (b1 := true) hp hF hd h
  · rw [z] at h
    refine cw_kind hp ?_
    have e : (nI F >>> (((4 : Int32) + nI (p / 4 % 5)) &&& 31)) &&& 1 = 1 ↔ F.testBit (4 + p / 4 % 5) = true := by
      rw [show (4 : Int32) + nI (p / 4 % 5) = nI (4 + p / 4 % 5) from nI_add 4 (p / 4 % 5)]
      exact cv_bit hF (by omega)
    refine cv_ift e (fun y => ?_) (fun y => ?_)
    · rw [y] at h
      exact cw_p52 (b1 := true) hp hF hd h
    · rw [y] at h
      exact cw_p52 (b1 := false) hp hF hd h
theorem cw_passes {p F d : Nat} (hp : p < 120) (hF : F < 32768) (hd : d < 8) (h : post (cv_b (cv_pd p F d))) : wpX_passes post (c, a1, a2, a3, a4, a5, a6, a7, a8, a9) (nI p) (nI F) (nI d) := by
  unfold cv_pd at h
  refine cv_if (cv_d1 hd) (fun z => ?_) (fun z => ?_)
  · rw [z] at h
    exact cw_p24 (b0 := true) hp hF hd h
  · rw [z] at h
    refine cw_region hp ?_
    have e : (nI F >>> (nI (p % 4) &&& 31)) &&& 1 = 1 ↔ F.testBit (p % 4) = true := cv_bit hF (by omega)
    refine cv_ift e (fun y => ?_) (fun y => ?_)
    · rw [y] at h
      exact cw_p24 (b0 := true) hp hF hd h
    · rw [y] at h
      exact cw_p24 (b0 := false) hp hF hd h
theorem cw_g48 {r k m : Nat} (h : post (nI (r + 4 * k + 20 * m))) : wX_group_48 post (nI r) (nI k) (nI m) c a1 a2 a3 a4 a5 a6 a7 a8 a9 := by
  have e : (nI r + (4 * nI k)) + (20 * nI m) = nI (r + 4 * k + 20 * m) := by
    rw [show (4 : Int32) * nI k = nI (4 * k) from pk_mul 4 k, show (20 : Int32) * nI m = nI (20 * m) from pk_mul 20 m, nI_add, nI_add]
  show post ((nI r + (4 * nI k)) + (20 * nI m))
  rw [e]
  exact h
theorem cw_g31 {p g r k : Nat} (hp : p < 120) (hg : g < 8) (h : post (nI (r + 4 * k + 20 * (if g.testBit 2 = true then p / 20 else 0)))) : wX_group_31 post (nI p) (nI g) (nI r) (nI k) c a1 a2 a3 a4 a5 a6 a7 a8 a9 := by
  refine cv_if (cv_d4 hg) (fun z => ?_) (fun z => ?_)
  · rw [z] at h
    exact cw_g48 (m := 0) h
  · rw [z] at h
    exact cw_month hp (cw_g48 h)
theorem cw_g15 {p g r : Nat} (hp : p < 120) (hg : g < 8) (h : post (nI (r + 4 * (if g.testBit 1 = true then p / 4 % 5 else 0) + 20 * (if g.testBit 2 = true then p / 20 else 0)))) : wX_group_15 post (nI p) (nI g) (nI r) c a1 a2 a3 a4 a5 a6 a7 a8 a9 := by
  refine cv_if (cv_d2 hg) (fun z => ?_) (fun z => ?_)
  · rw [z] at h
    exact cw_g31 (k := 0) hp hg h
  · rw [z] at h
    exact cw_kind hp (cw_g31 hp hg h)
theorem cw_group {p g : Nat} (hp : p < 120) (hg : g < 8) (h : post (nI (cv_g p g))) : wpX_group post (c, a1, a2, a3, a4, a5, a6, a7, a8, a9) (nI p) (nI g) := by
  unfold cv_g at h
  refine cv_if (cv_d1 hg) (fun z => ?_) (fun z => ?_)
  · rw [z] at h
    exact cw_g15 (r := 0) hp hg h
  · rw [z] at h
    exact cw_region hp (cw_g15 hp hg h)
theorem cw_bF {F : Nat} (hF : F < 32768) (h : post 0) : wpX_badFilter post (c, a1, a2, a3, a4, a5, a6, a7, a8, a9) (nI F) :=
  br_f (nI_pos (by omega)) (br_t (nI_le (a := F) (b := 32767) (by omega) (by omega)) h)
theorem cw_bG {g : Nat} (hg : g < 8) (h : post 0) : wpX_badGrouping post (c, a1, a2, a3, a4, a5, a6, a7, a8, a9) (nI g) :=
  br_f (nI_pos (by omega)) (br_t (nI_lt (a := g) (b := 8) (by omega) (by omega)) h)
end
theorem cw_note {post : St1 → Prop} {c : Int32} {a1 a2 a3 a4 a5 a6 a7 a8 a9 : Nat → Int32} {q : Nat} {x y : Int32} (hq : q < 120) (h : post (c, a1, a2, a3, a4, a5, a6, a7, upd a8 q (a8 q + x), upd a9 q (a9 q + y))) : wpX_note post (c, a1, a2, a3, a4, a5, a6, a7, a8, a9) (nI q) x y := by
  have hc : (nI q).toNatClampNeg = q := nI_clamp (by omega)
  unfold wpX_note
  dsimp only
  rw [hc]
  exact ⟨pk_in q 120 hq, pk_in q 120 hq, nm_e ⟨pk_in q 120 hq, pk_in q 120 hq, nm_e h⟩⟩
end
section
/-! the picture -/
def cv_pl (a1 : Nat → Int32) (i : Nat) : Nat := (a1 i).toNatClampNeg
/-- fact i passes F and lies in group q of grouping h -/
def cv_P (a1 : Nat → Int32) (F h q i : Nat) : Bool := cv_p (cv_pl a1 i) F && decide (cv_g (cv_pl a1 i) h = q)
/-- fact i lies in cell p of grouping g -/
def cv_E (a1 : Nat → Int32) (g p i : Nat) : Bool := decide (cv_g (cv_pl a1 i) g = p)
def cv_L (a1 : Nat → Int32) (g p F h q i : Nat) : Bool := decide (cv_g (cv_pl a1 i) g < p) && cv_P a1 F h q i
def cv_F (n : Nat) (a1 a2 : Nat → Int32) : Prop := n ≤ 40 ∧ (∀ i, i < n → ∃ q, q < 120 ∧ a1 i = nI q) ∧ (∀ i, i < n → -50 ≤ (a2 i).toInt ∧ (a2 i).toInt ≤ 50)
def cv_K (n : Nat) (a1 a2 a6 a7 : Nat → Int32) (g : Nat) : Prop := ∀ p, p < 120 → a6 (120 * g + p) = cv_s (fun _ => 1) (cv_E a1 g p) n ∧ a7 (120 * g + p) = cv_s a2 (cv_E a1 g p) n
def cv_I (n : Nat) (a1 a2 a5 a6 a7 : Nat → Int32) : Prop := cv_F n a1 a2 ∧ ∀ g, g < 8 → ¬ a5 g = 0 → cv_K n a1 a2 a6 a7 g
def cv_R (n : Nat) (a1 a2 : Nat → Int32) (F h : Nat) (b8 b9 : Nat → Int32) : Prop := ∀ q, q < 120 → b8 q = cv_s (fun _ => 1) (cv_P a1 F h q) n ∧ b9 q = cv_s a2 (cv_P a1 F h q) n
theorem cv_plN {a1 : Nat → Int32} {i q : Nat} (e : a1 i = nI q) (hq : q < 120) : cv_pl a1 i = q := by
  unfold cv_pl
  rw [e]
  exact nI_clamp (by omega)
theorem cv_pl_lt {n i : Nat} {a1 a2 : Nat → Int32} (h : cv_F n a1 a2) (hi : i < n) : cv_pl a1 i < 120 := by
  obtain ⟨q, hq, e⟩ := h.2.1 i hi
  rw [cv_plN e hq]
  exact hq
theorem cv_L_skip {a1 : Nat → Int32} {g p F h q i : Nat} (H : cv_g (cv_pl a1 i) g = p → cv_P a1 F h q i = false) : cv_L a1 g (p + 1) F h q i = cv_L a1 g p F h q i := by
  unfold cv_L
  by_cases e : cv_g (cv_pl a1 i) g = p
  · rw [H e, Bool.and_false, Bool.and_false]
  · rw [decide_eq_decide.mpr (show cv_g (cv_pl a1 i) g < p + 1 ↔ cv_g (cv_pl a1 i) g < p by omega)]
theorem cv_L_plus {a1 : Nat → Int32} {g p F h q i : Nat} (H : cv_g (cv_pl a1 i) g = p → cv_P a1 F h q i = true) : cv_L a1 g (p + 1) F h q i = (cv_L a1 g p F h q i || cv_E a1 g p i) ∧ (cv_L a1 g p F h q i && cv_E a1 g p i) = false := by
  unfold cv_L cv_E
  by_cases e : cv_g (cv_pl a1 i) g = p
  · rw [H e, e, decide_eq_true (show p < p + 1 by omega), decide_eq_false (show ¬ p < p by omega), decide_eq_true (rfl : p = p)]
    exact ⟨rfl, rfl⟩
  · rw [decide_eq_decide.mpr (show cv_g (cv_pl a1 i) g < p + 1 ↔ cv_g (cv_pl a1 i) g < p by omega), decide_eq_false e, Bool.or_false, Bool.and_false]
    exact ⟨rfl, rfl⟩
theorem cv_ix (g p : Nat) : (120 * nI g) + nI p = nI (120 * g + p) := by
  rw [show (120 : Int32) * nI g = nI (120 * g) from pk_mul 120 g, nI_add]
section
variable {post : St1 → Prop} {n F h : Nat} {a1 a2 a3 a4 a5 a6 a7 a8 a9 : Nat → Int32}
/-- from the facts -/
theorem cw_gather51 (hI : cv_F n a1 a2) (hF : F < 32768) (hh : h < 8) (h0 : ∀ q, q < 120 → a8 q = 0 ∧ a9 q = 0) (hp : ∀ b8 b9, cv_R n a1 a2 F h b8 b9 → post (nI n, a1, a2, a3, a4, a5, a6, a7, b8, b9)) : ∃ fu, wX_gather_51 post (nI h) (nI F) fu 0 (nI n) a1 a2 a3 a4 a5 a6 a7 a8 a9 := by
  have hn := hI.1
  refine pk_loop (fun fu i s => wX_gather_51 post (nI h) (nI F) fu (nI i) (nI n) a1 a2 a3 a4 a5 a6 a7 s.1 s.2) (fun i s => cv_R i a1 a2 F h s.1 s.2) n 0 (a8, a9) (by omega) (fun q hq => h0 q hq) ?_ ?_
  · intro fu s hs
    exact pk_le n n (fun _ => hp _ _ hs) (fun z => absurd z (by omega))
  · intro fu i s hi hs hw
    obtain ⟨q, hq, eq⟩ := hI.2.1 i hi
    have hc : (nI i).toNatClampNeg = i := nI_clamp (by omega)
    have epl : cv_pl a1 i = q := cv_plN eq hq
    refine pk_le n i (fun z => absurd z (by omega)) (fun _ => ⟨pk_in i 40 (by omega), ?_⟩)
    rw [hc, eq]
    refine cw_passes (d := 7) hq hF (by omega) ?_
    rw [cv_pd_7]
    cases z : cv_p q F
    · refine br_t rfl (nm_r (nI_1 i) (hw s ?_))
      intro q' hq'
      have e : cv_P a1 F h q' i = false := by
        unfold cv_P
        rw [epl, z]
        rfl
      rw [cv_sF e, cv_sF e]
      exact hs q' hq'
    · refine br_f (by decide) ⟨pk_in i 40 (by omega), cw_group hq hh ⟨pk_in i 40 (by omega), cw_note (cv_g_lt hq) (nm_r (nI_1 i) (hw (upd s.1 (cv_g q h) (s.1 (cv_g q h) + 1), upd s.2 (cv_g q h) (s.2 (cv_g q h) + a2 i)) ?_))⟩⟩
      intro q' hq'
      dsimp only
      by_cases e : q' = cv_g q h
      · have e1 : cv_P a1 F h q' i = true := by
          unfold cv_P
          rw [epl, z, e, decide_eq_true (rfl : cv_g q h = cv_g q h)]
          rfl
        rw [cv_sT e1, cv_sT e1, ← (hs q' hq').1, ← (hs q' hq').2, e, pk_us, pk_us]
        exact ⟨rfl, rfl⟩
      · have e1 : cv_P a1 F h q' i = false := by
          unfold cv_P
          rw [epl, decide_eq_false (fun y => e y.symm), Bool.and_false]
        rw [cv_sF e1, cv_sF e1, pk_un e, pk_un e]
        exact hs q' hq'
/-- from a kept grouping's cells -/
theorem cw_gather115 {d g : Nat} (hI : cv_F n a1 a2) (hK : cv_K n a1 a2 a6 a7 g) (hF : F < 32768) (hh : h < 8) (hd : d < 8) (hg : g < 8) (sd : ∀ j, d.testBit j = true → g.testBit j = true) (sh : ∀ j, h.testBit j = true → g.testBit j = true) (c0 : d.testBit 0 = false → F % 16 = 15) (c1 : d.testBit 1 = false → F / 16 % 32 = 31) (c2 : d.testBit 2 = false → F / 512 = 63) (h0 : ∀ q, q < 120 → a8 q = 0 ∧ a9 q = 0) (hp : ∀ b8 b9, cv_R n a1 a2 F h b8 b9 → post (nI n, a1, a2, a3, a4, a5, a6, a7, b8, b9)) : ∃ fu, wX_gather_115 post (nI h) (nI F) (nI d) (nI g) fu 0 (nI n) a1 a2 a3 a4 a5 a6 a7 a8 a9 := by
  have hn := hI.1
  refine pk_loop (fun fu i s => wX_gather_115 post (nI h) (nI F) (nI d) (nI g) fu (nI i) (nI n) a1 a2 a3 a4 a5 a6 a7 s.1 s.2) (fun p s => ∀ q, q < 120 → s.1 q = cv_s (fun _ => 1) (cv_L a1 g p F h q) n ∧ s.2 q = cv_s a2 (cv_L a1 g p F h q) n) 120 0 (a8, a9) (by omega) ?_ ?_ ?_
  · intro q hq
    have e : ∀ i, i < n → cv_L a1 g 0 F h q i = false := fun i _ => by
      unfold cv_L
      rw [decide_eq_false (show ¬ cv_g (cv_pl a1 i) g < 0 by omega), Bool.false_and]
    rw [cv_zero e, cv_zero e]
    exact h0 q hq
  · intro fu s hs
    refine pk_le 120 120 (fun _ => hp _ _ ?_) (fun z => absurd z (by omega))
    intro q hq
    have e : ∀ i, i < n → cv_P a1 F h q i = cv_L a1 g 120 F h q i := fun i hi => by
      unfold cv_L
      rw [decide_eq_true (cv_g_lt (cv_pl_lt hI hi)), Bool.true_and]
    rw [cv_cong e, cv_cong e]
    exact hs q hq
  · intro fu p s hp' hs hw
    have hc : (nI (120 * g + p)).toNatClampNeg = 120 * g + p := nI_clamp (by omega)
    refine pk_le 120 p (fun z => absurd z (by omega)) (fun _ => ?_)
    rw [cv_ix g p, hc]
    refine ⟨pk_in (120 * g + p) 960 (by omega), br_c (fun k => ?_) (fun k => ?_)⟩
    · refine nm_r (nI_1 p) (hw s ?_)
      rw [(hK p hp').1] at k
      have nn := cv_none hn k
      intro q hq
      have e : ∀ i, i < n → cv_L a1 g (p + 1) F h q i = cv_L a1 g p F h q i := fun i hi => cv_L_skip (fun y => absurd y (of_decide_eq_false (nn i hi)))
      rw [cv_cong e, cv_cong e]
      exact hs q hq
    · refine cw_passes hp' hF hd ?_
      have pp : ∀ i, i < n → cv_g (cv_pl a1 i) g = p → cv_p (cv_pl a1 i) F = cv_pd p F d := fun i hi e => by
        rw [← e]
        exact (cv_pd_g (cv_pl_lt hI hi) sd c0 c1 c2).symm
      cases z : cv_pd p F d
      · refine br_t rfl (nm_r (nI_1 p) (hw s ?_))
        intro q hq
        have e : ∀ i, i < n → cv_L a1 g (p + 1) F h q i = cv_L a1 g p F h q i := fun i hi => cv_L_skip (fun y => by
          unfold cv_P
          rw [pp i hi y, z, Bool.false_and])
        rw [cv_cong e, cv_cong e]
        exact hs q hq
      · refine br_f (by decide) (cw_group hp' hh ⟨pk_in (120 * g + p) 960 (by omega), pk_in (120 * g + p) 960 (by omega), cw_note (cv_g_lt hp') (nm_r (nI_1 p) (hw (upd s.1 (cv_g p h) (s.1 (cv_g p h) + a6 (120 * g + p)), upd s.2 (cv_g p h) (s.2 (cv_g p h) + a7 (120 * g + p))) ?_))⟩)
        intro q hq
        dsimp only
        have gg : ∀ i, i < n → cv_g (cv_pl a1 i) g = p → cv_g (cv_pl a1 i) h = cv_g p h := fun i hi e => by
          rw [← e]
          exact (cv_g_g sh).symm
        by_cases e : q = cv_g p h
        · have e1 : ∀ i, i < n → cv_L a1 g (p + 1) F h q i = (cv_L a1 g p F h q i || cv_E a1 g p i) ∧ (cv_L a1 g p F h q i && cv_E a1 g p i) = false := fun i hi => cv_L_plus (fun y => by
            unfold cv_P
            rw [pp i hi y, z, gg i hi y, decide_eq_true e.symm]
            rfl)
          rw [cv_or e1, cv_or e1, ← (hs q hq).1, ← (hs q hq).2, ← (hK p hp').1, ← (hK p hp').2, e, pk_us, pk_us]
          exact ⟨rfl, rfl⟩
        · have e1 : ∀ i, i < n → cv_L a1 g (p + 1) F h q i = cv_L a1 g p F h q i := fun i hi => cv_L_skip (fun y => by
            unfold cv_P
            rw [gg i hi y, decide_eq_false (fun w => e w.symm), Bool.and_false])
          rw [cv_cong e1, cv_cong e1, pk_un e, pk_un e]
          exact hs q hq
theorem cw_gather (hI : cv_I n a1 a2 a5 a6 a7) (hF : F < 32768) (hh : h < 8) (hp : ∀ b8 b9, cv_R n a1 a2 F h b8 b9 → post (nI n, a1, a2, a3, a4, a5, a6, a7, b8, b9)) : wpX_gather post (nI n, a1, a2, a3, a4, a5, a6, a7, a8, a9) (nI h) (nI F) := by
  refine pk_loop (fun fu i s => wX_gather_2 post (nI h) (nI F) (nI n) fu (nI i) a1 a2 a3 a4 a5 a6 a7 s.1 s.2) (fun i s => ∀ q, q < i → s.1 q = 0 ∧ s.2 q = 0) 120 0 (a8, a9) (by omega) (fun q hq => absurd hq (by omega)) ?_ ?_
  · intro fu s hs
    refine pk_le 120 120 (fun _ => ?_) (fun z => absurd z (by omega))
    obtain ⟨d, hd, ed, bd⟩ := cv_need (cv_c F) h (cv_c_lt F) hh
    refine cw_cuts hF (nm_r ed (cw_smallest ?_ (fun g hg kg sg => ?_)))
    · exact br_f (by decide) (cw_gather51 hI.1 hF hh hs hp)
    · have sd := cv_subA hg hd sg
      have sh : ∀ j, h.testBit j = true → g.testBit j = true := fun j e => by
        rcases Nat.lt_or_ge j 3 with l | l
        · refine sd j ?_
          rw [bd j l, e, Bool.or_true]
        · rw [cv_hi hh l] at e
          exact absurd e (by decide)
      have cc : ∀ j, j < 3 → d.testBit j = false → (cv_c F).testBit j = false := fun j l e => by
        rw [bd j l] at e
        exact (Bool.or_eq_false_iff.mp e).1
      exact br_t (nI_pos' (by omega)) (cw_gather115 hI.1 (hI.2 g hg kg) hF hh hd hg sd sh (fun e => cv_c0 (cc 0 (by omega) e)) (fun e => cv_c1 (cc 1 (by omega) e)) (fun e => cv_c2 (cc 2 (by omega) e)) hs hp)
  · intro fu i s hi hs hw
    have hc : (nI i).toNatClampNeg = i := nI_clamp (by omega)
    refine pk_le 120 i (fun z => absurd z (by omega)) (fun _ => ?_)
    rw [hc]
    refine ⟨pk_in i 120 hi, nm_e ⟨pk_in i 120 hi, nm_e (nm_r (nI_1 i) (hw (upd s.1 i 0, upd s.2 i 0) ?_))⟩⟩
    intro q hq
    dsimp only
    by_cases e : q = i
    · rw [e, pk_us, pk_us]
      exact ⟨rfl, rfl⟩
    · rw [pk_un e, pk_un e]
      exact hs q (by omega)
end
end
section
/-! what changes the state -/
section
variable {post : St1 → Prop} {c : Int32} {n : Nat} {a1 a2 a3 a4 a5 a6 a7 a8 a9 : Nat → Int32}
theorem cw_enter {q : Nat} {x y : Int32} (hq : q < 120) (hp : ∀ b6 b7, (∀ g, g < 8 → ¬ a5 g = 0 → ∀ p, p < 120 → b6 (120 * g + p) = a6 (120 * g + p) + (if cv_g q g = p then x else 0) ∧ b7 (120 * g + p) = a7 (120 * g + p) + (if cv_g q g = p then y else 0)) → post (c, a1, a2, a3, a4, a5, b6, b7, a8, a9)) : wpX_enter post (c, a1, a2, a3, a4, a5, a6, a7, a8, a9) (nI q) x y := by
  refine pk_loop (fun fu i s => wX_enter_3 post (nI q) x y c fu (nI i) a1 a2 a3 a4 a5 s.1 s.2 a8 a9) (fun i s => ∀ g, g < 8 → ¬ a5 g = 0 → ∀ p, p < 120 → s.1 (120 * g + p) = a6 (120 * g + p) + (if g < i ∧ cv_g q g = p then x else 0) ∧ s.2 (120 * g + p) = a7 (120 * g + p) + (if g < i ∧ cv_g q g = p then y else 0)) 8 0 (a6, a7) (by omega) ?_ ?_ ?_
  · intro g hg kg p hp'
    rw [if_neg (fun z => absurd z.1 (by omega)), if_neg (fun z => absurd z.1 (by omega)), Int32.add_zero, Int32.add_zero]
    exact ⟨rfl, rfl⟩
  · intro fu s hs
    refine pk_le 8 8 (fun _ => hp _ _ ?_) (fun z => absurd z (by omega))
    intro g hg kg p hp'
    have e := hs g hg kg p hp'
    by_cases z : cv_g q g = p
    · rw [if_pos ⟨hg, z⟩, if_pos ⟨hg, z⟩] at e
      rw [if_pos z, if_pos z]
      exact e
    · rw [if_neg (fun w => z w.2), if_neg (fun w => z w.2)] at e
      rw [if_neg z, if_neg z]
      exact e
  · intro fu i s hi hs hw
    have hc : (nI i).toNatClampNeg = i := nI_clamp (by omega)
    have hl := cv_g_lt (g := i) hq
    have hc2 : (nI (120 * i + cv_g q i)).toNatClampNeg = 120 * i + cv_g q i := nI_clamp (by omega)
    refine pk_le 8 i (fun z => absurd z (by omega)) (fun _ => ⟨pk_in i 8 hi, ?_⟩)
    rw [hc]
    refine br_c (fun k => nm_r (nI_1 i) (hw s ?_)) (fun k => ?_)
    · intro g hg kg p hp'
      have e := hs g hg kg p hp'
      have ne : g ≠ i := fun w => kg (by rw [w]; exact k)
      have iff : (g < i + 1 ∧ cv_g q g = p) = (g < i ∧ cv_g q g = p) := propext ⟨fun w => ⟨by omega, w.2⟩, fun w => ⟨by omega, w.2⟩⟩
      simp only [iff]
      exact e
    · refine cw_group hq hi (nm_r (cv_ix i (cv_g q i)) ?_)
      rw [hc2]
      refine ⟨vp_in_nI (by omega) (by omega), vp_in_nI (by omega) (by omega), nm_e ⟨vp_in_nI (by omega) (by omega), vp_in_nI (by omega) (by omega), nm_e (nm_r (nI_1 i) (hw (upd s.1 (120 * i + cv_g q i) (s.1 (120 * i + cv_g q i) + x), upd s.2 (120 * i + cv_g q i) (s.2 (120 * i + cv_g q i) + y)) ?_))⟩⟩
      intro g hg kg p hp'
      dsimp only
      have e := hs g hg kg p hp'
      by_cases z : g = i ∧ p = cv_g q i
      · obtain ⟨z1, z2⟩ := z
        subst z1
        rw [if_neg (fun w => absurd w.1 (by omega)), if_neg (fun w => absurd w.1 (by omega)), Int32.add_zero, Int32.add_zero] at e
        rw [if_pos ⟨by omega, z2.symm⟩, if_pos ⟨by omega, z2.symm⟩, z2, pk_us, pk_us]
        rw [z2] at e
        rw [e.1, e.2]
        exact ⟨rfl, rfl⟩
      · have ne : 120 * g + p ≠ 120 * i + cv_g q i := fun w => z ⟨by omega, by omega⟩
        have iff : (g < i + 1 ∧ cv_g q g = p) = (g < i ∧ cv_g q g = p) := propext ⟨fun w => by
            refine ⟨?_, w.2⟩
            by_cases gi : g = i
            · exact absurd ⟨gi, by rw [← w.2, gi]⟩ z
            · omega, fun w => ⟨by omega, w.2⟩⟩
        rw [pk_un ne, pk_un ne]
        simp only [iff]
        exact e
/-- the cells of g hold the sums over the first k facts, all others are as they were -/
def cv_fl (k : Nat) (a1 a2 a6 a7 : Nat → Int32) (g : Nat) (b6 b7 : Nat → Int32) : Prop := cv_K k a1 a2 b6 b7 g ∧ ∀ j, (j < 120 * g ∨ 120 * g + 120 ≤ j) → b6 j = a6 j ∧ b7 j = a7 j
theorem cw_fill40 {g : Nat} (hI : cv_F n a1 a2) (hg : g < 8) {d6 d7 : Nat → Int32} (h0 : cv_fl 0 a1 a2 d6 d7 g a6 a7) (hp : ∀ b6 b7, cv_fl n a1 a2 d6 d7 g b6 b7 → post (nI n, a1, a2, a3, a4, a5, b6, b7, a8, a9)) : ∃ fu, wX_fill_40 post (nI g) (nI n) fu 0 a1 a2 a3 a4 a5 a6 a7 a8 a9 := by
  have hn := hI.1
  refine pk_loop (fun fu i s => wX_fill_40 post (nI g) (nI n) fu (nI i) a1 a2 a3 a4 a5 s.1 s.2 a8 a9) (fun i s => cv_fl i a1 a2 d6 d7 g s.1 s.2) n 0 (a6, a7) (by omega) h0 ?_ ?_
  · intro fu s hs
    exact pk_le n n (fun _ => hp _ _ hs) (fun z => absurd z (by omega))
  · intro fu i s hi hs hw
    obtain ⟨q, hq, eq⟩ := hI.2.1 i hi
    have hc : (nI i).toNatClampNeg = i := nI_clamp (by omega)
    have epl : cv_pl a1 i = q := cv_plN eq hq
    have hl := cv_g_lt (g := g) hq
    have hc2 : (nI (120 * g + cv_g q g)).toNatClampNeg = 120 * g + cv_g q g := nI_clamp (by omega)
    refine pk_le n i (fun z => absurd z (by omega)) (fun _ => ⟨pk_in i 40 (by omega), ?_⟩)
    rw [hc, eq]
    refine cw_group hq hg (nm_r (cv_ix g (cv_g q g)) ?_)
    rw [hc2]
    refine ⟨vp_in_nI (by omega) (by omega), vp_in_nI (by omega) (by omega), nm_e ⟨vp_in_nI (by omega) (by omega), pk_in i 40 (by omega), vp_in_nI (by omega) (by omega), nm_e (nm_r (nI_1 i) (hw (upd s.1 (120 * g + cv_g q g) (s.1 (120 * g + cv_g q g) + 1), upd s.2 (120 * g + cv_g q g) (s.2 (120 * g + cv_g q g) + a2 i)) ⟨?_, ?_⟩))⟩⟩
    · intro p hp'
      dsimp only
      have e := hs.1 p hp'
      by_cases z : p = cv_g q g
      · have e1 : cv_E a1 g p i = true := by
          unfold cv_E
          rw [epl]
          exact decide_eq_true z.symm
        rw [cv_sT e1, cv_sT e1, ← e.1, ← e.2, z, pk_us, pk_us]
        exact ⟨rfl, rfl⟩
      · have e1 : cv_E a1 g p i = false := by
          unfold cv_E
          rw [epl]
          exact decide_eq_false (fun w => z w.symm)
        rw [cv_sF e1, cv_sF e1, pk_un (by omega), pk_un (by omega)]
        exact e
    · intro j hj
      dsimp only
      rw [pk_un (by omega), pk_un (by omega)]
      exact hs.2 j hj
theorem cw_fill {g : Nat} (hI : cv_F n a1 a2) (hg : g < 8) (hp : ∀ b6 b7, cv_fl n a1 a2 a6 a7 g b6 b7 → post (nI n, a1, a2, a3, a4, a5, b6, b7, a8, a9)) : wpX_fill post (nI n, a1, a2, a3, a4, a5, a6, a7, a8, a9) (nI g) := by
  refine pk_loop (fun fu i s => wX_fill_2 post (nI g) (nI n) fu (nI i) a1 a2 a3 a4 a5 s.1 s.2 a8 a9) (fun i s => (∀ p, p < i → s.1 (120 * g + p) = 0 ∧ s.2 (120 * g + p) = 0) ∧ ∀ j, (j < 120 * g ∨ 120 * g + 120 ≤ j) → s.1 j = a6 j ∧ s.2 j = a7 j) 120 0 (a6, a7) (by omega) ⟨fun p hp' => absurd hp' (by omega), fun j _ => ⟨rfl, rfl⟩⟩ ?_ ?_
  · intro fu s hs
    exact pk_le 120 120 (fun _ => cw_fill40 hI hg (d6 := a6) (d7 := a7) ⟨fun p hp' => hs.1 p hp', hs.2⟩ hp) (fun z => absurd z (by omega))
  · intro fu i s hi hs hw
    have hc2 : (nI (120 * g + i)).toNatClampNeg = 120 * g + i := nI_clamp (by omega)
    refine pk_le 120 i (fun z => absurd z (by omega)) (fun _ => ?_)
    rw [cv_ix g i, hc2]
    refine ⟨vp_in_nI (by omega) (by omega), nm_e ⟨vp_in_nI (by omega) (by omega), nm_e (nm_r (nI_1 i) (hw (upd s.1 (120 * g + i) (0), upd s.2 (120 * g + i) (0)) ⟨?_, ?_⟩))⟩⟩
    · intro p hp'
      dsimp only
      by_cases z : p = i
      · rw [z, pk_us, pk_us]
        exact ⟨rfl, rfl⟩
      · rw [pk_un (by omega), pk_un (by omega)]
        exact hs.1 p (by omega)
    · intro j hj
      dsimp only
      rw [pk_un (by omega), pk_un (by omega)]
      exact hs.2 j hj
/-- a filled grouping may be kept -/
theorem cv_keep {g : Nat} {b6 b7 : Nat → Int32} {v : Int32} (hI : cv_I n a1 a2 a5 a6 a7) (hg : g < 8) (h : cv_fl n a1 a2 a6 a7 g b6 b7) : cv_I n a1 a2 (upd a5 g v) b6 b7 := by
  refine ⟨hI.1, fun g' hg' k p hp' => ?_⟩
  by_cases e : g' = g
  · rw [e]
    exact h.1 p hp'
  · rw [pk_un e] at k
    have k2 := hI.2 g' hg' k p hp'
    have o := h.2 (120 * g' + p) (by omega)
    rw [o.1, o.2]
    exact k2
end
section
variable {post : Int32 → Prop} {c : Int32} {a1 a2 a3 a4 a5 a6 a7 a8 a9 : Nat → Int32}
theorem cw_work18 {J : Int32 → Int32 → Prop} {x1 x2 : Int32} {g : Nat} {x4 : Int32} (hJ : ∀ r, J r (nI (g + 1))) : ∃ fu, wX_workWith_18 post J x1 x2 (nI g) c a1 a2 a3 a4 a5 a6 a7 a8 a9 fu x4 0 := by
  refine pk_loop (fun fu i s => wX_workWith_18 post J x1 x2 (nI g) c a1 a2 a3 a4 a5 a6 a7 a8 a9 fu s (nI i)) (fun _ _ => True) 8 0 x4 (by omega) trivial ?_ ?_
  · intro fu s _
    exact pk_le 8 8 (fun _ => nm_e (nm_r (nI_1 g) (hJ _))) (fun z => absurd z (by omega))
  · intro fu i s hi _ hw
    have h41 : wX_workWith_41 post J (wX_workWith_18 post J x1 x2 (nI g) c a1 a2 a3 a4 a5 a6 a7 a8 a9 fu) x1 x2 (nI g) s (nI i) c a1 a2 a3 a4 a5 a6 a7 a8 a9 :=
      br_c (fun _ => cw_cells (fun _ => br_c (fun _ => nm_r (nI_1 i) (hw _ trivial)) (fun _ => cw_cells (fun _ => nm_r (nI_1 i) (hw _ trivial))))) (fun _ => nm_r (nI_1 i) (hw _ trivial))
    exact pk_le 8 i (fun z => absurd z (by omega)) (fun _ => ⟨pk_in i 8 hi, br_c (fun _ => br_c (fun _ => h41) (fun _ => nm_r (nI_1 i) (hw _ trivial))) (fun _ => h41)⟩)
theorem cw_work {x : Int32} (hp : ∀ r, post r) : wpX_workWith post (c, a1, a2, a3, a4, a5, a6, a7, a8, a9) x := by
  refine pk_loop (fun fu i s => wX_workWith_4 post x c a1 a2 a3 a4 a5 a6 a7 a8 a9 fu s (nI i)) (fun _ _ => True) 8 0 0 (by omega) trivial ?_ ?_
  · intro fu s _
    exact pk_le 8 8 (fun _ => hp _) (fun z => absurd z (by omega))
  · intro fu i s hi _ hw
    exact pk_le 8 i (fun z => absurd z (by omega)) (fun _ => cw_work18 (fun r => hw r trivial))
end
section
variable {post : Int32 → St1 → Prop} {n : Nat} {a1 a2 a3 a4 a5 a6 a7 a8 a9 : Nat → Int32}
theorem cw_plan138 {J : Int32 → Int32 → Int32 → Int32 → (Nat → Int32) → (Nat → Int32) → (Nat → Int32) → (Nat → Int32) → (Nat → Int32) → (Nat → Int32) → (Nat → Int32) → (Nat → Int32) → (Nat → Int32) → Prop} {x2 x6 z : Int32} {r : Nat} (hI : cv_I n a1 a2 a5 a6 a7) (hz : ¬ z = 0 → ∃ g, g < 8 ∧ x6 = nI g) (hJ : ∀ y b5 b6 b7, cv_I n a1 a2 b5 b6 b7 → J y z (nI (r + 1)) (nI n) a1 a2 a3 a4 b5 b6 b7 a8 a9) : wX_plan_138 post J x2 (nI r) x6 z (nI n) a1 a2 a3 a4 a5 a6 a7 a8 a9 := by
  refine br_c (fun _ => nm_r (nI_1 r) (hJ _ _ _ _ hI)) (fun k => ?_)
  obtain ⟨g, hg, rfl⟩ := hz k
  have hc : (nI g).toNatClampNeg = g := nI_clamp (by omega)
  rw [hc]
  exact ⟨pk_in g 8 hg, nm_e (cw_cells (fun _ => nm_e (cw_fill hI.1 hg (fun b6 b7 hf => nm_r (nI_1 r) (hJ _ _ _ _ (cv_keep hI hg hf))))))⟩
theorem cw_plan69 {J : Int32 → Int32 → Int32 → Int32 → (Nat → Int32) → (Nat → Int32) → (Nat → Int32) → (Nat → Int32) → (Nat → Int32) → (Nat → Int32) → (Nat → Int32) → (Nat → Int32) → (Nat → Int32) → Prop} {x2 x5 : Int32} {r : Nat} (hI : cv_I n a1 a2 a5 a6 a7) (hJ : ∀ y z b5 b6 b7, cv_I n a1 a2 b5 b6 b7 → J y z (nI (r + 1)) (nI n) a1 a2 a3 a4 b5 b6 b7 a8 a9) : ∃ fu, wX_plan_69 post J x2 (nI r) x5 (nI n) a1 a2 a3 a4 a5 a6 a7 a8 a9 fu (-1) 0 0 := by
  refine pk_loop (fun fu i s => wX_plan_69 post J x2 (nI r) x5 (nI n) a1 a2 a3 a4 a5 a6 a7 a8 a9 fu s.1 s.2 (nI i)) (fun _ s => s.1 < 0 ∨ ∃ g, g < 8 ∧ s.1 = nI g) 8 0 ((-1 : Int32), (0 : Int32)) (by omega) (Or.inl (by decide)) ?_ ?_
  · intro fu s hs
    refine pk_le 8 8 (fun _ => ?_) (fun z => absurd z (by omega))
    refine br_c (fun k => cw_plan138 hI (fun w => absurd rfl w) (fun y => hJ y _)) (fun k => cw_plan138 hI (fun _ => ?_) (fun y => hJ y _))
    rcases hs with hs | hs
    · exact absurd hs k
    · exact hs
  · intro fu i s hi hs hw
    have hc : (nI i).toNatClampNeg = i := nI_clamp (by omega)
    refine pk_le 8 i (fun z => absurd z (by omega)) (fun _ => cw_work (fun _ => nm_e ⟨pk_in i 8 hi, ?_⟩))
    exact br_c (fun _ => cw_cells (fun _ => br_c (fun _ => nm_r (nI_1 i) (hw s hs)) (fun _ => br_c (fun _ => nm_r (nI_1 i) (hw s hs)) (fun _ => nm_r (nI_1 i) (hw (nI i, _) (Or.inr ⟨i, hi, rfl⟩)))))) (fun _ => nm_r (nI_1 i) (hw s hs))
theorem cw_plan42 {x : Int32} (hI : cv_I n a1 a2 a5 a6 a7) (hp : ∀ r b5 b6 b7, cv_I n a1 a2 b5 b6 b7 → post r (nI n, a1, a2, a3, a4, b5, b6, b7, a8, a9)) : ∃ fu, wX_plan_42 post fu x 1 0 (nI n) a1 a2 a3 a4 a5 a6 a7 a8 a9 := by
  refine pk_loop (fun fu i s => wX_plan_42 post fu s.1 s.2.1 (nI i) (nI n) a1 a2 a3 a4 s.2.2.1 s.2.2.2.1 s.2.2.2.2 a8 a9) (fun _ s => cv_I n a1 a2 s.2.2.1 s.2.2.2.1 s.2.2.2.2) 8 0 (x, (1 : Int32), a5, a6, a7) (by omega) hI ?_ ?_
  · intro fu s hs
    exact pk_le 8 8 (fun _ => hp _ _ _ _ hs) (fun z => absurd z (by omega))
  · intro fu i s hi hs hw
    exact pk_le 8 i (fun z => absurd z (by omega)) (fun _ => br_c (fun _ => hp _ _ _ _ hs) (fun _ => cw_work (fun _ => cw_plan69 hs (fun y z b5 b6 b7 hb => hw (y, z, b5, b6, b7) hb))))
theorem cw_plan {x : Int32} (hI : cv_I n a1 a2 a5 a6 a7) (hp : ∀ r b5 b6 b7, cv_I n a1 a2 b5 b6 b7 → post r (nI n, a1, a2, a3, a4, b5, b6, b7, a8, a9)) : wpX_plan post (nI n, a1, a2, a3, a4, a5, a6, a7, a8, a9) x := by
  refine br_c (fun _ => hp _ _ _ _ hI) (fun _ => br_c (fun _ => ?_) (fun _ => hp _ _ _ _ hI))
  refine pk_loop (fun fu i s => wX_plan_16 post x (nI n) fu (nI i) a1 a2 a3 a4 s a6 a7 a8 a9) (fun i s => ∀ g, g < i → s g = 0) 8 0 a5 (by omega) (fun g hg => absurd hg (by omega)) ?_ ?_
  · intro fu s hs
    exact pk_le 8 8 (fun _ => cw_plan42 ⟨hI.1, fun g hg k => absurd (hs g hg) k⟩ hp) (fun z => absurd z (by omega))
  · intro fu i s hi hs hw
    have hc : (nI i).toNatClampNeg = i := nI_clamp (by omega)
    refine pk_le 8 i (fun z => absurd z (by omega)) (fun _ => ?_)
    rw [hc]
    refine ⟨pk_in i 8 hi, nm_e (nm_r (nI_1 i) (hw _ ?_))⟩
    intro g hg
    by_cases e : g = i
    · rw [e, pk_us]
    · rw [pk_un e]
      exact hs g (by omega)
theorem cv_amt {x : Int32} (h1 : ¬ x < -50) (h2 : x ≤ 50) : -50 ≤ x.toInt ∧ x.toInt ≤ 50 := by
  rw [Int32.lt_iff_toInt_lt] at h1
  rw [Int32.le_iff_toInt_le] at h2
  have e1 : (-50 : Int32).toInt = -50 := by decide
  have e2 : (50 : Int32).toInt = 50 := by decide
  rw [e1] at h1
  rw [e2] at h2
  omega
/-- a new fact -/
theorem cv_I_add {q : Nat} {v : Int32} {b6 b7 : Nat → Int32} (hI : cv_I n a1 a2 a5 a6 a7) (hn : n < 40) (hq : q < 120) (hv : -50 ≤ v.toInt ∧ v.toInt ≤ 50) (hb : ∀ g, g < 8 → ¬ a5 g = 0 → ∀ p, p < 120 → b6 (120 * g + p) = a6 (120 * g + p) + (if cv_g q g = p then 1 else 0) ∧ b7 (120 * g + p) = a7 (120 * g + p) + (if cv_g q g = p then v else 0)) : cv_I (n + 1) (upd a1 n (nI q)) (upd a2 n v) a5 b6 b7 := by
  refine ⟨⟨by omega, fun i hi => ?_, fun i hi => ?_⟩, fun g hg k p hp => ?_⟩
  · by_cases e : i = n
    · rw [e, pk_us]
      exact ⟨q, hq, rfl⟩
    · rw [pk_un e]
      exact hI.1.2.1 i (by omega)
  · by_cases e : i = n
    · rw [e, pk_us]
      exact hv
    · rw [pk_un e]
      exact hI.1.2.2 i (by omega)
  · have e := hb g hg k p hp
    have o := hI.2 g hg k p hp
    have epl : cv_pl (upd a1 n (nI q)) n = q := cv_plN pk_us hq
    have eE : ∀ i, i < n → cv_E (upd a1 n (nI q)) g p i = cv_E a1 g p i := fun i hi => by
      unfold cv_E cv_pl
      rw [pk_un (by omega)]
    have eN : cv_E (upd a1 n (nI q)) g p n = decide (cv_g q g = p) := by
      unfold cv_E
      rw [epl]
    have s1 : cv_s (fun _ => 1) (cv_E (upd a1 n (nI q)) g p) n = cv_s (fun _ => 1) (cv_E a1 g p) n := cv_cong eE
    have s2 : cv_s (upd a2 n v) (cv_E (upd a1 n (nI q)) g p) n = cv_s a2 (cv_E a1 g p) n := cv_congr (fun i hi => ⟨pk_un (by omega), eE i hi⟩)
    rw [cv_sS, cv_sS, s1, s2, eN, e.1, e.2, o.1, o.2, pk_us]
    by_cases z : cv_g q g = p
    · rw [if_pos z, if_pos z, if_pos (decide_eq_true z), if_pos (decide_eq_true z)]
      exact ⟨rfl, rfl⟩
    · have z' : ¬ decide (cv_g q g = p) = true := fun w => z (of_decide_eq_true w)
      rw [if_neg z, if_neg z, if_neg z', if_neg z']
      exact ⟨rfl, rfl⟩
/-- the last fact goes -/
theorem cv_I_rem {q : Nat} {b6 b7 : Nat → Int32} (hI : cv_I (n + 1) a1 a2 a5 a6 a7) (hq : q < 120) (eq : a1 n = nI q) (hb : ∀ g, g < 8 → ¬ a5 g = 0 → ∀ p, p < 120 → b6 (120 * g + p) = a6 (120 * g + p) + (if cv_g q g = p then -1 else 0) ∧ b7 (120 * g + p) = a7 (120 * g + p) + (if cv_g q g = p then -(a2 n) else 0)) : cv_I n a1 a2 a5 b6 b7 := by
  have h40 := hI.1.1
  refine ⟨⟨by omega, fun i hi => hI.1.2.1 i (by omega), fun i hi => hI.1.2.2 i (by omega)⟩, fun g hg k p hp => ?_⟩
  have e := hb g hg k p hp
  have o := hI.2 g hg k p hp
  have eN : cv_E a1 g p n = decide (cv_g q g = p) := by
    unfold cv_E
    rw [cv_plN eq hq]
  rw [cv_sS, cv_sS, eN] at o
  rw [e.1, e.2, o.1, o.2]
  generalize cv_s (fun _ => 1) (cv_E a1 g p) n = x
  generalize cv_s a2 (cv_E a1 g p) n = y
  generalize a2 n = w
  by_cases z : cv_g q g = p
  · rw [if_pos z, if_pos z, if_pos (decide_eq_true z), if_pos (decide_eq_true z)]
    exact ⟨by grind, by grind⟩
  · have z' : ¬ decide (cv_g q g = p) = true := fun w => z (of_decide_eq_true w)
    rw [if_neg z, if_neg z, if_neg z', if_neg z']
    exact ⟨by grind, by grind⟩
/-- a fact's amount changes -/
theorem cv_I_chg {i q : Nat} {v : Int32} {b6 b7 : Nat → Int32} (hI : cv_I n a1 a2 a5 a6 a7) (hi : i < n) (hq : q < 120) (eq : a1 i = nI q) (hv : -50 ≤ v.toInt ∧ v.toInt ≤ 50) (hb : ∀ g, g < 8 → ¬ a5 g = 0 → ∀ p, p < 120 → b6 (120 * g + p) = a6 (120 * g + p) + (if cv_g q g = p then 0 else 0) ∧ b7 (120 * g + p) = a7 (120 * g + p) + (if cv_g q g = p then v - a2 i else 0)) : cv_I n a1 (upd a2 i v) a5 b6 b7 := by
  refine ⟨⟨hI.1.1, hI.1.2.1, fun j hj => ?_⟩, fun g hg k p hp => ?_⟩
  · by_cases e : j = i
    · rw [e, pk_us]
      exact hv
    · rw [pk_un e]
      exact hI.1.2.2 j hj
  · have e := hb g hg k p hp
    have o := hI.2 g hg k p hp
    have eN : cv_E a1 g p i = decide (cv_g q g = p) := by
      unfold cv_E
      rw [cv_plN eq hq]
    rw [cv_upd hi, eN, e.1, e.2, o.1, o.2]
    by_cases z : cv_g q g = p
    · rw [if_pos z, if_pos z, if_pos (decide_eq_true z), Int32.add_zero]
      exact ⟨rfl, rfl⟩
    · have z' : ¬ decide (cv_g q g = p) = true := fun w => z (of_decide_eq_true w)
      rw [if_neg z, if_neg z, if_neg z', Int32.add_zero]
      exact ⟨rfl, rfl⟩
theorem cw_add {x y : Int32} (hI : cv_I n a1 a2 a5 a6 a7) (hp : ∀ r n' b1 b2 b3 b4 b5 b6 b7, cv_I n' b1 b2 b5 b6 b7 → post r (nI n', b1, b2, b3, b4, b5, b6, b7, a8, a9)) : wpX_add post (nI n, a1, a2, a3, a4, a5, a6, a7, a8, a9) x y := by
  have h40 := hI.1.1
  refine br_c (fun _ => hp _ _ _ _ _ _ _ _ _ hI) (fun k1 => br_c (fun _ => hp _ _ _ _ _ _ _ _ _ hI) (fun k2 => br_c (fun _ => hp _ _ _ _ _ _ _ _ _ hI) (fun k3 => br_c (fun k4 => ?_) (fun _ => hp _ _ _ _ _ _ _ _ _ hI))))
  refine pk_eq n 40 (fun _ => hp _ _ _ _ _ _ _ _ _ hI) (fun kn => ?_)
  obtain ⟨q, hq, rfl⟩ : ∃ q, q < 120 ∧ x = nI q := by
    rcases pk_ix x (n := 120) (by omega) with w | w | w
    · exact absurd w k1
    · exact absurd w k2
    · exact w
  have hc : (nI n).toNatClampNeg = n := nI_clamp (by omega)
  have hc2 : (nI q).toNatClampNeg = q := nI_clamp (by omega)
  rw [hc, hc2]
  refine ⟨pk_in n 40 (by omega), nm_e ⟨pk_in n 40 (by omega), nm_e ⟨pk_in q 120 hq, pk_in n 40 (by omega), nm_e ⟨pk_in q 120 hq, nm_e (nm_r (nI_1 n) (cw_enter hq (fun b6 b7 hb => hp _ _ _ _ _ _ _ _ _ (cv_I_add hI (by omega) hq (cv_amt k3 k4) hb))))⟩⟩⟩⟩
theorem cw_remove (hI : cv_I n a1 a2 a5 a6 a7) (hp : ∀ r n' b1 b2 b3 b4 b5 b6 b7, cv_I n' b1 b2 b5 b6 b7 → post r (nI n', b1, b2, b3, b4, b5, b6, b7, a8, a9)) : wpX_remove post (nI n, a1, a2, a3, a4, a5, a6, a7, a8, a9) := by
  have h40 := hI.1.1
  refine pk_eq n 0 (fun _ => hp _ _ _ _ _ _ _ _ _ hI) (fun kn => ?_)
  obtain ⟨m, rfl⟩ : ∃ m, n = m + 1 := ⟨n - 1, by omega⟩
  obtain ⟨q, hq, eq⟩ := hI.1.2.1 m (by omega)
  have hc : (nI m).toNatClampNeg = m := nI_clamp (by omega)
  have hc2 : (nI q).toNatClampNeg = q := nI_clamp (by omega)
  refine nm_r (nI_pred m) ?_
  rw [hc]
  refine ⟨pk_in m 40 (by omega), nm_r eq ?_⟩
  rw [hc2]
  refine ⟨pk_in m 40 (by omega), pk_in q 120 hq, nm_e ⟨pk_in m 40 (by omega), cw_enter hq (fun b6 b7 hb => ?_)⟩⟩
  exact ⟨pk_in m 40 (by omega), hp _ _ _ _ _ _ _ _ _ (cv_I_rem hI hq eq hb)⟩
theorem cw_change {x y : Int32} (hI : cv_I n a1 a2 a5 a6 a7) (hp : ∀ r n' b1 b2 b3 b4 b5 b6 b7, cv_I n' b1 b2 b5 b6 b7 → post r (nI n', b1, b2, b3, b4, b5, b6, b7, a8, a9)) : wpX_change post (nI n, a1, a2, a3, a4, a5, a6, a7, a8, a9) x y := by
  have h40 := hI.1.1
  refine br_c (fun _ => hp _ _ _ _ _ _ _ _ _ hI) (fun k1 => br_c (fun _ => hp _ _ _ _ _ _ _ _ _ hI) (fun k2 => br_c (fun _ => hp _ _ _ _ _ _ _ _ _ hI) (fun k3 => br_c (fun k4 => ?_) (fun _ => hp _ _ _ _ _ _ _ _ _ hI))))
  obtain ⟨i, hi, rfl⟩ : ∃ i, i < n ∧ x = nI i := by
    rcases pk_ix x (n := n) (by omega) with w | w | w
    · exact absurd w k1
    · exact absurd w k2
    · exact w
  obtain ⟨q, hq, eq⟩ := hI.1.2.1 i hi
  have hc : (nI i).toNatClampNeg = i := nI_clamp (by omega)
  rw [hc, eq]
  exact ⟨pk_in i 40 (by omega), nm_e ⟨pk_in i 40 (by omega), nm_e ⟨pk_in i 40 (by omega), cw_enter hq (fun b6 b7 hb => hp _ _ _ _ _ _ _ _ _ (cv_I_chg hI hi hq eq (cv_amt k3 k4) hb))⟩⟩⟩
theorem cw_turn {x y : Int32} (hI : cv_I n a1 a2 a5 a6 a7) (hp : ∀ r n' b1 b2 b3 b4 b5 b6 b7, cv_I n' b1 b2 b5 b6 b7 → post r (nI n', b1, b2, b3, b4, b5, b6, b7, a8, a9)) : wpL_turn post (nI n, a1, a2, a3, a4, a5, a6, a7, a8, a9) x y := by
  have h75 : ∀ z0 z1, wL_turn_75 post z0 z1 (nI n) a1 a2 a3 a4 a5 a6 a7 a8 a9 := fun z0 z1 => cw_add hI hp
  refine nm_e ⟨by decide, by decide, nm_e ⟨by decide, nm_e ?_⟩⟩
  refine br_c (fun _ => br_c (fun _ => cw_remove hI hp) (fun _ => br_c (fun _ => cw_plan hI (fun r b5 b6 b7 hb => hp r n a1 a2 a3 a4 b5 b6 b7 hb)) (fun _ => cw_change hI hp))) (fun _ => br_c (fun _ => ⟨by decide, h75 _ _⟩) (fun _ => h75 _ _))
end
/-! the constructor -/
theorem cw_init {post : St1 → Prop} (hp : ∀ b3, post (0, (fun _ => 0), (fun _ => 0), b3, (fun _ => 0), (fun _ => 0), (fun _ => 0), (fun _ => 0), (fun _ => 0), (fun _ => 0))) : wpX_init post 9 2408 0 := by
  unfold wpX_init
  refine ⟨by decide, by decide, by decide, by decide, by decide, by decide, by decide, by decide, by decide, by decide, by decide, by decide, by decide, by decide, by decide, by decide, by decide, by decide, ?_⟩
  refine pk_loop (fun fu i s => wX_init_80 post 9 2408 9 2408 0 fu (nI i) (fun _ => 0) (fun _ => 0) s (fun _ => 0) (fun _ => 0) (fun _ => 0) (fun _ => 0) (fun _ => 0) (fun _ => 0)) (fun _ _ => True) 120 0 (fun _ => 0) (by omega) trivial ?_ ?_
  · intro fu s _
    exact pk_le 120 120 (fun _ => hp s) (fun z => absurd z (by omega))
  · intro fu i s hi _ hw
    exact pk_le 120 i (fun z => absurd z (by omega)) (fun _ => ⟨pk_in i 120 hi, nm_e (nm_r (nI_1 i) (hw _ trivial))⟩)
end
section
/-! the questions -/
/-- how many facts pass, and their sum -/
def cv_C (n : Nat) (a1 : Nat → Int32) (F : Nat) : Int32 := cv_s (fun _ => 1) (fun i => cv_p (cv_pl a1 i) F) n
def cv_S (n : Nat) (a1 a2 : Nat → Int32) (F : Nat) : Int32 := cv_s a2 (fun i => cv_p (cv_pl a1 i) F) n
/-- a group's count and sum -/
def cv_GC (n : Nat) (a1 : Nat → Int32) (F g q : Nat) : Int32 := cv_s (fun _ => 1) (cv_P a1 F g q) n
def cv_GS (n : Nat) (a1 a2 : Nat → Int32) (F g q : Nat) : Int32 := cv_s a2 (cv_P a1 F g q) n
/-- groups with a fact among the first p places -/
def cv_gr (C : Nat → Int32) : Nat → Int32
  | 0 => 0
  | p + 1 => if C p ≤ 0 then cv_gr C p else cv_gr C p + 1
def cv_al (C S : Nat → Int32) (x : Int32) : Nat → Int32
  | 0 => 0
  | p + 1 => if C p ≤ 0 then cv_al C S x p else if S p < x then cv_al C S x p else cv_al C S x p + 1
def cv_up (S : Nat → Int32) (p : Nat) : Option Nat → Option Nat
  | none => some p
  | some b => if S p ≤ S b then some b else some p
def cv_bt (C S : Nat → Int32) : Nat → Option Nat
  | 0 => none
  | p + 1 => if C p ≤ 0 then cv_bt C S p else cv_up S p (cv_bt C S p)
def cv_ts (S : Nat → Int32) : Option Nat → Int32
  | none => -4000000
  | some b => S b
def cv_tn : Option Nat → Int32
  | none => -4000000
  | some b => nI b
def cv_ti : Option Nat → Int32
  | none => -1
  | some b => nI b
theorem cv_bt_lt {C S : Nat → Int32} : ∀ {p b : Nat}, cv_bt C S p = some b → b < p
  | 0, _, h => absurd h.symm (Option.some_ne_none _)
  | p + 1, b, h => by
    have h' : (if C p ≤ 0 then cv_bt C S p else cv_up S p (cv_bt C S p)) = some b := h
    by_cases e : C p ≤ 0
    · rw [if_pos e] at h'
      have := cv_bt_lt h'
      omega
    · rw [if_neg e] at h'
      cases hb : cv_bt C S p with
      | none =>
        rw [hb] at h'
        have h2 : some p = some b := h'
        injection h2
        omega
      | some d =>
        rw [hb] at h'
        have l := cv_bt_lt hb
        have h2 : (if S p ≤ S d then some d else some p) = some b := h'
        by_cases e2 : S p ≤ S d
        · rw [if_pos e2] at h2
          injection h2
          omega
        · rw [if_neg e2] at h2
          injection h2
          omega
theorem cv_P0 (a1 : Nat → Int32) (F i : Nat) : cv_P a1 F 0 0 i = cv_p (cv_pl a1 i) F := by
  unfold cv_P
  rw [cv_g_0, decide_eq_true (rfl : (0 : Nat) = 0), Bool.and_true]
theorem cv_C0 (n : Nat) (a1 : Nat → Int32) (F : Nat) : cv_s (fun _ => 1) (cv_P a1 F 0 0) n = cv_C n a1 F := cv_cong (fun i _ => cv_P0 a1 F i)
theorem cv_S0 (n : Nat) (a1 a2 : Nat → Int32) (F : Nat) : cv_s a2 (cv_P a1 F 0 0) n = cv_S n a1 a2 F := cv_cong (fun i _ => cv_P0 a1 F i)
section
variable {post : Int32 → St1 → Prop} {n F g : Nat} {a1 a2 a3 a4 a5 a6 a7 a8 a9 : Nat → Int32}
theorem cw_count (hI : cv_I n a1 a2 a5 a6 a7) (hF : F < 32768) (hp : ∀ b8 b9, post (cv_C n a1 F) (nI n, a1, a2, a3, a4, a5, a6, a7, b8, b9)) : wpX_count post (nI n, a1, a2, a3, a4, a5, a6, a7, a8, a9) (nI F) := by
  unfold wpX_count
  dsimp only
  refine cw_bF hF (br_t rfl (cw_gather (h := 0) hI hF (by omega) (fun b8 b9 hr => ?_)))
  have e : b8 0 = cv_C n a1 F := by rw [(hr 0 (by omega)).1, cv_C0]
  have h2 := hp b8 b9
  rw [← e] at h2
  exact h2
theorem cw_sum (hI : cv_I n a1 a2 a5 a6 a7) (hF : F < 32768) (hp : ∀ b8 b9, post (cv_S n a1 a2 F) (nI n, a1, a2, a3, a4, a5, a6, a7, b8, b9)) : wpX_sum post (nI n, a1, a2, a3, a4, a5, a6, a7, a8, a9) (nI F) := by
  unfold wpX_sum
  dsimp only
  refine cw_bF hF (br_t rfl (cw_gather (h := 0) hI hF (by omega) (fun b8 b9 hr => ?_)))
  have e : b9 0 = cv_S n a1 a2 F := by rw [(hr 0 (by omega)).2, cv_S0]
  have h2 := hp b8 b9
  rw [← e] at h2
  exact h2
theorem cw_groups (hI : cv_I n a1 a2 a5 a6 a7) (hF : F < 32768) (hg : g < 8) (hp : ∀ b8 b9, post (cv_gr (cv_GC n a1 F g) 120) (nI n, a1, a2, a3, a4, a5, a6, a7, b8, b9)) : wpX_groups post (nI n, a1, a2, a3, a4, a5, a6, a7, a8, a9) (nI g) (nI F) := by
  unfold wpX_groups
  dsimp only
  refine cw_bG hg (br_t rfl (cw_bF hF (br_t rfl (cw_gather hI hF hg (fun b8 b9 hr => ?_)))))
  refine pk_loop (fun fu i s => wX_groups_30 post (nI n) a1 a2 a3 a4 a5 a6 a7 b8 b9 fu s (nI i)) (fun p s => s = cv_gr (cv_GC n a1 F g) p) 120 0 0 (by omega) rfl ?_ ?_
  · intro fu s hs
    refine pk_le 120 120 (fun _ => ?_) (fun z => absurd z (by omega))
    rw [hs]
    exact hp b8 b9
  · intro fu i s hi hs hw
    have hc : (nI i).toNatClampNeg = i := nI_clamp (by omega)
    have e : b8 i = cv_GC n a1 F g i := (hr i hi).1
    refine pk_le 120 i (fun z => absurd z (by omega)) (fun _ => ⟨pk_in i 120 hi, ?_⟩)
    rw [hc, e]
    refine br_c (fun k => nm_r (nI_1 i) (hw _ ?_)) (fun k => nm_e (nm_r (nI_1 i) (hw _ ?_)))
    · rw [hs]
      exact (if_pos k).symm
    · rw [hs]
      exact (if_neg k).symm
theorem cw_atLeast {x : Int32} (hI : cv_I n a1 a2 a5 a6 a7) (hg : g < 8) (hp : ∀ b8 b9, post (cv_al (cv_GC n a1 32767 g) (cv_GS n a1 a2 32767 g) x 120) (nI n, a1, a2, a3, a4, a5, a6, a7, b8, b9)) : wpX_atLeast post (nI n, a1, a2, a3, a4, a5, a6, a7, a8, a9) (nI g) x := by
  unfold wpX_atLeast
  dsimp only
  refine cw_bG hg (br_t rfl (cw_gather (F := 32767) hI (by omega) hg (fun b8 b9 hr => ?_)))
  refine pk_loop (fun fu i s => wX_atLeast_24 post x (nI n) a1 a2 a3 a4 a5 a6 a7 b8 b9 fu s (nI i)) (fun p s => s = cv_al (cv_GC n a1 32767 g) (cv_GS n a1 a2 32767 g) x p) 120 0 0 (by omega) rfl ?_ ?_
  · intro fu s hs
    refine pk_le 120 120 (fun _ => ?_) (fun z => absurd z (by omega))
    rw [hs]
    exact hp b8 b9
  · intro fu i s hi hs hw
    have hc : (nI i).toNatClampNeg = i := nI_clamp (by omega)
    have e : b8 i = cv_GC n a1 32767 g i := (hr i hi).1
    have e' : b9 i = cv_GS n a1 a2 32767 g i := (hr i hi).2
    refine pk_le 120 i (fun z => absurd z (by omega)) (fun _ => ⟨pk_in i 120 hi, ?_⟩)
    rw [hc, e, e']
    refine br_c (fun k => nm_r (nI_1 i) (hw _ ?_)) (fun k => ⟨pk_in i 120 hi, br_c (fun k2 => nm_r (nI_1 i) (hw _ ?_)) (fun k2 => nm_e (nm_r (nI_1 i) (hw _ ?_)))⟩)
    · rw [hs]
      exact (if_pos k).symm
    · rw [hs]
      exact ((if_neg k).trans (if_pos k2)).symm
    · rw [hs]
      exact ((if_neg k).trans (if_neg k2)).symm
theorem cw_top (hI : cv_I n a1 a2 a5 a6 a7) (hF : F < 32768) (hg : g < 8) (hp : ∀ b8 b9, cv_R n a1 a2 F g b8 b9 → post (cv_ti (cv_bt (cv_GC n a1 F g) (cv_GS n a1 a2 F g) 120)) (nI n, a1, a2, a3, a4, a5, a6, a7, b8, b9)) : wpX_top post (nI n, a1, a2, a3, a4, a5, a6, a7, a8, a9) (nI g) (nI F) := by
  unfold wpX_top
  dsimp only
  refine cw_gather hI hF hg (fun b8 b9 hr => ?_)
  refine pk_loop (fun fu i s => wX_top_11 post (nI n) a1 a2 a3 a4 a5 a6 a7 b8 b9 fu s (nI i)) (fun p s => s = cv_ti (cv_bt (cv_GC n a1 F g) (cv_GS n a1 a2 F g) p)) 120 0 (-1) (by omega) rfl ?_ ?_
  · intro fu s hs
    refine pk_le 120 120 (fun _ => ?_) (fun z => absurd z (by omega))
    rw [hs]
    exact hp b8 b9 hr
  · intro fu i s hi hs hw
    have hc : (nI i).toNatClampNeg = i := nI_clamp (by omega)
    have e : b8 i = cv_GC n a1 F g i := (hr i hi).1
    have e' : b9 i = cv_GS n a1 a2 F g i := (hr i hi).2
    refine pk_le 120 i (fun z => absurd z (by omega)) (fun _ => ⟨pk_in i 120 hi, ?_⟩)
    rw [hc, e, e']
    have st : cv_bt (cv_GC n a1 F g) (cv_GS n a1 a2 F g) (i + 1) = if cv_GC n a1 F g i ≤ 0 then cv_bt (cv_GC n a1 F g) (cv_GS n a1 a2 F g) i else cv_up (cv_GS n a1 a2 F g) i (cv_bt (cv_GC n a1 F g) (cv_GS n a1 a2 F g) i) := rfl
    refine br_c (fun k => nm_r (nI_1 i) (hw _ ?_)) (fun k => ?_)
    · rw [st, if_pos k]
      exact hs
    · rw [if_neg k] at st
      cases hb : cv_bt (cv_GC n a1 F g) (cv_GS n a1 a2 F g) i with
      | none =>
        rw [hb] at hs st
        have hs' : s = -1 := hs
        subst hs'
        refine br_t (by decide) (nm_r (nI_1 i) (hw _ ?_))
        rw [st]
        rfl
      | some b =>
        have l := cv_bt_lt hb
        rw [hb] at hs st
        have hs' : s = nI b := hs
        subst hs'
        have hcb : (nI b).toNatClampNeg = b := nI_clamp (by omega)
        have eb : b9 b = cv_GS n a1 a2 F g b := (hr b (by omega)).2
        rw [hcb, eb]
        have st' : cv_bt (cv_GC n a1 F g) (cv_GS n a1 a2 F g) (i + 1) = if cv_GS n a1 a2 F g i ≤ cv_GS n a1 a2 F g b then some b else some i := st
        refine br_f (nI_pos (by omega)) ⟨pk_in i 120 hi, pk_in b 120 (by omega), br_c (fun k2 => nm_r (nI_1 i) (hw _ ?_)) (fun k2 => nm_r (nI_1 i) (hw _ ?_))⟩
        · rw [st', if_pos k2]
          rfl
        · rw [st', if_neg k2]
          rfl
theorem cw_topSum (hI : cv_I n a1 a2 a5 a6 a7) (hF : F < 32768) (hg : g < 8) (hp : ∀ b8 b9, post (cv_ts (cv_GS n a1 a2 F g) (cv_bt (cv_GC n a1 F g) (cv_GS n a1 a2 F g) 120)) (nI n, a1, a2, a3, a4, a5, a6, a7, b8, b9)) : wpX_topSum post (nI n, a1, a2, a3, a4, a5, a6, a7, a8, a9) (nI g) (nI F) := by
  unfold wpX_topSum
  dsimp only
  refine cw_bG hg (br_t rfl (cw_bF hF (br_t rfl (cw_top hI hF hg (fun b8 b9 hr => ?_)))))
  have h2 := hp b8 b9
  cases hb : cv_bt (cv_GC n a1 F g) (cv_GS n a1 a2 F g) 120 with
  | none =>
    rw [hb] at h2
    exact br_f (by decide) h2
  | some b =>
    have l := cv_bt_lt hb
    rw [hb] at h2
    have h3 : post (cv_GS n a1 a2 F g b) (nI n, a1, a2, a3, a4, a5, a6, a7, b8, b9) := h2
    have hcb : (nI b).toNatClampNeg = b := nI_clamp (by omega)
    have eb : b9 b = cv_GS n a1 a2 F g b := (hr b (by omega)).2
    rw [← eb] at h3
    refine br_t (nI_pos' (by omega)) ⟨pk_in b 120 (by omega), ?_⟩
    show post (b9 (nI b).toNatClampNeg) _
    rw [hcb]
    exact h3
theorem cw_topGroup (hI : cv_I n a1 a2 a5 a6 a7) (hF : F < 32768) (hg : g < 8) (hp : ∀ b8 b9, post (cv_tn (cv_bt (cv_GC n a1 F g) (cv_GS n a1 a2 F g) 120)) (nI n, a1, a2, a3, a4, a5, a6, a7, b8, b9)) : wpX_topGroup post (nI n, a1, a2, a3, a4, a5, a6, a7, a8, a9) (nI g) (nI F) := by
  unfold wpX_topGroup
  dsimp only
  refine cw_bG hg (br_t rfl (cw_bF hF (br_t rfl (cw_top hI hF hg (fun b8 b9 hr => ?_)))))
  have h2 := hp b8 b9
  cases hb : cv_bt (cv_GC n a1 F g) (cv_GS n a1 a2 F g) 120 with
  | none =>
    rw [hb] at h2
    exact br_f (by decide) h2
  | some b =>
    have l := cv_bt_lt hb
    rw [hb] at h2
    exact br_t (nI_pos' (by omega)) h2
theorem cw_growth {m : Nat} (hI : cv_I n a1 a2 a5 a6 a7) (h1 : 1 ≤ m) (hm : m < 6) (hp : ∀ b8 b9, post (cv_GS n a1 a2 32767 4 (20 * m) - cv_GS n a1 a2 32767 4 (20 * m - 20)) (nI n, a1, a2, a3, a4, a5, a6, a7, b8, b9)) : wpX_growth post (nI n, a1, a2, a3, a4, a5, a6, a7, a8, a9) (nI m) := by
  refine br_f (nI_nlt (a := m) (b := 1) h1 (by omega)) (br_t (nI_lt (a := m) (b := 6) hm (by omega)) (cw_gather (h := 4) (F := 32767) hI (by omega) (by omega) (fun b8 b9 hr => ?_)))
  have x1 : (20 : Int32) * nI m = nI (20 * m) := pk_mul 20 m
  have x2 : nI (20 * m) - 20 = nI (20 * m - 20) := pk_sub (b := 20) (by omega)
  have hc1 : (nI (20 * m)).toNatClampNeg = 20 * m := nI_clamp (by omega)
  have hc2 : (nI (20 * m - 20)).toNatClampNeg = 20 * m - 20 := nI_clamp (by omega)
  have e1 : b9 (20 * m) = cv_GS n a1 a2 32767 4 (20 * m) := (hr _ (by omega)).2
  have e2 : b9 (20 * m - 20) = cv_GS n a1 a2 32767 4 (20 * m - 20) := (hr _ (by omega)).2
  have h2 := hp b8 b9
  rw [← e1, ← e2] at h2
  show vp_in (20 * nI m) 120 ∧ (vp_in ((20 * nI m) - 20) 120 ∧ post (b9 (20 * nI m).toNatClampNeg - b9 ((20 * nI m) - 20).toNatClampNeg) (nI n, a1, a2, a3, a4, a5, a6, a7, b8, b9))
  rw [x1, x2, hc1, hc2]
  exact ⟨vp_in_nI (by omega) (by omega), vp_in_nI (by omega) (by omega), h2⟩
theorem cw_quarter {q r : Nat} (hI : cv_I n a1 a2 a5 a6 a7) (hq : q < 2) (hr : r < 4) (hF : F < 32768) (eF : ((((1 : Int32) <<< (nI r &&& 31)) ||| 496) ||| ((7 : Int32) <<< ((9 + (3 * nI q)) &&& 31))) = nI F) (hp : ∀ b8 b9, post (cv_S n a1 a2 F) (nI n, a1, a2, a3, a4, a5, a6, a7, b8, b9)) : wpX_quarter post (nI n, a1, a2, a3, a4, a5, a6, a7, a8, a9) (nI q) (nI r) := by
  refine br_f (nI_pos (by omega)) (br_f (nI_nlt (a := 1) (b := q) (by omega) (by omega)) (br_f (nI_pos (by omega)) (br_t (nI_lt (a := r) (b := 4) hr (by omega)) ?_)))
  rw [eF]
  refine cw_gather (h := 0) hI hF (by omega) (fun b8 b9 hr => ?_)
  have e : b9 0 = cv_S n a1 a2 F := by rw [(hr 0 (by omega)).2, cv_S0]
  have h2 := hp b8 b9
  rw [← e] at h2
  exact h2
end
end
section
/-! one round of the law's loop over the places -/
section
variable {post : Int32 → Prop} {L : Nat} {xs : Nat → Int32} {J : Int32 → Int32 → Int32 → Int32 → Int32 → Int32 → Int32 → Int32 → Int32 → (Nat → Int32) → (Nat → Int32) → (Nat → Int32) → (Nat → Int32) → (Nat → Int32) → (Nat → Int32) → (Nat → Int32) → (Nat → Int32) → (Nat → Int32) → Prop} {n F g p own kc ks : Nat} {x4 x5 x6 x7 x8 x9 x10 x11 x12 x17 x19 x20 x21 z : Int32} {a1 a2 a3 a4 a5 a6 a7 a8 a9 : Nat → Int32}
theorem cv_ownI (R K M : Nat) : (nI R + (16 * nI K)) + (512 * nI M) = nI (R + 16 * K + 512 * M) := by
  rw [show (16 : Int32) * nI K = nI (16 * K) from pk_mul 16 K, show (512 : Int32) * nI M = nI (512 * M) from pk_mul 512 M, nI_add, nI_add]
theorem cv_cellI (hp : p < 120) : (((1 : Int32) <<< (nI (p % 4) &&& 31)) + (16 * ((1 : Int32) <<< (nI (p / 4 % 5) &&& 31)))) + (512 * ((1 : Int32) <<< (nI (p / 20) &&& 31))) = nI (cv_own 7 p) := by
  rw [cv_sh1 _ (by omega), cv_sh1 _ (by omega), cv_sh1 _ (by omega), cv_ownI]
  rfl
theorem cw_371 (hI : cv_I n a1 a2 a5 a6 a7) (hF : F < 32768) (hp : p < 120) (hJ : ∀ b8 b9, J x6 x7 x8 z (x10 + x19) (x11 + x21) (if cv_p p F = true then x12 + cv_S n a1 a2 (cv_own 7 p) else x12) (nI (p + 1)) (nI n) a1 a2 a3 a4 a5 a6 a7 b8 b9) : wL_law_371 post L xs J (nI F) x4 x5 x6 x7 x8 x10 x11 x12 (nI p) (nI (p % 4)) (nI (p / 4 % 5)) (nI (p / 20)) x19 x21 z kc ks (nI n) a1 a2 a3 a4 a5 a6 a7 a8 a9 := by
  have ho := cv_own_lt (g := 7) hp
  have hl : F &&& cv_own 7 p ≤ F := Nat.and_le_left
  have ei : nI F &&& nI (cv_own 7 p) = nI (cv_own 7 p) ↔ cv_p p F = true := by
    rw [cv_andN, nI_eq (by omega) (by omega)]
    exact cv_cell hp
  refine nm_e (nm_e (nm_r (cv_cellI hp) (cv_ift ei (fun y => ?_) (fun y => ?_))))
  · refine cw_sum hI ho (fun b8 b9 => nm_e (nm_r (nI_1 p) ?_))
    have h2 := hJ b8 b9
    rw [if_pos y] at h2
    exact h2
  · refine nm_r (nI_1 p) ?_
    have h2 := hJ a8 a9
    rw [y, if_neg (by decide)] at h2
    exact h2
theorem cw_344 (hI : cv_I n a1 a2 a5 a6 a7) (hF : F < 32768) (hp : p < 120) (ho : own < 32768) (hJ : ∀ b8 b9, J x6 z x8 (if x20 ≤ 0 then x9 else if cv_S n a1 a2 own < x5 then x9 else x9 + 1) (x10 + x19) (x11 + x21) (if cv_p p F = true then x12 + cv_S n a1 a2 (cv_own 7 p) else x12) (nI (p + 1)) (nI n) a1 a2 a3 a4 a5 a6 a7 b8 b9) : wL_law_344 post L xs J (nI F) x4 x5 x6 x8 x9 x10 x11 x12 (nI p) (nI (p % 4)) (nI (p / 4 % 5)) (nI (p / 20)) (nI own) x19 x20 x21 z kc ks (nI n) a1 a2 a3 a4 a5 a6 a7 a8 a9 := by
  by_cases k : x20 ≤ 0
  · simp only [if_pos k] at hJ
    exact br_t k (cw_371 hI hF hp hJ)
  · simp only [if_neg k] at hJ
    refine br_f k (cw_sum hI ho (fun c8 c9 => ?_))
    by_cases k2 : cv_S n a1 a2 own < x5
    · simp only [if_pos k2] at hJ
      exact br_t k2 (cw_371 hI hF hp hJ)
    · simp only [if_neg k2] at hJ
      exact br_f k2 (cw_371 hI hF hp hJ)
theorem cw_286 (hI : cv_I n a1 a2 a5 a6 a7) (hF : F < 32768) (hp : p < 120) (ho : own < 32768) (hJ : ∀ b8 b9, J (if x19 ≤ 0 then x6 else x6 + 1) (if x19 ≤ 0 then x7 else if x21 ≤ x7 then x7 else x21) (if x19 ≤ 0 then x8 else if x21 ≤ x7 then x8 else nI p) (if x20 ≤ 0 then x9 else if cv_S n a1 a2 own < x5 then x9 else x9 + 1) (x10 + x19) (x11 + x21) (if cv_p p F = true then x12 + cv_S n a1 a2 (cv_own 7 p) else x12) (nI (p + 1)) (nI n) a1 a2 a3 a4 a5 a6 a7 b8 b9) : wL_law_286 post L xs J (nI F) x4 x5 x6 x7 x8 x9 x10 x11 x12 (nI p) (nI (p % 4)) (nI (p / 4 % 5)) (nI (p / 20)) (nI own) x19 x20 x21 kc ks (nI n) a1 a2 a3 a4 a5 a6 a7 a8 a9 := by
  by_cases k : x19 ≤ 0
  · simp only [if_pos k] at hJ
    exact br_t k (br_t k (br_t k (cw_344 hI hF hp ho hJ)))
  · simp only [if_neg k] at hJ
    by_cases k2 : x21 ≤ x7
    · simp only [if_pos k2] at hJ
      exact br_f k (br_f k (br_t k2 (br_f k (br_t k2 (cw_344 hI hF hp ho hJ)))))
    · simp only [if_neg k2] at hJ
      exact br_f k (br_f k (br_f k2 (br_f k (br_f k2 (cw_344 hI hF hp ho hJ)))))
/-- behind the mask: some = x19, all = x20, total = x21 -/
theorem cw_229 {z0 z1 z2 : Int32} (hI : cv_I n a1 a2 a5 a6 a7) (hF : F < 32768) (hp : p < 120) (ho : own < 32768) (eo : z2 + (z1 * z0) = nI own) (s0 : x17 = 0 → x19 = 0 ∧ x20 = 0) (s1 : ¬ x17 = 0 → cv_C n a1 (own &&& F) = x19 ∧ cv_C n a1 own = x20) (t0 : x19 ≤ 0 → x21 = 0) (t1 : ¬ x19 ≤ 0 → cv_S n a1 a2 (own &&& F) = x21) (hJ : ∀ b8 b9, J (if x19 ≤ 0 then x6 else x6 + 1) (if x19 ≤ 0 then x7 else if x21 ≤ x7 then x7 else x21) (if x19 ≤ 0 then x8 else if x21 ≤ x7 then x8 else nI p) (if x20 ≤ 0 then x9 else if cv_S n a1 a2 own < x5 then x9 else x9 + 1) (x10 + x19) (x11 + x21) (if cv_p p F = true then x12 + cv_S n a1 a2 (cv_own 7 p) else x12) (nI (p + 1)) (nI n) a1 a2 a3 a4 a5 a6 a7 b8 b9) : wL_law_229 post L xs J (nI F) x4 x5 x6 x7 x8 x9 x10 x11 x12 (nI p) (nI (p % 4)) (nI (p / 4 % 5)) (nI (p / 20)) x17 z0 z1 z2 kc ks (nI n) a1 a2 a3 a4 a5 a6 a7 a8 a9 := by
  have hl : own &&& F ≤ own := Nat.and_le_left
  have ea : nI own &&& nI F = nI (own &&& F) := cv_andN own F
  have h267 : ∀ c8 c9, wL_law_267 post L xs J (nI F) x4 x5 x6 x7 x8 x9 x10 x11 x12 (nI p) (nI (p % 4)) (nI (p / 4 % 5)) (nI (p / 20)) (nI own) x19 x20 kc ks (nI n) a1 a2 a3 a4 a5 a6 a7 c8 c9 := fun c8 c9 => by
    by_cases k : x19 ≤ 0
    · have e := t0 k
      subst e
      exact br_t k (cw_286 hI hF hp ho hJ)
    · have e := t1 k
      subst e
      refine br_f k ?_
      rw [ea]
      exact cw_sum hI (by omega) (fun _ _ => cw_286 hI hF hp ho hJ)
  by_cases k : x17 = 0
  · obtain ⟨e1, e2⟩ := s0 k
    subst e1
    subst e2
    exact nm_r eo (br_t k (br_t k (h267 _ _)))
  · obtain ⟨e1, e2⟩ := s1 k
    subst e1
    subst e2
    refine nm_r eo (br_f k ?_)
    rw [ea]
    exact cw_count hI (by omega) (fun _ _ => br_f k (cw_count hI ho (fun _ _ => h267 _ _)))
theorem cw_172 (hg : g < 8) (hp : p < 120) (H : ∀ z0 z1 z2, z2 + (z1 * z0) = nI (cv_own g p) → wL_law_229 post L xs J (nI F) (nI g) x5 x6 x7 x8 x9 x10 x11 x12 (nI p) (nI (p % 4)) (nI (p / 4 % 5)) (nI (p / 20)) x17 z0 z1 z2 kc ks (nI n) a1 a2 a3 a4 a5 a6 a7 a8 a9) : wL_law_172 post L xs J (nI F) (nI g) x5 x6 x7 x8 x9 x10 x11 x12 (nI p) (nI (p % 4)) (nI (p / 4 % 5)) (nI (p / 20)) x17 kc ks (nI n) a1 a2 a3 a4 a5 a6 a7 a8 a9 := by
  have fin : ∀ r k m : Int32, r = nI (if g.testBit 0 = true then 2 ^ (p % 4) else 15) → k = nI (if g.testBit 1 = true then 2 ^ (p / 4 % 5) else 31) → m = nI (if g.testBit 2 = true then 2 ^ (p / 20) else 63) → wL_law_229 post L xs J (nI F) (nI g) x5 x6 x7 x8 x9 x10 x11 x12 (nI p) (nI (p % 4)) (nI (p / 4 % 5)) (nI (p / 20)) x17 m 512 (r + (16 * k)) kc ks (nI n) a1 a2 a3 a4 a5 a6 a7 a8 a9 := fun r k m hr hk hm => H _ _ _ (by rw [hr, hk, hm, cv_ownI]; rfl)
  have f208 : ∀ r k : Int32, r = nI (if g.testBit 0 = true then 2 ^ (p % 4) else 15) → k = nI (if g.testBit 1 = true then 2 ^ (p / 4 % 5) else 31) → wL_law_208 post L xs J (nI F) (nI g) x5 x6 x7 x8 x9 x10 x11 x12 (nI p) (nI (p % 4)) (nI (p / 4 % 5)) (nI (p / 20)) x17 k 16 r kc ks (nI n) a1 a2 a3 a4 a5 a6 a7 a8 a9 := fun r k hr hk =>
    cv_if (cv_d4 hg) (fun z => fin r k _ hr hk (by rw [z]; rfl)) (fun z => fin r k _ hr hk (by rw [z, cv_sh1 _ (by omega)]; rfl))
  have f190 : ∀ r : Int32, r = nI (if g.testBit 0 = true then 2 ^ (p % 4) else 15) → wL_law_190 post L xs J (nI F) (nI g) x5 x6 x7 x8 x9 x10 x11 x12 (nI p) (nI (p % 4)) (nI (p / 4 % 5)) (nI (p / 20)) x17 r kc ks (nI n) a1 a2 a3 a4 a5 a6 a7 a8 a9 := fun r hr =>
    cv_if (cv_d2 hg) (fun z => f208 r _ hr (by rw [z]; rfl)) (fun z => f208 r _ hr (by rw [z, cv_sh1 _ (by omega)]; rfl))
  exact cv_if (cv_d1 hg) (fun z => f190 _ (by rw [z]; rfl)) (fun z => f190 _ (by rw [z, cv_sh1 _ (by omega)]; rfl))
/-- is the place its group's own -/
theorem cw_143 (hg : g < 8) (hp : p < 120) (A0 : g.testBit 0 = false → p % 4 = 0) (H1 : cv_g p g = p → wL_law_172 post L xs J (nI F) (nI g) x5 x6 x7 x8 x9 x10 x11 x12 (nI p) (nI (p % 4)) (nI (p / 4 % 5)) (nI (p / 20)) 1 kc ks (nI n) a1 a2 a3 a4 a5 a6 a7 a8 a9) (H0 : ¬ cv_g p g = p → wL_law_172 post L xs J (nI F) (nI g) x5 x6 x7 x8 x9 x10 x11 x12 (nI p) (nI (p % 4)) (nI (p / 4 % 5)) (nI (p / 20)) 0 kc ks (nI n) a1 a2 a3 a4 a5 a6 a7 a8 a9) : wL_law_143 post L xs J (nI F) (nI g) x5 x6 x7 x8 x9 x10 x11 x12 (nI p) (nI (p % 4)) (nI (p / 4 % 5)) (nI (p / 20)) kc ks (nI n) a1 a2 a3 a4 a5 a6 a7 a8 a9 := by
  have nb : ∀ {b : Bool} {A : Prop}, b = true → b = false → A := fun h1 h2 => absurd (h1.symm.trans h2) (by decide)
  have f155 : (g.testBit 1 = false → p / 4 % 5 = 0) → wL_law_155 post L xs J (nI F) (nI g) x5 x6 x7 x8 x9 x10 x11 x12 (nI p) (nI (p % 4)) (nI (p / 4 % 5)) (nI (p / 20)) kc ks (nI n) a1 a2 a3 a4 a5 a6 a7 a8 a9 := fun A1 =>
    cv_if (cv_d4 hg) (fun z => pk_eq (p / 20) 0 (fun y => H1 (cv_rep.mpr ⟨⟨A0, A1⟩, fun _ => y⟩)) (fun y => H0 (fun w => y ((cv_rep.mp w).2 z)))) (fun z => H1 (cv_rep.mpr ⟨⟨A0, A1⟩, fun w => nb z w⟩))
  exact cv_if (cv_d2 hg) (fun z => pk_eq (p / 4 % 5) 0 (fun y => f155 (fun _ => y)) (fun y => H0 (fun w => y ((cv_rep.mp w).1.2 z)))) (fun z => f155 (fun w => nb z w))
end
/-! the plain law: what a round adds -/
def cv_cn (a : Nat → Int32) (n : Nat) (a1 : Nat → Int32) (F g p : Nat) : Int32 := cv_s a (fun i => decide (cv_g (cv_pl a1 i) g < p) && cv_p (cv_pl a1 i) F) n
def cv_cl (n : Nat) (a1 a2 : Nat → Int32) (F p : Nat) : Int32 := cv_s a2 (fun i => decide (cv_pl a1 i < p) && cv_p (cv_pl a1 i) F) n
section
variable {n F g p : Nat} {a1 a2 : Nat → Int32}
/-- a place that stands for its group -/
theorem cv_own_F {a : Nat → Int32} (hI : cv_F n a1 a2) (e : cv_g p g = p) : cv_s a (fun i => cv_p (cv_pl a1 i) (cv_own g p &&& F)) n = cv_s a (cv_P a1 F g p) n := by
  refine cv_cong (fun i hi => ?_)
  rw [cv_p_and, cv_own_p (cv_pl_lt hI hi) e]
  unfold cv_P
  exact Bool.and_comm _ _
theorem cv_own_A {a : Nat → Int32} (hI : cv_F n a1 a2) (e : cv_g p g = p) : cv_s a (fun i => cv_p (cv_pl a1 i) (cv_own g p)) n = cv_s a (cv_P a1 32767 g p) n := by
  refine cv_cong (fun i hi => ?_)
  rw [cv_own_p (cv_pl_lt hI hi) e]
  unfold cv_P
  rw [cv_p_all (cv_pl_lt hI hi), Bool.true_and]
theorem cv_non {a : Nat → Int32} (e : ¬ cv_g p g = p) : cv_s a (cv_P a1 F g p) n = 0 := by
  refine cv_zero (fun i _ => ?_)
  unfold cv_P
  have h : ¬ cv_g (cv_pl a1 i) g = p := fun w => e (by
    have h2 := cv_g_g (p := cv_pl a1 i) (g := g) (h := g) (fun _ y => y)
    rw [w] at h2
    exact h2)
  rw [decide_eq_false h, Bool.and_false]
theorem cv_GS0 (hI : cv_F n a1 a2) (h : cv_GC n a1 F g p ≤ 0) : cv_GS n a1 a2 F g p = 0 := cv_zero (cv_none hI.1 h)
theorem cv_cnS {a : Nat → Int32} : cv_cn a n a1 F g (p + 1) = cv_cn a n a1 F g p + cv_s a (cv_P a1 F g p) n := by
  refine cv_or (fun i _ => ?_)
  unfold cv_P
  generalize cv_g (cv_pl a1 i) g = y
  generalize cv_p (cv_pl a1 i) F = b
  by_cases e : y = p
  · rw [e, decide_eq_true (show p < p + 1 by omega), decide_eq_false (show ¬ p < p by omega), decide_eq_true (rfl : p = p)]
    cases b <;> exact ⟨rfl, rfl⟩
  · rw [decide_eq_decide.mpr (show y < p + 1 ↔ y < p by omega), decide_eq_false e, Bool.and_false, Bool.or_false, Bool.and_false]
    exact ⟨rfl, rfl⟩
theorem cv_cn0 {a : Nat → Int32} : cv_cn a n a1 F g 0 = 0 := cv_zero (fun i _ => by rw [decide_eq_false (Nat.not_lt_zero _), Bool.false_and])
theorem cv_cnE {a : Nat → Int32} (hI : cv_F n a1 a2) : cv_cn a n a1 F g 120 = cv_s a (fun i => cv_p (cv_pl a1 i) F) n := cv_cong (fun i hi => by rw [decide_eq_true (cv_g_lt (cv_pl_lt hI hi)), Bool.true_and])
theorem cv_cl0 : cv_cl n a1 a2 F 0 = 0 := cv_zero (fun i _ => by rw [decide_eq_false (Nat.not_lt_zero _), Bool.false_and])
theorem cv_clE (hI : cv_F n a1 a2) : cv_cl n a1 a2 F 120 = cv_S n a1 a2 F := cv_cong (fun i hi => by rw [decide_eq_true (cv_pl_lt hI hi), Bool.true_and])
theorem cv_clS (hI : cv_F n a1 a2) : cv_cl n a1 a2 F (p + 1) = if cv_p p F = true then cv_cl n a1 a2 F p + cv_S n a1 a2 (cv_own 7 p) else cv_cl n a1 a2 F p := by
  cases z : cv_p p F
  · rw [if_neg (by decide)]
    refine cv_cong (fun i _ => ?_)
    by_cases e : cv_pl a1 i = p
    · rw [e, z, Bool.and_false, Bool.and_false]
    · rw [decide_eq_decide.mpr (show cv_pl a1 i < p + 1 ↔ cv_pl a1 i < p by omega)]
  · rw [if_pos rfl]
    refine cv_or (fun i hi => ?_)
    rw [cv_own_p (cv_pl_lt hI hi) cv_g_7, cv_g_7]
    by_cases e : cv_pl a1 i = p
    · rw [e, z, decide_eq_true (show p < p + 1 by omega), decide_eq_false (show ¬ p < p by omega), decide_eq_true (rfl : p = p)]
      exact ⟨rfl, rfl⟩
    · rw [decide_eq_decide.mpr (show cv_pl a1 i < p + 1 ↔ cv_pl a1 i < p by omega), decide_eq_false e, Bool.or_false, Bool.and_false]
      exact ⟨rfl, rfl⟩
theorem cv_tsS {C S : Nat → Int32} (h : ¬ S p ≤ -4000000) : cv_ts S (cv_bt C S (p + 1)) = if C p ≤ 0 then cv_ts S (cv_bt C S p) else if S p ≤ cv_ts S (cv_bt C S p) then cv_ts S (cv_bt C S p) else S p := by
  show cv_ts S (if C p ≤ 0 then cv_bt C S p else cv_up S p (cv_bt C S p)) = _
  by_cases k : C p ≤ 0
  · rw [if_pos k, if_pos k]
  · rw [if_neg k, if_neg k]
    cases cv_bt C S p with
    | none => exact (if_neg h).symm
    | some b =>
      show cv_ts S (if S p ≤ S b then some b else some p) = if S p ≤ S b then S b else S p
      by_cases k2 : S p ≤ S b
      · rw [if_pos k2, if_pos k2]
        rfl
      · rw [if_neg k2, if_neg k2]
        rfl
theorem cv_tnS {C S : Nat → Int32} (h : ¬ S p ≤ -4000000) : cv_tn (cv_bt C S (p + 1)) = if C p ≤ 0 then cv_tn (cv_bt C S p) else if S p ≤ cv_ts S (cv_bt C S p) then cv_tn (cv_bt C S p) else nI p := by
  show cv_tn (if C p ≤ 0 then cv_bt C S p else cv_up S p (cv_bt C S p)) = _
  by_cases k : C p ≤ 0
  · rw [if_pos k, if_pos k]
  · rw [if_neg k, if_neg k]
    cases cv_bt C S p with
    | none => exact (if_neg h).symm
    | some b =>
      show cv_tn (if S p ≤ S b then some b else some p) = if S p ≤ S b then nI b else nI p
      by_cases k2 : S p ≤ S b
      · rw [if_pos k2, if_pos k2]
        rfl
      · rw [if_neg k2, if_neg k2]
        rfl
end
end
section
/-! the law's last loops -/
def cv_q (i : Nat) : Nat := 2 ^ (i % 4) + 496 + 512 * (7 * 8 ^ (i / 4))
theorem cv_q1 : ∀ i, i < 8 → nI i >>> ((2 : Int32) &&& 31) = nI (i / 4) := by decide +kernel
theorem cv_q2 : ∀ i, i < 8 → nI i &&& 3 = nI (i % 4) := by decide +kernel
theorem cv_q3 : ∀ i, i < 8 → (((1 : Int32) <<< (nI (i % 4) &&& 31)) + 496) + (512 * ((7 : Int32) <<< ((3 * nI (i / 4)) &&& 31))) = nI (cv_q i) := by decide +kernel
theorem cv_q4 : ∀ i, i < 8 → ((((1 : Int32) <<< (nI (i % 4) &&& 31)) ||| 496) ||| ((7 : Int32) <<< ((9 + (3 * nI (i / 4))) &&& 31))) = nI (cv_q i) := by decide +kernel
theorem cv_q5 : ∀ i, i < 8 → cv_q i < 32768 := by decide +kernel
theorem cv_w1 : ∀ m, m < 6 → (511 : Int32) + (512 * ((1 : Int32) <<< (nI m &&& 31))) = nI (cv_own 4 (20 * m)) := by decide +kernel
section
variable {post : Int32 → Prop} {L : Nat} {xs : Nat → Int32} {n F g kc ks : Nat} {bar : Int32} {a1 a2 a3 a4 a5 a6 a7 a8 a9 : Nat → Int32}
theorem cw_594 (hI : cv_I n a1 a2 a5 a6 a7) (hp : post 1) : ∃ fu, wL_law_594 post L xs kc ks fu 0 (nI n) a1 a2 a3 a4 a5 a6 a7 a8 a9 := by
  refine pk_loop (fun fu i s => wL_law_594 post L xs kc ks fu (nI i) (nI n) a1 a2 a3 a4 a5 a6 a7 s.1 s.2) (fun _ _ => True) 8 0 (a8, a9) (by omega) trivial ?_ ?_
  · intro fu s _
    exact pk_le 8 8 (fun _ => hp) (fun z => absurd z (by omega))
  · intro fu i s hi _ hw
    refine pk_le 8 i (fun z => absurd z (by omega)) (fun _ => nm_r (cv_q1 i hi) ?_)
    rw [cv_q2 i hi, cv_q3 i hi]
    exact cw_sum hI (cv_q5 i hi) (fun b8 b9 => cw_quarter hI (by omega) (by omega) (cv_q5 i hi) (cv_q4 i hi) (fun c8 c9 => br_t rfl (nm_r (nI_1 i) (hw (c8, c9) trivial))))
theorem cw_524 (hI : cv_I n a1 a2 a5 a6 a7) (hp : post 1) : ∃ fu, wL_law_524 post L xs kc ks fu 1 (nI n) a1 a2 a3 a4 a5 a6 a7 a8 a9 := by
  refine pk_loop (fun fu i s => wL_law_524 post L xs kc ks fu (nI i) (nI n) a1 a2 a3 a4 a5 a6 a7 s.1 s.2) (fun i _ => 1 ≤ i) 6 1 (a8, a9) (by omega) (by omega) ?_ ?_
  · intro fu s _
    exact pk_le 6 6 (fun _ => cw_594 hI hp) (fun z => absurd z (by omega))
  · intro fu i s hi h1 hw
    obtain ⟨m, rfl⟩ : ∃ m, i = m + 1 := ⟨i - 1, by omega⟩
    have e1 : cv_S n a1 a2 (cv_own 4 (20 * (m + 1))) = cv_GS n a1 a2 32767 4 (20 * (m + 1)) := cv_own_A hI.1 (by rw [cv_g_4]; omega)
    have e2 : cv_S n a1 a2 (cv_own 4 (20 * m)) = cv_GS n a1 a2 32767 4 (20 * (m + 1) - 20) := by
      rw [show 20 * (m + 1) - 20 = 20 * m by omega]
      exact cv_own_A hI.1 (by rw [cv_g_4]; omega)
    refine pk_le 6 (m + 1) (fun z => absurd z (by omega)) (fun _ => ?_)
    rw [cv_w1 (m + 1) hi, nI_pred m, cv_w1 m (by omega)]
    refine cw_sum hI (cv_own_lt (by omega)) (fun b8 b9 => cw_sum hI (cv_own_lt (by omega)) (fun c8 c9 => cw_growth hI (by omega) hi (fun d8 d9 => br_t ?_ (nm_r (nI_1 (m + 1)) (hw (d8, d9) (by omega))))))
    rw [e1, e2]
theorem cw_103 (hI : cv_I n a1 a2 a5 a6 a7) (hF : F < 32768) (hg : g < 8) (hp : post 1) : ∃ fu, wL_law_103 post L xs (nI F) (nI g) bar kc ks fu 0 (-4000000) (-4000000) 0 0 0 0 0 (nI n) a1 a2 a3 a4 a5 a6 a7 a8 a9 := by
  have main := pk_loop (fun fu p s => wL_law_103 post L xs (nI F) (nI g) bar kc ks fu (cv_gr (cv_GC n a1 F g) p) (cv_ts (cv_GS n a1 a2 F g) (cv_bt (cv_GC n a1 F g) (cv_GS n a1 a2 F g) p)) (cv_tn (cv_bt (cv_GC n a1 F g) (cv_GS n a1 a2 F g) p)) (cv_al (cv_GC n a1 32767 g) (cv_GS n a1 a2 32767 g) bar p) (cv_cn (fun _ => 1) n a1 F g p) (cv_cn a2 n a1 F g p) (cv_cl n a1 a2 F p) (nI p) (nI n) a1 a2 a3 a4 a5 a6 a7 s.1 s.2) (fun _ _ => True) 120 0 (a8, a9) (by omega) trivial ?_ ?_
  · dsimp only at main
    rw [cv_cn0, cv_cn0, cv_cl0] at main
    exact main
  · intro fu s _
    refine pk_le 120 120 (fun _ => ?_) (fun z => absurd z (by omega))
    refine cw_groups hI hF hg (fun _ _ => br_t rfl (cw_topSum hI hF hg (fun _ _ => br_t rfl (cw_topGroup hI hF hg (fun _ _ => br_t rfl (cw_atLeast hI hg (fun _ _ => br_t rfl (cw_count hI hF (fun _ _ => br_t (cv_cnE hI.1).symm (cw_sum hI hF (fun _ _ => br_t (cv_cnE hI.1).symm (br_t ((cv_clE hI.1).trans (cv_cnE hI.1).symm) (cw_524 hI hp)))))))))))))
  · intro fu p s hp' _ hw
    have nx : ∀ b8 b9, wL_law_103 post L xs (nI F) (nI g) bar kc ks fu (if cv_GC n a1 F g p ≤ 0 then cv_gr (cv_GC n a1 F g) p else cv_gr (cv_GC n a1 F g) p + 1) (if cv_GC n a1 F g p ≤ 0 then cv_ts (cv_GS n a1 a2 F g) (cv_bt (cv_GC n a1 F g) (cv_GS n a1 a2 F g) p) else if cv_GS n a1 a2 F g p ≤ cv_ts (cv_GS n a1 a2 F g) (cv_bt (cv_GC n a1 F g) (cv_GS n a1 a2 F g) p) then cv_ts (cv_GS n a1 a2 F g) (cv_bt (cv_GC n a1 F g) (cv_GS n a1 a2 F g) p) else cv_GS n a1 a2 F g p) (if cv_GC n a1 F g p ≤ 0 then cv_tn (cv_bt (cv_GC n a1 F g) (cv_GS n a1 a2 F g) p) else if cv_GS n a1 a2 F g p ≤ cv_ts (cv_GS n a1 a2 F g) (cv_bt (cv_GC n a1 F g) (cv_GS n a1 a2 F g) p) then cv_tn (cv_bt (cv_GC n a1 F g) (cv_GS n a1 a2 F g) p) else nI p) (if cv_GC n a1 32767 g p ≤ 0 then cv_al (cv_GC n a1 32767 g) (cv_GS n a1 a2 32767 g) bar p else if cv_S n a1 a2 (cv_own g p) < bar then cv_al (cv_GC n a1 32767 g) (cv_GS n a1 a2 32767 g) bar p else cv_al (cv_GC n a1 32767 g) (cv_GS n a1 a2 32767 g) bar p + 1) (cv_cn (fun _ => 1) n a1 F g p + cv_GC n a1 F g p) (cv_cn a2 n a1 F g p + cv_GS n a1 a2 F g p) (if cv_p p F = true then cv_cl n a1 a2 F p + cv_S n a1 a2 (cv_own 7 p) else cv_cl n a1 a2 F p) (nI (p + 1)) (nI n) a1 a2 a3 a4 a5 a6 a7 b8 b9 := fun b8 b9 => by
      have h := hw (b8, b9) trivial
      dsimp only at h
      have ht : ¬ cv_GS n a1 a2 F g p ≤ -4000000 := cv_top hI.1.1 hI.1.2.2
      have ea : cv_al (cv_GC n a1 32767 g) (cv_GS n a1 a2 32767 g) bar (p + 1) = if cv_GC n a1 32767 g p ≤ 0 then cv_al (cv_GC n a1 32767 g) (cv_GS n a1 a2 32767 g) bar p else if cv_S n a1 a2 (cv_own g p) < bar then cv_al (cv_GC n a1 32767 g) (cv_GS n a1 a2 32767 g) bar p else cv_al (cv_GC n a1 32767 g) (cv_GS n a1 a2 32767 g) bar p + 1 := by
        show (if cv_GC n a1 32767 g p ≤ 0 then cv_al (cv_GC n a1 32767 g) (cv_GS n a1 a2 32767 g) bar p else if cv_GS n a1 a2 32767 g p < bar then cv_al (cv_GC n a1 32767 g) (cv_GS n a1 a2 32767 g) bar p else cv_al (cv_GC n a1 32767 g) (cv_GS n a1 a2 32767 g) bar p + 1) = _
        by_cases k : cv_GC n a1 32767 g p ≤ 0
        · rw [if_pos k, if_pos k]
        · have rp : cv_g p g = p := Decidable.byContradiction (fun w => k (by
            have e : cv_GC n a1 32767 g p = 0 := cv_non w
            rw [e]
            decide))
          have e : cv_S n a1 a2 (cv_own g p) = cv_GS n a1 a2 32767 g p := cv_own_A hI.1 rp
          rw [e]
      rw [cv_tsS ht, cv_tnS ht, ea, cv_cnS, cv_cnS, cv_clS hI.1] at h
      exact h
    refine pk_le 120 p (fun z => absurd z (by omega)) (fun _ => ⟨by decide, nm_r (cv_r hp') ⟨by decide, by decide, nm_r (cv_k hp') ⟨by decide, nm_r (cv_m hp') ?_⟩⟩⟩)
    have t0 : cv_GC n a1 F g p ≤ 0 → cv_GS n a1 a2 F g p = 0 := fun k => cv_GS0 hI.1 k
    have H1 : cv_g p g = p → wL_law_172 post L xs (wL_law_103 post L xs (nI F) (nI g) bar kc ks fu) (nI F) (nI g) bar (cv_gr (cv_GC n a1 F g) p) (cv_ts (cv_GS n a1 a2 F g) (cv_bt (cv_GC n a1 F g) (cv_GS n a1 a2 F g) p)) (cv_tn (cv_bt (cv_GC n a1 F g) (cv_GS n a1 a2 F g) p)) (cv_al (cv_GC n a1 32767 g) (cv_GS n a1 a2 32767 g) bar p) (cv_cn (fun _ => 1) n a1 F g p) (cv_cn a2 n a1 F g p) (cv_cl n a1 a2 F p) (nI p) (nI (p % 4)) (nI (p / 4 % 5)) (nI (p / 20)) 1 kc ks (nI n) a1 a2 a3 a4 a5 a6 a7 s.1 s.2 := fun rp =>
      cw_172 hg hp' (fun z0 z1 z2 eo => cw_229 hI hF hp' (cv_own_lt hp') eo (fun k => absurd k (by decide)) (fun _ => ⟨cv_own_F hI.1 rp, cv_own_A hI.1 rp⟩) t0 (fun _ => cv_own_F hI.1 rp) nx)
    have H0 : ¬ cv_g p g = p → wL_law_172 post L xs (wL_law_103 post L xs (nI F) (nI g) bar kc ks fu) (nI F) (nI g) bar (cv_gr (cv_GC n a1 F g) p) (cv_ts (cv_GS n a1 a2 F g) (cv_bt (cv_GC n a1 F g) (cv_GS n a1 a2 F g) p)) (cv_tn (cv_bt (cv_GC n a1 F g) (cv_GS n a1 a2 F g) p)) (cv_al (cv_GC n a1 32767 g) (cv_GS n a1 a2 32767 g) bar p) (cv_cn (fun _ => 1) n a1 F g p) (cv_cn a2 n a1 F g p) (cv_cl n a1 a2 F p) (nI p) (nI (p % 4)) (nI (p / 4 % 5)) (nI (p / 20)) 0 kc ks (nI n) a1 a2 a3 a4 a5 a6 a7 s.1 s.2 := fun rp =>
      cw_172 hg hp' (fun z0 z1 z2 eo => cw_229 hI hF hp' (cv_own_lt hp') eo (fun _ => ⟨cv_non rp, cv_non rp⟩) (fun k => absurd rfl k) t0 (fun k => absurd (by
        rw [cv_non rp]
        decide) k) nx)
    have nb : ∀ {b : Bool} {A : Prop}, b = true → b = false → A := fun h1 h2 => absurd (h1.symm.trans h2) (by decide)
    exact cv_if (cv_d1 hg) (fun z => pk_eq (p % 4) 0 (fun y => cw_143 hg hp' (fun _ => y) H1 H0) (fun y => H0 (fun w => y ((cv_rep.mp w).1.1 z)))) (fun z => cw_143 hg hp' (fun w => nb z w) H1 H0)
/-- the turns, then the questions -/
theorem cw_23 {x2 : Int32} (hL : L ≤ 260) (hI : cv_I n a1 a2 a5 a6 a7) (hp : post 1) : ∃ fu, wL_law_23 post L xs x2 kc ks fu 1 (nI n) a1 a2 a3 a4 a5 a6 a7 a8 a9 := by
  refine pk_loop (fun fu j s => wL_law_23 post L xs x2 kc ks fu (nI (2 * j + 1)) s.1 s.2.1 s.2.2.1 s.2.2.2.1 s.2.2.2.2.1 s.2.2.2.2.2.1 s.2.2.2.2.2.2.1 s.2.2.2.2.2.2.2 a8 a9) (fun _ s => ∃ m, s.1 = nI m ∧ cv_I m s.2.1 s.2.2.1 s.2.2.2.2.2.1 s.2.2.2.2.2.2.1 s.2.2.2.2.2.2.2) ((L - 1) / 2) 0 (nI n, a1, a2, a3, a4, a5, a6, a7) (by omega) ⟨n, rfl, hI⟩ ?_ ?_
  · rintro fu ⟨c, b1, b2, b3, b4, b5, b6, b7⟩ ⟨m, rfl, hm⟩
    refine pk_le L (2 * ((L - 1) / 2) + 1 + 1) (fun _ => ?_) (fun z => absurd z (by omega)) rfl (nI_1 _)
    obtain ⟨F, hF, eF⟩ := pk_andE x2 (m := 32767) 15 (by decide)
    obtain ⟨g, hg, eg⟩ := pk_andE (x2 >>> ((15 : Int32) &&& 31)) (m := 7) 3 (by decide)
    exact nm_r eF (nm_r eg (nm_e (cw_103 hm hF hg hp)))
  · rintro fu j ⟨c, b1, b2, b3, b4, b5, b6, b7⟩ hj ⟨m, rfl, hm⟩ hw
    have e1 : nI (2 * j + 1) + 1 = nI (2 * j + 1 + 1) := nI_1 _
    have e2 : nI (2 * j + 1) + 2 = nI (2 * (j + 1) + 1) := by
      rw [show nI (2 * j + 1) + 2 = nI (2 * j + 1 + 2) from nI_add (2 * j + 1) 2]
      rw [show 2 * j + 1 + 2 = 2 * (j + 1) + 1 by omega]
    refine pk_le L (2 * j + 1 + 1) (fun z => absurd z (by omega)) (fun _ => ⟨pk_in (2 * j + 1) L (by omega), pk_in (2 * j + 1 + 1) L (by omega) e1, ?_⟩) rfl e1
    exact cw_turn hm (fun r n' c1 c2 c3 c4 c5 c6 c7 hc => nm_r e2 (hw (nI n', c1, c2, c3, c4, c5, c6, c7) ⟨n', rfl, hc⟩))
end
theorem cv_I0 : cv_I 0 (fun _ => 0) (fun _ => 0) (fun _ => 0) (fun _ => 0) (fun _ => 0) :=
  ⟨⟨by omega, fun i hi => absurd hi (by omega), fun i hi => absurd hi (by omega)⟩, fun g _ k => absurd rfl k⟩
theorem i_vc (xs : Nat → Int32) (L : Nat) (hL : L ≤ 260) : wpL_law (fun r => r = 1) L xs := by
  refine ⟨9, 2408, by decide, by decide, cw_init (fun b3 => ?_)⟩
  refine pk_le L 0 (fun _ => cw_23 (n := 0) hL cv_I0 rfl) (fun z => ⟨pk_in 0 L z, nm_e (cw_23 (n := 0) hL cv_I0 rfl)⟩)
end
