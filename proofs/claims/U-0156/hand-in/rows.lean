section
theorem pk_us {f : Nat → Int32} {k : Nat} {x : Int32} : upd f k x k = x := if_pos rfl
theorem pk_un {f : Nat → Int32} {k j : Nat} {x : Int32} (h : j ≠ k) : upd f k x j = f j := if_neg h
theorem pk_sub {a b : Nat} (h : b ≤ a) : nI a - nI b = nI (a - b) := by
  obtain ⟨c, rfl⟩ : ∃ c, a = c + b := ⟨a - b, by omega⟩
  rw [← nI_add, Int32.add_sub_cancel, Nat.add_sub_cancel]
theorem pk_m1 (n : Nat) : nI (n + 1) + (-1) = nI n := by
  rw [← nI_1, Int32.add_assoc, show (1 : Int32) + (-1) = 0 from rfl, Int32.add_zero]
theorem pk_mul (a b : Nat) : nI a * nI b = nI (a * b) := (Int32.ofNat_mul a b).symm
theorem pk_sub_toInt {a b : Nat} (ha : a < 2 ^ 30) (hb : b < 2 ^ 30) : (nI a - nI b).toInt = (a : Int) - b := by
  rw [Int32.toInt_sub, nI_toInt (by omega), nI_toInt (by omega)]
  exact Int.bmod_eq_of_le (by omega) (by omega)
theorem pk_sneg {a b : Nat} (hb : b < 2 ^ 30) (h : a < b) : nI a - nI b < 0 := by
  rw [Int32.lt_iff_toInt_lt, pk_sub_toInt (by omega) hb, show (0 : Int32).toInt = 0 from by decide]
  omega
theorem pk_ix (x : Int32) {n : Nat} (hn : n < 2 ^ 31) : x < 0 ∨ nI n ≤ x ∨ ∃ j : Nat, j < n ∧ x = nI j := by
  by_cases h : x < 0
  · exact Or.inl h
  · obtain ⟨j, hj, rfl⟩ := nI_of h
    by_cases h2 : j < n
    · exact Or.inr (Or.inr ⟨j, h2, rfl⟩)
    · exact Or.inr (Or.inl (nI_le (by omega) hj))
theorem pk_le {x y : Int32} {A B : Prop} (a b : Nat) (f : a ≤ b → A) (g : b < a → B) (hx : x = nI a := by rfl) (hy : y = nI b := by rfl) (ha : a < 2 ^ 31 := by omega) (hb : b < 2 ^ 31 := by omega) : (x ≤ y → A) ∧ (¬ x ≤ y → B) := by
  subst hx hy
  rw [nI_leI ha hb]
  exact ⟨f, fun z => g (by omega)⟩
theorem pk_lt {x y : Int32} {A B : Prop} (a b : Nat) (f : a < b → A) (g : b ≤ a → B) (hx : x = nI a := by rfl) (hy : y = nI b := by rfl) (ha : a < 2 ^ 31 := by omega) (hb : b < 2 ^ 31 := by omega) : (x < y → A) ∧ (¬ x < y → B) := by
  subst hx hy
  rw [nI_ltI ha hb]
  exact ⟨f, fun z => g (by omega)⟩
theorem pk_eq {x y : Int32} {A B : Prop} (a b : Nat) (f : a = b → A) (g : a ≠ b → B) (hx : x = nI a := by rfl) (hy : y = nI b := by rfl) (ha : a < 2 ^ 31 := by omega) (hb : b < 2 ^ 31 := by omega) : (x = y → A) ∧ (¬ x = y → B) := by
  subst hx hy
  rw [nI_eq ha hb]
  exact ⟨f, g⟩
theorem pk_in {x : Int32} (n N : Nat) (h : n < N) (hx : x = nI n := by rfl) (hN : N < 2 ^ 31 := by omega) : vp_in x N := by
  subst hx
  exact vp_in_nI h hN
theorem pk_cl {x : Int32} (n : Nat) (hx : x = nI n := by rfl) (h : n < 2 ^ 31 := by omega) : x.toNatClampNeg = n := by
  subst hx
  exact nI_clamp h
theorem pk_tn {n : Nat} (h : n < 2 ^ 32) : (nI n).toBitVec.toNat = n := Nat.mod_eq_of_lt h
theorem pk_and (x : Int32) {m : Int32} (k : Nat) (hm : m.toBitVec.toNat = 2 ^ k - 1) : x &&& m = nI (x.toBitVec.toNat % 2 ^ k) := by
  apply Int32.toBitVec_inj.mp
  apply BitVec.eq_of_toNat_eq
  rw [Int32.toBitVec_and, BitVec.toNat_and, hm, Nat.and_two_pow_sub_one_eq_mod]
  show _ = (BitVec.ofNat 32 _).toNat
  rw [BitVec.toNat_ofNat]
  exact (Nat.mod_eq_of_lt (Nat.lt_of_le_of_lt (Nat.mod_le _ _) x.toBitVec.isLt)).symm
theorem pk_andN {n : Nat} (h : n < 2 ^ 32) {m : Int32} (k : Nat) (hm : m.toBitVec.toNat = 2 ^ k - 1) : nI n &&& m = nI (n % 2 ^ k) := by
  rw [pk_and _ k hm, pk_tn h]
theorem pk_andE (x : Int32) {m : Int32} (k : Nat) (hm : m.toBitVec.toNat = 2 ^ k - 1) : ∃ j : Nat, j < 2 ^ k ∧ x &&& m = nI j := ⟨_, Nat.mod_lt _ (Nat.two_pow_pos k), pk_and x k hm⟩
theorem pk_andIn (x : Int32) {m : Int32} (k : Nat) (hm : m.toBitVec.toNat = 2 ^ k - 1) (hk : k ≤ 30) : vp_in (x &&& m) (2 ^ k) := by
  obtain ⟨j, hj, e⟩ := pk_andE x k hm
  rw [e]
  exact vp_in_nI hj (Nat.lt_of_le_of_lt (Nat.pow_le_pow_right (by decide) hk) (by decide))
theorem pk_least (P : Nat → Prop) (h : ∃ k, P k) : ∃ k, P k ∧ ∀ j, j < k → ¬ P j := by
  obtain ⟨k, hk⟩ := h
  induction k using Nat.strongRecOn with
  | ind k ih =>
    by_cases e : ∃ j, j < k ∧ P j
    · obtain ⟨j, hj, pj⟩ := e
      exact ih j hj pj
    · exact ⟨k, hk, fun j hj pj => e ⟨j, hj, pj⟩⟩
/-! own rows: whole numbers of any sign as Int32 -/
def es_i (z : Int) : Int32 := Int32.ofInt z
theorem es_i_nat (n : Nat) : es_i (n : Int) = nI n := Int32.ofInt_eq_ofNat
theorem es_i_add (a b : Int) : es_i a + es_i b = es_i (a + b) := (Int32.ofInt_add a b).symm
theorem es_i_sub (a b : Int) : es_i a - es_i b = es_i (a - b) := (Int32.ofInt_sub a b).symm
theorem es_i_toInt {z : Int} (h1 : -2147483648 ≤ z) (h2 : z < 2147483648) : (es_i z).toInt = z := Int32.toInt_ofInt_of_le (by omega) (by omega)
theorem es_i_le {a b : Int} (ha : -2147483648 ≤ a) (ha' : a < 2147483648) (hb : -2147483648 ≤ b) (hb' : b < 2147483648) : es_i a ≤ es_i b ↔ a ≤ b := by
  rw [Int32.le_iff_toInt_le, es_i_toInt ha ha', es_i_toInt hb hb']
theorem es_i_lt {a b : Int} (ha : -2147483648 ≤ a) (ha' : a < 2147483648) (hb : -2147483648 ≤ b) (hb' : b < 2147483648) : es_i a < es_i b ↔ a < b := by
  rw [Int32.lt_iff_toInt_lt, es_i_toInt ha ha', es_i_toInt hb hb']
theorem es_i_eq {a b : Int} (ha : -2147483648 ≤ a) (ha' : a < 2147483648) (hb : -2147483648 ≤ b) (hb' : b < 2147483648) : es_i a = es_i b ↔ a = b := by
  rw [← Int32.toInt_inj, es_i_toInt ha ha', es_i_toInt hb hb']
theorem es_i_acc (z : Int) (x y : Nat) : es_i z + (nI x - nI y) = es_i (z + x - y) := by
  rw [← es_i_nat, ← es_i_nat, es_i_sub, es_i_add]
  exact congrArg es_i (by omega)
theorem es_ix (v a b : Nat) : nI v * 16 + nI a * 4 + nI b = nI (v * 16 + (a * 4 + b)) := by
  show nI v * nI 16 + nI a * nI 4 + nI b = _
  rw [pk_mul, pk_mul, nI_add, nI_add, Nat.add_assoc]
theorem es_ix16 (v j : Nat) : nI v * 16 + nI j = nI (v * 16 + j) := by
  show nI v * nI 16 + nI j = _
  rw [pk_mul, nI_add]
theorem es_ix4 (v j : Nat) : nI v * 4 + nI j = nI (v * 4 + j) := by
  show nI v * nI 4 + nI j = _
  rw [pk_mul, nI_add]
theorem es_ix8 (v j : Nat) : nI v * 8 + nI j = nI (v * 8 + j) := by
  show nI v * nI 8 + nI j = _
  rw [pk_mul, nI_add]
theorem es_ix8' (v : Nat) : nI v * 8 = nI (v * 8) := by
  show nI v * nI 8 = _
  rw [pk_mul]
theorem es_ix128 (v j : Nat) : nI v * 128 + nI j = nI (v * 128 + j) := by
  show nI v * nI 128 + nI j = _
  rw [pk_mul, nI_add]
theorem es_4p (j : Nat) : 4 + nI j = nI (4 + j) := by
  show nI 4 + nI j = _
  rw [nI_add]
theorem es_64p (j : Nat) : 64 + nI j = nI (64 + j) := by
  show nI 64 + nI j = _
  rw [nI_add]
theorem es_and7 {n : Nat} (h : n < 4294967296) : nI n &&& 7 = nI (n % 8) := pk_andN (by omega) 3 (by decide)
/-- a fact moved along an equation of Int32 -/
theorem es_to {P : Int32 → Prop} {x y : Int32} (e : x = y) (h : P y) : P x := e ▸ h
theorem es_m1 {n : Nat} (h : n < 2147483648) : ¬ (-1 : Int32) = nI n := by
  intro e
  have := congrArg Int32.toInt e
  rw [nI_toInt (by omega), show (-1 : Int32).toInt = -1 from by decide] at this
  omega
theorem es_m1' {n : Nat} (h : n < 2147483648) : ¬ nI n = (-1 : Int32) := fun e => es_m1 h e.symm
/-- a truth value as the JVM holds it -/
def es_b (q : Bool) : Int32 := if q = true then 1 else 0
theorem es_b0 (q : Bool) : es_b q = 0 ↔ q = false := by cases q <;> decide
end
section
/-! sums, greatest tickets and loan sums over a chosen set of indices -/
def es_sm (P : Nat → Bool) (w : Nat → Nat) : Nat → Nat
  | 0 => 0
  | n + 1 => es_sm P w n + (if P n = true then w n else 0)
def es_mx (P : Nat → Bool) (t : Nat → Nat) : Nat → Nat
  | 0 => 0
  | n + 1 => if P n = true ∧ es_mx P t n < t n then t n else es_mx P t n
def es_sg (F : Nat → Nat) : Nat → Nat
  | 0 => 0
  | n + 1 => es_sg F n + F n
def es_ls (P : Nat → Bool) (t w : Nat → Nat) (n : Nat) : Nat :=
  if es_mx P t n = 0 then 0 else es_sm (fun i => P i && (t i == es_mx P t n)) w n
theorem es_sm_congr {P Q : Nat → Bool} {w u : Nat → Nat} {n : Nat} (h : ∀ i, i < n → P i = Q i ∧ w i = u i) : es_sm P w n = es_sm Q u n := by
  induction n with
  | zero => rfl
  | succ n ih =>
    simp only [es_sm]
    rw [ih (fun i hi => h i (by omega)), (h n (by omega)).1, (h n (by omega)).2]
theorem es_sm_mono {P Q : Nat → Bool} {w : Nat → Nat} {n : Nat} (h : ∀ i, i < n → P i = true → Q i = true) : es_sm P w n ≤ es_sm Q w n := by
  induction n with
  | zero => exact Nat.le_refl _
  | succ n ih =>
    have a := ih (fun i hi => h i (by omega))
    have b := h n (by omega)
    simp only [es_sm]
    by_cases hp : P n = true
    · rw [if_pos hp, if_pos (b hp)]; omega
    · rw [if_neg hp]; omega
theorem es_sm_lt {P Q : Nat → Bool} {w : Nat → Nat} {n j : Nat} (h : ∀ i, i < n → P i = true → Q i = true) (hj : j < n) (hq : Q j = true) (hp : ¬ P j = true) (hw : 0 < w j) : es_sm P w n < es_sm Q w n := by
  induction n with
  | zero => omega
  | succ n ih =>
    have b := h n (by omega)
    have m : es_sm P w n ≤ es_sm Q w n := es_sm_mono (fun i hi => h i (by omega))
    by_cases e : j = n
    · subst e
      simp only [es_sm]
      rw [if_pos hq, if_neg hp]; omega
    · have a := ih (fun i hi => h i (by omega)) (by omega)
      simp only [es_sm]
      by_cases hpn : P n = true
      · rw [if_pos hpn, if_pos (b hpn)]; omega
      · rw [if_neg hpn]; omega
theorem es_sm_zero {P : Nat → Bool} {w : Nat → Nat} {n : Nat} (h : ∀ i, i < n → P i = false) : es_sm P w n = 0 := by
  induction n with
  | zero => rfl
  | succ n ih =>
    simp only [es_sm]
    rw [ih (fun i hi => h i (by omega)), h n (by omega)]
    rfl
theorem es_sm_le {P : Nat → Bool} {w : Nat → Nat} {n B : Nat} (h : ∀ i, i < n → P i = true → w i ≤ B) : es_sm P w n ≤ n * B := by
  induction n with
  | zero => exact Nat.zero_le _
  | succ n ih =>
    have a := ih (fun i hi => h i (by omega))
    have b := h n (by omega)
    simp only [es_sm]
    rw [Nat.succ_mul]
    by_cases hp : P n = true
    · rw [if_pos hp]; have := b hp; omega
    · rw [if_neg hp]; omega
theorem es_sm_or {P Q R : Nat → Bool} {w : Nat → Nat} {n : Nat} (h : ∀ i, i < n → R i = (P i || Q i) ∧ (P i && Q i) = false) : es_sm R w n = es_sm P w n + es_sm Q w n := by
  induction n with
  | zero => rfl
  | succ n ih =>
    have a := ih (fun i hi => h i (by omega))
    have ⟨b, c⟩ := h n (by omega)
    simp only [es_sm]
    rw [a, b]
    cases hp : P n <;> cases hq : Q n
    · simp
    · simp; omega
    · simp; omega
    · rw [hp, hq] at c; exact absurd c (by decide)
theorem es_sg_congr {F G : Nat → Nat} {n : Nat} (h : ∀ i, i < n → F i = G i) : es_sg F n = es_sg G n := by
  induction n with
  | zero => rfl
  | succ n ih =>
    simp only [es_sg]
    rw [ih (fun i hi => h i (by omega)), h n (by omega)]
theorem es_sg_mono {F G : Nat → Nat} {n : Nat} (h : ∀ i, i < n → F i ≤ G i) : es_sg F n ≤ es_sg G n := by
  induction n with
  | zero => exact Nat.le_refl _
  | succ n ih =>
    have a := ih (fun i hi => h i (by omega))
    have b := h n (by omega)
    simp only [es_sg]
    omega
theorem es_fub0 (Q : Nat → Bool) (f w : Nat → Nat) (n m : Nat) : es_sg (fun o => es_sm (fun i => Q i && (f i == o)) w n) m = es_sm (fun i => Q i && decide (f i < m)) w n := by
  induction m with
  | zero =>
    refine (es_sm_zero fun i _ => ?_).symm
    simp
  | succ m ih =>
    simp only [es_sg]
    rw [ih]
    refine (es_sm_or fun i _ => ?_).symm
    cases Q i
    · exact ⟨rfl, rfl⟩
    · by_cases h1 : f i < m
      · have h2 : ¬ f i = m := by omega
        have h3 : f i < m + 1 := by omega
        simp [h1, h2, h3]
      · by_cases h2 : f i = m
        · have h3 : f i < m + 1 := by omega
          simp [h2]
        · have h3 : ¬ f i < m + 1 := by omega
          simp [h1, h2, h3]
theorem es_fub {Q : Nat → Bool} {f w : Nat → Nat} {n m : Nat} (h : ∀ i, i < n → Q i = true → f i < m) : es_sg (fun o => es_sm (fun i => Q i && (f i == o)) w n) m = es_sm Q w n := by
  rw [es_fub0]
  refine es_sm_congr fun i hi => ⟨?_, rfl⟩
  cases e : Q i
  · rfl
  · simp [h i hi e]
theorem es_mx_congr {P Q : Nat → Bool} {w u : Nat → Nat} {n : Nat} (h : ∀ i, i < n → P i = Q i ∧ w i = u i) : es_mx P w n = es_mx Q u n := by
  induction n with
  | zero => rfl
  | succ n ih =>
    simp only [es_mx]
    rw [ih (fun i hi => h i (by omega)), (h n (by omega)).1, (h n (by omega)).2]
theorem es_mx_ge {P : Nat → Bool} {t : Nat → Nat} {n j : Nat} (hj : j < n) (hp : P j = true) : t j ≤ es_mx P t n := by
  induction n with
  | zero => omega
  | succ n ih =>
    simp only [es_mx]
    by_cases e : j = n
    · subst e
      by_cases g : es_mx P t j < t j
      · rw [if_pos ⟨hp, g⟩]; exact Nat.le_refl _
      · rw [if_neg (fun z => g z.2)]; omega
    · have a := ih (by omega)
      by_cases g : P n = true ∧ es_mx P t n < t n
      · rw [if_pos g]; omega
      · rw [if_neg g]; omega
theorem es_mx_att (P : Nat → Bool) (t : Nat → Nat) (n : Nat) : es_mx P t n = 0 ∨ ∃ j, j < n ∧ P j = true ∧ t j = es_mx P t n := by
  induction n with
  | zero => exact Or.inl rfl
  | succ n ih =>
    simp only [es_mx]
    by_cases g : P n = true ∧ es_mx P t n < t n
    · rw [if_pos g]; exact Or.inr ⟨n, by omega, g.1, rfl⟩
    · rw [if_neg g]
      rcases ih with a | ⟨j, h1, h2, h3⟩
      · exact Or.inl a
      · exact Or.inr ⟨j, by omega, h2, h3⟩
theorem es_mx_mono {P Q : Nat → Bool} {t : Nat → Nat} {n : Nat} (h : ∀ i, i < n → P i = true → Q i = true) : es_mx P t n ≤ es_mx Q t n := by
  rcases es_mx_att P t n with a | ⟨j, h1, h2, h3⟩
  · omega
  · rw [← h3]; exact es_mx_ge h1 (h j h1 h2)
theorem es_mx_lt {P : Nat → Bool} {t : Nat → Nat} {n B : Nat} (h : ∀ i, i < n → t i < B) (hB : 0 < B) : es_mx P t n < B := by
  rcases es_mx_att P t n with a | ⟨j, h1, h2, h3⟩
  · omega
  · rw [← h3]; exact h j h1
theorem es_ls_congr {P Q : Nat → Bool} {t u w z : Nat → Nat} {n : Nat} (h : ∀ i, i < n → P i = Q i ∧ t i = u i ∧ w i = z i) : es_ls P t w n = es_ls Q u z n := by
  have a : es_mx P t n = es_mx Q u n := es_mx_congr fun i hi => ⟨(h i hi).1, (h i hi).2.1⟩
  unfold es_ls
  rw [a]
  have b : es_sm (fun i => P i && (t i == es_mx Q u n)) w n = es_sm (fun i => Q i && (u i == es_mx Q u n)) z n := by
    refine es_sm_congr fun i hi => ?_
    obtain ⟨h1, h2, h3⟩ := h i hi
    exact ⟨by rw [h1, h2], h3⟩
  rw [b]
theorem es_ls_mono {P Q : Nat → Bool} {t w : Nat → Nat} {n : Nat} (h : ∀ i, i < n → P i = true → Q i = true) (e : es_mx P t n = es_mx Q t n) : es_ls P t w n ≤ es_ls Q t w n := by
  unfold es_ls
  rw [e]
  by_cases g : es_mx Q t n = 0
  · rw [if_pos g, if_pos g]; exact Nat.le_refl _
  · rw [if_neg g, if_neg g]
    refine es_sm_mono fun i hi hp => ?_
    simp only [Bool.and_eq_true] at hp ⊢
    exact ⟨h i hi hp.1, hp.2⟩
theorem es_ls_s (P : Nat → Bool) (t w : Nat → Nat) (n : Nat) : es_ls P t w (n + 1) = if P n = true then (if es_mx P t n < t n then w n else if t n = es_mx P t n ∧ 0 < t n then es_ls P t w n + w n else es_ls P t w n) else es_ls P t w n := by
  by_cases hp : P n = true
  · rw [if_pos hp]
    by_cases g : es_mx P t n < t n
    · rw [if_pos g]
      have m : es_mx P t (n + 1) = t n := by simp only [es_mx]; rw [if_pos ⟨hp, g⟩]
      unfold es_ls
      rw [m, if_neg (by omega)]
      simp only [es_sm]
      rw [es_sm_zero, if_pos (by simp [hp])]
      · omega
      · intro i hi
        cases e : P i
        · rfl
        · have := es_mx_ge (t := t) hi e
          have q : ¬ t i = t n := by omega
          simp [q]
    · rw [if_neg g]
      have m : es_mx P t (n + 1) = es_mx P t n := by simp only [es_mx]; rw [if_neg (fun z => g z.2)]
      unfold es_ls
      rw [m]
      by_cases z : es_mx P t n = 0
      · rw [if_pos z, if_neg (by omega), if_pos z]
      · rw [if_neg z]
        simp only [es_sm]
        by_cases q : t n = es_mx P t n
        · rw [if_pos (by simp [hp, q]), if_pos ⟨q, by omega⟩, if_neg z]
        · rw [if_neg (by simp [q]), if_neg (fun y => q y.1), if_neg z]
          omega
  · rw [if_neg hp]
    have m : es_mx P t (n + 1) = es_mx P t n := by simp only [es_mx]; rw [if_neg (fun z => hp z.1)]
    unfold es_ls
    rw [m]
    by_cases z : es_mx P t n = 0
    · rw [if_pos z, if_pos z]
    · rw [if_neg z, if_neg z]
      simp only [es_sm]
      rw [if_neg (by simp [hp])]
      omega
end
section
/-! histories: count, origins, targets (4: a spending; the origin itself: a raise), amounts, tickets, which view knows which update -/
abbrev es_H : Type := Nat × (Nat → Nat) × (Nat → Nat) × (Nat → Nat) × (Nat → Nat) × (Nat → Nat → Bool)
def es_c (h : es_H) : Nat := h.1
def es_og (h : es_H) : Nat → Nat := h.2.1
def es_tg (h : es_H) : Nat → Nat := h.2.2.1
def es_am (h : es_H) : Nat → Nat := h.2.2.2.1
def es_tk (h : es_H) : Nat → Nat := h.2.2.2.2.1
def es_K (h : es_H) : Nat → Nat → Bool := h.2.2.2.2.2
def es_P (h : es_H) (v a b : Nat) : Nat → Bool := fun i => es_K h v i && (es_og h i == a) && (es_tg h i == b)
def es_S (h : es_H) (v a b : Nat) : Nat := es_sm (es_P h v a b) (es_am h) (es_c h)
def es_T (h : es_H) (v a b : Nat) : Nat := es_mx (es_P h v a b) (es_tk h) (es_c h)
def es_L (h : es_H) (v a b : Nat) : Nat := es_ls (es_P h v a b) (es_tk h) (es_am h) (es_c h)
theorem es_P_iff {h : es_H} {v a b i : Nat} : es_P h v a b i = true ↔ es_K h v i = true ∧ es_og h i = a ∧ es_tg h i = b := by
  simp [es_P, and_assoc]
def es_add (h : es_H) (o b w t : Nat) : es_H :=
  (es_c h + 1, fun i => if i = es_c h then o else es_og h i, fun i => if i = es_c h then b else es_tg h i, fun i => if i = es_c h then w else es_am h i,
    fun i => if i = es_c h then t else es_tk h i, fun v i => if i = es_c h then (v == o || v == 16) else es_K h v i)
def es_mrg (h : es_H) (p s : Nat) : es_H :=
  (es_c h, es_og h, es_tg h, es_am h, es_tk h, fun v i => if v = p then (es_K h p i || es_K h s i) else es_K h v i)
def es_cpy (h : es_H) (d s : Nat) : es_H :=
  (es_c h, es_og h, es_tg h, es_am h, es_tk h, fun v i => if v = d then es_K h s i else es_K h v i)
/-! adding one update -/
theorem es_add_P {h : es_H} {o b w t v x y i : Nat} (hi : i < es_c h) : es_P (es_add h o b w t) v x y i = es_P h v x y i := by
  have e : ¬ i = es_c h := by omega
  show ((if i = es_c h then (v == o || v == 16) else es_K h v i) && ((if i = es_c h then o else es_og h i) == x) && ((if i = es_c h then b else es_tg h i) == y)) = _
  rw [if_neg e, if_neg e, if_neg e]
  rfl
theorem es_add_Pc {h : es_H} {o b w t v x y : Nat} : es_P (es_add h o b w t) v x y (es_c h) = true ↔ ((v = o ∨ v = 16) ∧ x = o ∧ y = b) := by
  show ((if es_c h = es_c h then (v == o || v == 16) else es_K h v (es_c h)) && ((if es_c h = es_c h then o else es_og h (es_c h)) == x) && ((if es_c h = es_c h then b else es_tg h (es_c h)) == y)) = true ↔ _
  rw [if_pos rfl, if_pos rfl, if_pos rfl]
  simp only [Bool.and_eq_true, Bool.or_eq_true, beq_iff_eq, and_assoc]
  constructor
  · rintro ⟨h1, h2, h3⟩; exact ⟨h1, h2.symm, h3.symm⟩
  · rintro ⟨h1, h2, h3⟩; exact ⟨h1, h2.symm, h3.symm⟩
theorem es_add_am {h : es_H} {o b w t i : Nat} (hi : i < es_c h) : es_am (es_add h o b w t) i = es_am h i := if_neg (by omega)
theorem es_add_tk {h : es_H} {o b w t i : Nat} (hi : i < es_c h) : es_tk (es_add h o b w t) i = es_tk h i := if_neg (by omega)
theorem es_add_og {h : es_H} {o b w t i : Nat} (hi : i < es_c h) : es_og (es_add h o b w t) i = es_og h i := if_neg (by omega)
theorem es_add_tg {h : es_H} {o b w t i : Nat} (hi : i < es_c h) : es_tg (es_add h o b w t) i = es_tg h i := if_neg (by omega)
theorem es_add_K {h : es_H} {o b w t v i : Nat} (hi : ¬ i = es_c h) : es_K (es_add h o b w t) v i = es_K h v i := if_neg hi
theorem es_add_amc {h : es_H} {o b w t : Nat} : es_am (es_add h o b w t) (es_c h) = w := if_pos rfl
theorem es_add_tkc {h : es_H} {o b w t : Nat} : es_tk (es_add h o b w t) (es_c h) = t := if_pos rfl
theorem es_add_ogc {h : es_H} {o b w t : Nat} : es_og (es_add h o b w t) (es_c h) = o := if_pos rfl
theorem es_add_tgc {h : es_H} {o b w t : Nat} : es_tg (es_add h o b w t) (es_c h) = b := if_pos rfl
theorem es_add_Kc {h : es_H} {o b w t v : Nat} : es_K (es_add h o b w t) v (es_c h) = (v == o || v == 16) := if_pos rfl
theorem es_add_c {h : es_H} {o b w t : Nat} : es_c (es_add h o b w t) = es_c h + 1 := rfl
theorem es_add_S (h : es_H) (o b w t v x y : Nat) : es_S (es_add h o b w t) v x y = es_S h v x y + (if (v = o ∨ v = 16) ∧ x = o ∧ y = b then w else 0) := by
  unfold es_S
  rw [es_add_c]
  simp only [es_sm]
  rw [es_add_amc]
  have a : es_sm (es_P (es_add h o b w t) v x y) (es_am (es_add h o b w t)) (es_c h) = es_sm (es_P h v x y) (es_am h) (es_c h) :=
    es_sm_congr fun i hi => ⟨es_add_P hi, es_add_am hi⟩
  rw [a]
  by_cases g : (v = o ∨ v = 16) ∧ x = o ∧ y = b
  · rw [if_pos g, if_pos (es_add_Pc.mpr g)]
  · rw [if_neg g, if_neg (fun z => g (es_add_Pc.mp z))]
theorem es_add_T (h : es_H) (o b w t v x y : Nat) : es_T (es_add h o b w t) v x y = (if ((v = o ∨ v = 16) ∧ x = o ∧ y = b) ∧ es_T h v x y < t then t else es_T h v x y) := by
  unfold es_T
  rw [es_add_c]
  simp only [es_mx]
  rw [es_add_tkc]
  have a : es_mx (es_P (es_add h o b w t) v x y) (es_tk (es_add h o b w t)) (es_c h) = es_mx (es_P h v x y) (es_tk h) (es_c h) :=
    es_mx_congr fun i hi => ⟨es_add_P hi, es_add_tk hi⟩
  rw [a]
  by_cases g : ((v = o ∨ v = 16) ∧ x = o ∧ y = b) ∧ es_mx (es_P h v x y) (es_tk h) (es_c h) < t
  · rw [if_pos g, if_pos ⟨es_add_Pc.mpr g.1, g.2⟩]
  · rw [if_neg g, if_neg (fun z => g ⟨es_add_Pc.mp z.1, z.2⟩)]
theorem es_add_L (h : es_H) (o b w t v x y : Nat) : es_L (es_add h o b w t) v x y = (if (v = o ∨ v = 16) ∧ x = o ∧ y = b then (if es_T h v x y < t then w else if t = es_T h v x y ∧ 0 < t then es_L h v x y + w else es_L h v x y) else es_L h v x y) := by
  unfold es_L es_T
  rw [es_add_c, es_ls_s, es_add_tkc, es_add_amc]
  have a : es_mx (es_P (es_add h o b w t) v x y) (es_tk (es_add h o b w t)) (es_c h) = es_mx (es_P h v x y) (es_tk h) (es_c h) :=
    es_mx_congr fun i hi => ⟨es_add_P hi, es_add_tk hi⟩
  have l : es_ls (es_P (es_add h o b w t) v x y) (es_tk (es_add h o b w t)) (es_am (es_add h o b w t)) (es_c h) = es_ls (es_P h v x y) (es_tk h) (es_am h) (es_c h) :=
    es_ls_congr fun i hi => ⟨es_add_P hi, es_add_tk hi, es_add_am hi⟩
  rw [a, l]
  by_cases g : (v = o ∨ v = 16) ∧ x = o ∧ y = b
  · rw [if_pos g, if_pos (es_add_Pc.mpr g)]
  · rw [if_neg g, if_neg (fun z => g (es_add_Pc.mp z))]
/-! a view's cells depend on what the view knows alone -/
theorem es_STL {h g : es_H} {v u a b : Nat} (hc : es_c g = es_c h) (ho : es_og g = es_og h) (ht : es_tg g = es_tg h) (hm : es_am g = es_am h) (hk : es_tk g = es_tk h)
    (hK : ∀ i, i < es_c h → es_og h i = a → es_K g v i = es_K h u i) : es_S g v a b = es_S h u a b ∧ es_T g v a b = es_T h u a b ∧ es_L g v a b = es_L h u a b := by
  have e : ∀ i, i < es_c h → es_P g v a b i = es_P h u a b i := by
    intro i hi
    unfold es_P
    rw [ho, ht]
    by_cases q : es_og h i = a
    · rw [hK i hi q]
    · have : (es_og h i == a) = false := by simp [q]
      rw [this, Bool.and_false, Bool.and_false]
  unfold es_S es_T es_L
  rw [hc, hm, hk]
  exact ⟨es_sm_congr fun i hi => ⟨e i hi, rfl⟩, es_mx_congr fun i hi => ⟨e i hi, rfl⟩, es_ls_congr fun i hi => ⟨e i hi, rfl, rfl⟩⟩
theorem es_mono {h : es_H} {v u a b : Nat} (hK : ∀ i, i < es_c h → es_og h i = a → es_K h v i = true → es_K h u i = true) :
    es_S h v a b ≤ es_S h u a b ∧ (es_T h v a b < es_T h u a b ∨ (es_T h v a b = es_T h u a b ∧ es_L h v a b ≤ es_L h u a b)) := by
  have e : ∀ i, i < es_c h → es_P h v a b i = true → es_P h u a b i = true := by
    intro i hi hp
    rw [es_P_iff] at hp ⊢
    exact ⟨hK i hi hp.2.1 hp.1, hp.2⟩
  refine ⟨es_sm_mono e, ?_⟩
  have m : es_T h v a b ≤ es_T h u a b := es_mx_mono e
  by_cases q : es_T h v a b = es_T h u a b
  · exact Or.inr ⟨q, es_ls_mono e q⟩
  · exact Or.inl (by omega)
theorem es_mrg_o (h : es_H) (p s v a b : Nat) (hv : ¬ v = p) : es_S (es_mrg h p s) v a b = es_S h v a b ∧ es_T (es_mrg h p s) v a b = es_T h v a b ∧ es_L (es_mrg h p s) v a b = es_L h v a b :=
  es_STL (g := es_mrg h p s) rfl rfl rfl rfl rfl fun _ _ _ => if_neg hv
theorem es_cpy_o (h : es_H) (d s v a b : Nat) (hv : ¬ v = d) : es_S (es_cpy h d s) v a b = es_S h v a b ∧ es_T (es_cpy h d s) v a b = es_T h v a b ∧ es_L (es_cpy h d s) v a b = es_L h v a b :=
  es_STL (g := es_cpy h d s) rfl rfl rfl rfl rfl fun _ _ _ => if_neg hv
theorem es_cpy_d (h : es_H) (d s a b : Nat) : es_S (es_cpy h d s) d a b = es_S h s a b ∧ es_T (es_cpy h d s) d a b = es_T h s a b ∧ es_L (es_cpy h d s) d a b = es_L h s a b :=
  es_STL (g := es_cpy h d s) rfl rfl rfl rfl rfl fun _ _ _ => if_pos rfl
/-! what every history keeps -/
def es_W1 (rep : Nat) (h : es_H) : Prop := ∀ i, i < es_c h → es_og h i < rep ∧ (es_tg h i < rep ∨ es_tg h i = 4) ∧ 1 ≤ es_am h i ∧ es_am h i ≤ 128000 ∧
  (es_tg h i = es_og h i → es_am h i ≤ 1000 ∧ es_tk h i = 0) ∧ es_tk h i < 2147483648 ∧ es_K h (es_og h i) i = true
def es_W2 (h : es_H) : Prop := (∀ i, es_K h 16 i = true) ∧
  (∀ v i j, v < 17 → i < j → j < es_c h → es_og h i = es_og h j → es_K h v j = true → es_K h v i = true) ∧
  (∀ v i, v < 16 → es_c h ≤ i → es_K h v i = false)
def es_in (h : es_H) (n v s : Nat) : Nat := es_sg (fun o => if o = s then 0 else es_S h v o s) n
def es_out (h : es_H) (n v s : Nat) : Nat := es_sg (fun b => if b = s then 0 else es_S h v s b) n
def es_R (h : es_H) (n v s : Nat) : Int := (es_S h v s s : Int) - es_S h v s 4 + es_in h n v s - es_out h n v s
def es_W3 (rep : Nat) (h : es_H) : Prop := ∀ r, r < rep → 0 ≤ es_R h rep r r
def es_WF (rep : Nat) (h : es_H) : Prop := rep ≤ 4 ∧ es_c h ≤ 128 ∧ es_W1 rep h ∧ es_W2 h ∧ es_W3 rep h
theorem es_nest {h : es_H} (H : es_W2 h) {v u : Nat} (hv : v < 17) (hu : u < 17) (a : Nat) :
    (∀ i, i < es_c h → es_og h i = a → es_K h v i = true → es_K h u i = true) ∨ (∀ i, i < es_c h → es_og h i = a → es_K h u i = true → es_K h v i = true) := by
  by_cases q : ∀ i, i < es_c h → es_og h i = a → es_K h v i = true → es_K h u i = true
  · exact Or.inl q
  · refine Or.inr fun j hj oj kj => ?_
    apply Classical.byContradiction
    intro nj
    apply q
    intro i hi oi ki
    apply Classical.byContradiction
    intro ni
    rcases Nat.lt_trichotomy i j with l | l | l
    · exact ni (H.2.1 u i j hu l hj (oi.trans oj.symm) kj)
    · subst l; exact nj ki
    · exact nj (H.2.1 v j i hv l hi (oj.trans oi.symm) ki)
/-- the cells of a united view are those of the greater of the two -/
theorem es_mrg_p {h : es_H} (H : es_W2 h) {p s : Nat} (hp : p < 17) (hs : s < 17) (a b : Nat) :
    ((es_S (es_mrg h p s) p a b = es_S h p a b ∧ es_T (es_mrg h p s) p a b = es_T h p a b ∧ es_L (es_mrg h p s) p a b = es_L h p a b) ∧
      es_S h s a b ≤ es_S h p a b ∧ (es_T h s a b < es_T h p a b ∨ (es_T h s a b = es_T h p a b ∧ es_L h s a b ≤ es_L h p a b))) ∨
    ((es_S (es_mrg h p s) p a b = es_S h s a b ∧ es_T (es_mrg h p s) p a b = es_T h s a b ∧ es_L (es_mrg h p s) p a b = es_L h s a b) ∧
      es_S h p a b ≤ es_S h s a b ∧ (es_T h p a b < es_T h s a b ∨ (es_T h p a b = es_T h s a b ∧ es_L h p a b ≤ es_L h s a b))) := by
  have k : ∀ i, es_K (es_mrg h p s) p i = (es_K h p i || es_K h s i) := fun i => if_pos rfl
  rcases es_nest H hs hp a with q | q
  · refine Or.inl ⟨es_STL (g := es_mrg h p s) rfl rfl rfl rfl rfl fun i hi oi => ?_, es_mono q⟩
    rw [k]
    have := q i hi oi
    cases e1 : es_K h p i <;> cases e2 : es_K h s i
    · rfl
    · rw [e1, e2] at this; exact absurd (this rfl) (by decide)
    · rfl
    · rfl
  · refine Or.inr ⟨es_STL (g := es_mrg h p s) rfl rfl rfl rfl rfl fun i hi oi => ?_, es_mono q⟩
    rw [k]
    have := q i hi oi
    cases e1 : es_K h p i <;> cases e2 : es_K h s i
    · rfl
    · rfl
    · rw [e1, e2] at this; exact absurd (this rfl) (by decide)
    · rfl
/-! sums over all origins, over all targets -/
theorem es_bf {a b : Nat} (h : ¬ a = b) : (a == b) = false := by simp [h]
theorem es_bt {a b : Nat} (h : a = b) : (a == b) = true := by simp [h]
theorem es_in_sm {rep : Nat} {h : es_H} (W : es_W1 rep h) (v s : Nat) : es_in h rep v s = es_sm (fun i => es_K h v i && (es_tg h i == s) && !(es_og h i == s)) (es_am h) (es_c h) := by
  rw [← es_fub (Q := fun i => es_K h v i && (es_tg h i == s) && !(es_og h i == s)) (f := es_og h) (m := rep) (fun i hi _ => (W i hi).1)]
  refine es_sg_congr fun o _ => ?_
  by_cases e : o = s
  · rw [if_pos e]
    refine (es_sm_zero fun i _ => ?_).symm
    subst e
    cases es_og h i == o <;> simp
  · rw [if_neg e]
    refine es_sm_congr fun i _ => ⟨?_, rfl⟩
    unfold es_P
    by_cases q : es_og h i = o
    · have q' : ¬ es_og h i = s := fun z => e (q.symm.trans z)
      simp [es_bt q, es_bf q']
    · simp [es_bf q]
theorem es_out_sm {rep : Nat} {h : es_H} (h4 : rep ≤ 4) (W : es_W1 rep h) (v s : Nat) : es_out h rep v s = es_sm (fun i => es_K h v i && (es_og h i == s) && !(es_tg h i == s) && !(es_tg h i == 4)) (es_am h) (es_c h) := by
  rw [← es_fub (Q := fun i => es_K h v i && (es_og h i == s) && !(es_tg h i == s) && !(es_tg h i == 4)) (f := es_tg h) (m := rep) (fun i hi hq => by
    have a := (W i hi).2.1
    simp only [Bool.and_eq_true, Bool.not_eq_true', beq_eq_false_iff_ne, ne_eq] at hq
    have b := hq.2
    omega)]
  refine es_sg_congr fun o ho => ?_
  by_cases e : o = s
  · rw [if_pos e]
    refine (es_sm_zero fun i _ => ?_).symm
    subst e
    cases es_tg h i == o <;> simp
  · rw [if_neg e]
    refine es_sm_congr fun i _ => ⟨?_, rfl⟩
    unfold es_P
    by_cases q : es_tg h i = o
    · have q4 : ¬ es_tg h i = 4 := by omega
      have q5 : ¬ es_tg h i = s := by omega
      simp [es_bt q, es_bf q4, es_bf q5]
    · simp [es_bf q]
theorem es_inc_sm {rep : Nat} {h : es_H} (W : es_W1 rep h) (v : Nat) : es_sg (fun s => es_S h v s s) rep = es_sm (fun i => es_K h v i && (es_tg h i == es_og h i)) (es_am h) (es_c h) := by
  rw [← es_fub (Q := fun i => es_K h v i && (es_tg h i == es_og h i)) (f := es_og h) (m := rep) (fun i hi _ => (W i hi).1)]
  refine es_sg_congr fun o _ => es_sm_congr fun i _ => ⟨?_, rfl⟩
  unfold es_P
  by_cases q : es_og h i = o
  · subst q
    cases es_K h v i <;> simp
  · simp [es_bf q]
theorem es_dec_sm {rep : Nat} {h : es_H} (W : es_W1 rep h) (v : Nat) : es_sg (fun s => es_S h v s 4) rep = es_sm (fun i => es_K h v i && (es_tg h i == 4)) (es_am h) (es_c h) := by
  rw [← es_fub (Q := fun i => es_K h v i && (es_tg h i == 4)) (f := es_og h) (m := rep) (fun i hi _ => (W i hi).1)]
  refine es_sg_congr fun o _ => es_sm_congr fun i _ => ⟨?_, rfl⟩
  unfold es_P
  by_cases q : es_og h i = o
  · simp [es_bt q]
  · simp [es_bf q]
theorem es_big {rep : Nat} {h : es_H} (W : es_W1 rep h) (hc : es_c h ≤ 128) (P : Nat → Bool) : es_sm P (es_am h) (es_c h) ≤ 16384000 := by
  have a : es_sm P (es_am h) (es_c h) ≤ es_c h * 128000 := es_sm_le fun i hi _ => (W i hi).2.2.2.1
  have b : es_c h * 128000 ≤ 128 * 128000 := Nat.mul_le_mul_right _ hc
  omega
theorem es_R_rng {rep : Nat} {h : es_H} (H : es_WF rep h) (v s : Nat) : -40000000 ≤ es_R h rep v s ∧ es_R h rep v s ≤ 40000000 := by
  obtain ⟨h4, hc, W, _, _⟩ := H
  have a := es_in_sm W v s
  have b := es_out_sm h4 W v s
  have a' := es_big W hc (fun i => es_K h v i && (es_tg h i == s) && !(es_og h i == s))
  have b' := es_big W hc (fun i => es_K h v i && (es_og h i == s) && !(es_tg h i == s) && !(es_tg h i == 4))
  have c : es_S h v s s ≤ 16384000 := es_big W hc _
  have d : es_S h v s 4 ≤ 16384000 := es_big W hc _
  unfold es_R
  omega
def es_sz (F : Nat → Int) : Nat → Int
  | 0 => 0
  | n + 1 => es_sz F n + F n
theorem es_sz_ge {F : Nat → Int} {n r : Nat} (h : ∀ i, i < n → 0 ≤ F i) (hr : r < n) : F r ≤ es_sz F n := by
  induction n with
  | zero => omega
  | succ n ih =>
    have z : ∀ m, m ≤ n → 0 ≤ es_sz F m := by
      intro m
      induction m with
      | zero => intro _; exact Int.le_refl _
      | succ m im =>
        intro hm
        have a := im (by omega)
        have b := h m (by omega)
        simp only [es_sz]
        omega
    simp only [es_sz]
    by_cases e : r = n
    · subst e
      have := z r (Nat.le_refl _)
      omega
    · have a := ih (fun i hi => h i (by omega)) (by omega)
      have b := h n (by omega)
      omega
theorem es_sz_R (h : es_H) (rep v n : Nat) : es_sz (fun s => es_R h rep v s) n = (es_sg (fun s => es_S h v s s) n : Int) - es_sg (fun s => es_S h v s 4) n + es_sg (fun s => es_in h rep v s) n - es_sg (fun s => es_out h rep v s) n := by
  induction n with
  | zero => rfl
  | succ n ih =>
    simp only [es_sz, es_sg]
    rw [ih]
    unfold es_R
    omega
theorem es_io {rep : Nat} {h : es_H} (h4 : rep ≤ 4) (W : es_W1 rep h) (v : Nat) : es_sg (fun s => es_in h rep v s) rep = es_sg (fun s => es_out h rep v s) rep := by
  have a : es_sg (fun s => es_in h rep v s) rep = es_sm (fun i => es_K h v i && !(es_og h i == es_tg h i) && !(es_tg h i == 4)) (es_am h) (es_c h) := by
    rw [← es_fub (Q := fun i => es_K h v i && !(es_og h i == es_tg h i) && !(es_tg h i == 4)) (f := es_tg h) (m := rep) (fun i hi hq => by
      have a := (W i hi).2.1
      simp only [Bool.and_eq_true, Bool.not_eq_true', beq_eq_false_iff_ne, ne_eq] at hq
      have b := hq.2
      omega)]
    refine es_sg_congr fun o ho => ?_
    rw [es_in_sm W]
    refine es_sm_congr fun i _ => ⟨?_, rfl⟩
    by_cases q : es_tg h i = o
    · have q4 : ¬ es_tg h i = 4 := by omega
      subst q
      simp [es_bf q4]
    · simp [es_bf q]
  have b : es_sg (fun s => es_out h rep v s) rep = es_sm (fun i => es_K h v i && !(es_og h i == es_tg h i) && !(es_tg h i == 4)) (es_am h) (es_c h) := by
    rw [← es_fub (Q := fun i => es_K h v i && !(es_og h i == es_tg h i) && !(es_tg h i == 4)) (f := es_og h) (m := rep) (fun i hi _ => (W i hi).1)]
    refine es_sg_congr fun o ho => ?_
    rw [es_out_sm h4 W]
    refine es_sm_congr fun i _ => ⟨?_, rfl⟩
    by_cases q : es_og h i = o
    · by_cases q2 : es_tg h i = o
      · have q3 : es_og h i = es_tg h i := by omega
        simp [es_bt q, es_bt q2, es_bt q3]
      · have q3 : ¬ es_og h i = es_tg h i := by omega
        simp [es_bt q, es_bf q2, es_bf q3]
    · simp [es_bf q]
  rw [a, b]
/-- a replica's own cells are those of the whole -/
theorem es_own {rep : Nat} {h : es_H} (W : es_W1 rep h) (W2 : es_W2 h) (r b : Nat) : es_S h 16 r b = es_S h r r b ∧ es_T h 16 r b = es_T h r r b ∧ es_L h 16 r b = es_L h r r b := by
  refine es_STL rfl rfl rfl rfl rfl fun i hi oi => ?_
  rw [W2.1 i]
  have := (W i hi).2.2.2.2.2.2
  rw [oi] at this
  exact this.symm
theorem es_R_whole {rep : Nat} {h : es_H} (W : es_W1 rep h) (W2 : es_W2 h) (r : Nat) : es_R h rep r r ≤ es_R h rep 16 r := by
  have a : es_in h rep r r ≤ es_in h rep 16 r := by
    refine es_sg_mono fun o _ => ?_
    by_cases e : o = r
    · rw [if_pos e, if_pos e]; exact Nat.le_refl _
    · rw [if_neg e, if_neg e]; exact (es_mono fun i _ _ _ => W2.1 i).1
  have b : es_out h rep r r = es_out h rep 16 r := by
    refine es_sg_congr fun o _ => ?_
    by_cases e : o = r
    · rw [if_pos e, if_pos e]
    · rw [if_neg e, if_neg e, (es_own W W2 r o).1]
  have c := (es_own W W2 r r).1
  have d := (es_own W W2 r 4).1
  unfold es_R
  omega
/-- no replica owns more rights than were ever raised -/
theorem es_R_le {rep : Nat} {h : es_H} (H : es_WF rep h) {r : Nat} (hr : r < rep) : es_R h rep r r ≤ 128000 := by
  obtain ⟨h4, hc, W, W2, W3⟩ := H
  have a := es_R_whole W W2 r
  have b : es_R h rep 16 r ≤ es_sz (fun s => es_R h rep 16 s) rep :=
    es_sz_ge (F := fun s => es_R h rep 16 s) (fun i hi => Int.le_trans (W3 i hi) (es_R_whole W W2 i)) hr
  rw [es_sz_R, es_io h4 W, es_inc_sm W] at b
  have c : es_sm (fun i => es_K h 16 i && (es_tg h i == es_og h i)) (es_am h) (es_c h) ≤ es_c h * 1000 := es_sm_le fun i hi hq => by
    simp only [Bool.and_eq_true, beq_iff_eq] at hq
    exact ((W i hi).2.2.2.2.1 hq.2).1
  have d : es_c h * 1000 ≤ 128 * 1000 := Nat.mul_le_mul_right _ hc
  omega
end
section
/-! what every history keeps, is kept -/
theorem es_R_add_o (h : es_H) (rep o b w t r : Nat) (hr : ¬ r = o) (h16 : r < 16) : es_R (es_add h o b w t) rep r r = es_R h rep r r := by
  have s : ∀ x y, es_S (es_add h o b w t) r x y = es_S h r x y := by
    intro x y
    rw [es_add_S, if_neg (by omega)]
    rfl
  unfold es_R es_in es_out
  simp only [s]
theorem es_R_add_s {h : es_H} {rep o b w t : Nat} (h4 : rep ≤ 4) (ho : o < rep) (hb : b < rep ∨ b = 4) : es_R (es_add h o b w t) rep o o = if b = o then es_R h rep o o + w else es_R h rep o o - w := by
  have s : ∀ x y, es_S (es_add h o b w t) o x y = es_S h o x y + (if x = o ∧ y = b then w else 0) := by
    intro x y
    rw [es_add_S]
    by_cases e : x = o ∧ y = b
    · rw [if_pos e, if_pos ⟨Or.inl rfl, e⟩]
    · rw [if_neg e, if_neg (fun z => e z.2)]
  have i : es_in (es_add h o b w t) rep o o = es_in h rep o o := by
    refine es_sg_congr fun x _ => ?_
    by_cases e : x = o
    · rw [if_pos e, if_pos e]
    · rw [if_neg e, if_neg e, s, if_neg (fun z => e z.1)]
      rfl
  have u : ∀ n, n ≤ rep → es_out (es_add h o b w t) n o o = es_out h n o o + (if b < n ∧ ¬ b = o then w else 0) := by
    intro n
    induction n with
    | zero => intro _; rfl
    | succ n ih =>
      intro hn
      have a := ih (by omega)
      unfold es_out at a ⊢
      simp only [es_sg]
      rw [a]
      by_cases e : n = o
      · rw [if_pos e, if_pos e]
        split <;> split <;> omega
      · rw [if_neg e, if_neg e, s]
        split <;> split <;> split <;> omega
  unfold es_R
  rw [i, u rep (Nat.le_refl _), s, s]
  by_cases e : b = o
  · rw [if_pos e, if_pos ⟨rfl, e.symm⟩, if_neg (by omega), if_neg (by omega)]
    omega
  · rw [if_neg e, if_neg (fun z => e z.2.symm)]
    by_cases q : b = 4
    · rw [if_pos ⟨rfl, q.symm⟩, if_neg (by omega)]
      omega
    · rw [if_neg (fun z => q z.2.symm), if_pos (by omega)]
      omega
theorem es_WF_add {rep : Nat} {h : es_H} (H : es_WF rep h) {o b w t : Nat} (hc : es_c h < 128) (ho : o < rep) (hb : b < rep ∨ b = 4) (hw : 1 ≤ w) (hw2 : w ≤ 128000)
    (hi : b = o → w ≤ 1000 ∧ t = 0) (ht : t < 2147483648) (hR : ¬ b = o → (w : Int) ≤ es_R h rep o o) : es_WF rep (es_add h o b w t) := by
  obtain ⟨h4, _, W1, W2, W3⟩ := H
  refine ⟨h4, by rw [es_add_c]; omega, ?_, ⟨?_, ?_, ?_⟩, ?_⟩
  · intro i hi'
    rw [es_add_c] at hi'
    by_cases e : i = es_c h
    · subst e
      rw [es_add_ogc, es_add_tgc, es_add_amc, es_add_tkc, es_add_Kc]
      exact ⟨ho, hb, hw, hw2, hi, ht, by simp⟩
    · have hl : i < es_c h := by omega
      rw [es_add_og hl, es_add_tg hl, es_add_am hl, es_add_tk hl, es_add_K e]
      exact W1 i hl
  · intro i
    by_cases e : i = es_c h
    · subst e
      rw [es_add_Kc]
      simp
    · rw [es_add_K e]
      exact W2.1 i
  · intro v i j hv hij hj
    rw [es_add_c] at hj
    have hl : i < es_c h := by omega
    have e : ¬ i = es_c h := by omega
    rw [es_add_og hl, es_add_K e]
    by_cases q : j = es_c h
    · subst q
      rw [es_add_ogc, es_add_Kc]
      intro oi kv
      simp only [Bool.or_eq_true, beq_iff_eq] at kv
      rcases kv with kv | kv
      · have a := (W1 i hl).2.2.2.2.2.2
        rw [oi, ← kv] at a
        exact a
      · rw [kv]
        exact W2.1 i
    · have hl2 : j < es_c h := by omega
      rw [es_add_og hl2, es_add_K q]
      exact W2.2.1 v i j hv hij hl2
  · intro v i hv hi'
    rw [es_add_c] at hi'
    rw [es_add_K (by omega)]
    exact W2.2.2 v i hv (by omega)
  · intro r hr
    by_cases e : r = o
    · subst e
      rw [es_R_add_s h4 hr hb]
      have a := W3 r hr
      by_cases q : b = r
      · rw [if_pos q]; omega
      · rw [if_neg q]; have := hR q; omega
    · rw [es_R_add_o _ _ _ _ _ _ _ e (by omega)]
      exact W3 r hr
theorem es_WF_mrg {rep : Nat} {h : es_H} (H : es_WF rep h) {p s : Nat} (hp : p < 16) (hs : s < 16) : es_WF rep (es_mrg h p s) := by
  obtain ⟨h4, hc, W1, W2, W3⟩ := H
  have k : ∀ v i, es_K (es_mrg h p s) v i = if v = p then (es_K h p i || es_K h s i) else es_K h v i := fun _ _ => rfl
  have k1 : ∀ v i, es_K h v i = true → es_K (es_mrg h p s) v i = true := by
    intro v i a
    rw [k]
    by_cases e : v = p
    · rw [if_pos e, ← e, a]; rfl
    · rw [if_neg e]; exact a
  refine ⟨h4, hc, ?_, ⟨?_, ?_, ?_⟩, ?_⟩
  · intro i hi
    obtain ⟨a1, a2, a3, a4, a5, a6, a7⟩ := W1 i hi
    exact ⟨a1, a2, a3, a4, a5, a6, k1 _ _ a7⟩
  · intro i
    exact k1 _ _ (W2.1 i)
  · intro v i j hv hij hj oi kj
    rw [k] at kj ⊢
    by_cases e : v = p
    · rw [if_pos e] at kj ⊢
      simp only [Bool.or_eq_true] at kj ⊢
      rcases kj with kj | kj
      · exact Or.inl (W2.2.1 p i j (by omega) hij hj oi kj)
      · exact Or.inr (W2.2.1 s i j (by omega) hij hj oi kj)
    · rw [if_neg e] at kj ⊢
      exact W2.2.1 v i j hv hij hj oi kj
  · intro v i hv hi
    rw [k]
    by_cases e : v = p
    · rw [if_pos e, W2.2.2 p i hp hi, W2.2.2 s i hs hi]; rfl
    · rw [if_neg e]; exact W2.2.2 v i hv hi
  · intro r hr
    have a := W3 r hr
    by_cases e : r = p
    · subst e
      have own : ∀ b, es_S (es_mrg h r s) r r b = es_S h r r b := fun b => (es_STL (h := h) (g := es_mrg h r s) (v := r) (u := r) (a := r) (b := b) rfl rfl rfl rfl rfl fun i hi oi => by
        have q := (W1 i hi).2.2.2.2.2.2
        rw [oi] at q
        rw [q, k1 _ _ q]).1
      have inn : es_in h rep r r ≤ es_in (es_mrg h r s) rep r r := by
        refine es_sg_mono fun o _ => ?_
        by_cases e : o = r
        · rw [if_pos e, if_pos e]; exact Nat.le_refl _
        · rw [if_neg e, if_neg e]
          rcases es_mrg_p W2 (p := r) (s := s) (by omega) (by omega) o r with m | m <;> omega
      have out : es_out (es_mrg h r s) rep r r = es_out h rep r r := by
        refine es_sg_congr fun o _ => ?_
        rw [own]
      unfold es_R at a ⊢
      rw [own, own, out]
      omega
    · have s0 : ∀ x y, es_S (es_mrg h p s) r x y = es_S h r x y := fun x y => (es_mrg_o h p s r x y e).1
      unfold es_R es_in es_out at a ⊢
      simp only [s0]
      exact a
theorem es_WF_cpy {rep : Nat} {h : es_H} (H : es_WF rep h) {d s : Nat} (hd : 4 ≤ d) (hd2 : d < 16) (hs : s < 16) : es_WF rep (es_cpy h d s) := by
  obtain ⟨h4, hc, W1, W2, W3⟩ := H
  have k : ∀ v i, es_K (es_cpy h d s) v i = if v = d then es_K h s i else es_K h v i := fun _ _ => rfl
  refine ⟨h4, hc, ?_, ⟨?_, ?_, ?_⟩, ?_⟩
  · intro i hi
    obtain ⟨a1, a2, a3, a4, a5, a6, a7⟩ := W1 i hi
    refine ⟨a1, a2, a3, a4, a5, a6, ?_⟩
    show es_K (es_cpy h d s) (es_og h i) i = true
    rw [k, if_neg (by omega)]
    exact a7
  · intro i
    rw [k, if_neg (by omega)]
    exact W2.1 i
  · intro v i j hv hij hj oi kj
    rw [k] at kj ⊢
    by_cases e : v = d
    · rw [if_pos e] at kj ⊢
      exact W2.2.1 s i j (by omega) hij hj oi kj
    · rw [if_neg e] at kj ⊢
      exact W2.2.1 v i j hv hij hj oi kj
  · intro v i hv hi
    rw [k]
    by_cases e : v = d
    · rw [if_pos e]; exact W2.2.2 s i hs hi
    · rw [if_neg e]; exact W2.2.2 v i hv hi
  · intro r hr
    have a := W3 r hr
    have s0 : ∀ x y, es_S (es_cpy h d s) r x y = es_S h r x y := fun x y => (es_cpy_o h d s r x y (by omega)).1
    unfold es_R es_in es_out at a ⊢
    simp only [s0]
    exact a
/-! news: what one view knows and another does not -/
def es_nw (h : es_H) (v u : Nat) : Nat → Bool
  | 0 => false
  | n + 1 => es_nw h v u n || (es_K h v n && !es_K h u n)
theorem es_nw_t {h : es_H} {v u n : Nat} : es_nw h v u n = true ↔ ∃ i, i < n ∧ es_K h v i = true ∧ es_K h u i = false := by
  induction n with
  | zero =>
    constructor
    · intro z; exact Bool.noConfusion z
    · rintro ⟨i, hi, _⟩; omega
  | succ n ih =>
    simp only [es_nw, Bool.or_eq_true, Bool.and_eq_true, Bool.not_eq_true']
    rw [ih]
    constructor
    · rintro (⟨i, hi, a⟩ | a)
      · exact ⟨i, by omega, a⟩
      · exact ⟨n, by omega, a⟩
    · rintro ⟨i, hi, a⟩
      by_cases e : i = n
      · subst e; exact Or.inr a
      · exact Or.inl ⟨i, by omega, a⟩
theorem es_nw_le {rep : Nat} {h : es_H} (H : es_WF rep h) {v u : Nat} (e : es_nw h v u (es_c h) = false) (a b : Nat) : es_S h v a b ≤ es_S h u a b := by
  refine (es_mono fun i hi _ kv => ?_).1
  cases q : es_K h u i
  · have := es_nw_t.mpr ⟨i, hi, kv, q⟩
    rw [e] at this
    exact absurd this (by decide)
  · rfl
theorem es_nw_all {rep : Nat} {h : es_H} (H : es_WF rep h) {v u : Nat} (hv : v < 17) (hu : u < 17) (q : ∀ a, a < 4 → ∀ b, b < 5 → es_S h v a b ≤ es_S h u a b) : es_nw h v u (es_c h) = false := by
  cases e : es_nw h v u (es_c h)
  · rfl
  · obtain ⟨i, hi, kv, ku⟩ := es_nw_t.mp e
    obtain ⟨h4, hc, W1, W2, W3⟩ := H
    obtain ⟨a1, a2, a3, _⟩ := W1 i hi
    have m := q (es_og h i) (by omega) (es_tg h i) (by omega)
    have l : es_S h u (es_og h i) (es_tg h i) < es_S h v (es_og h i) (es_tg h i) := by
      refine es_sm_lt (j := i) ?_ hi (es_P_iff.mpr ⟨kv, rfl, rfl⟩) ?_ a3
      · intro j hj pj
        rw [es_P_iff] at pj ⊢
        refine ⟨?_, pj.2⟩
        rcases es_nest W2 hv hu (es_og h i) with z | z
        · have := z i hi rfl kv
          rw [ku] at this
          exact absurd this (by decide)
        · exact z j hj pj.2.1 pj.1
      · intro pj
        rw [es_P_iff] at pj
        rw [ku] at pj
        exact absurd pj.1 (by decide)
    omega
end
section
/-! the component's cells hold the history's sums -/
def es_G (h : es_H) (v j : Nat) (gv lt ls : Nat → Int32) : Prop :=
  gv (v * 16 + j) = nI (es_S h v (j / 4) (j % 4)) ∧ lt (v * 16 + j) = nI (es_T h v (j / 4) (j % 4)) ∧ ls (v * 16 + j) = nI (es_L h v (j / 4) (j % 4))
def es_D (h : es_H) (v j : Nat) (sp sv : Nat → Int32) : Prop :=
  sp (v * 4 + j) = nI (es_S h v j 4) ∧ sv (v * 4 + j) = nI (es_T h v j 4)
def es_XR (h : es_H) (gv lt ls sp sv : Nat → Int32) : Prop :=
  (∀ v j, v < 17 → j < 16 → es_G h v j gv lt ls) ∧ (∀ v j, v < 17 → j < 4 → es_D h v j sp sv)
theorem es_XRg {h : es_H} {gv lt ls sp sv : Nat → Int32} (X : es_XR h gv lt ls sp sv) {v a b : Nat} (hv : v < 17) (ha : a < 4) (hb : b < 4) :
    gv (v * 16 + (a * 4 + b)) = nI (es_S h v a b) ∧ lt (v * 16 + (a * 4 + b)) = nI (es_T h v a b) ∧ ls (v * 16 + (a * 4 + b)) = nI (es_L h v a b) := by
  have z := X.1 v (a * 4 + b) hv (by omega)
  unfold es_G at z
  rw [show (a * 4 + b) / 4 = a by omega, show (a * 4 + b) % 4 = b by omega] at z
  exact z
theorem es_cl272 {v a b : Nat} (hv : v < 17) (ha : a < 4) (hb : b < 4) : (nI v * 16 + nI a * 4 + nI b).toNatClampNeg = v * 16 + (a * 4 + b) := by
  rw [es_ix]; exact nI_clamp (by omega)
theorem es_vp272 {v a b : Nat} (hv : v < 17) (ha : a < 4) (hb : b < 4) : vp_in (nI v * 16 + nI a * 4 + nI b) 272 := by
  rw [es_ix]; exact vp_in_nI (by omega) (by omega)
theorem es_cl68 {v a : Nat} (hv : v < 17) (ha : a < 4) : (nI v * 4 + nI a).toNatClampNeg = v * 4 + a := by
  rw [es_ix4]; exact nI_clamp (by omega)
theorem es_vp68 {v a : Nat} (hv : v < 17) (ha : a < 4) : vp_in (nI v * 4 + nI a) 68 := by
  rw [es_ix4]; exact vp_in_nI (by omega) (by omega)
theorem es_T_lt {rep : Nat} {h : es_H} (W : es_W1 rep h) (v a b : Nat) : es_T h v a b < 2147483648 := es_mx_lt (fun i hi => (W i hi).2.2.2.2.2.1) (by omega)
theorem es_S_lt {rep : Nat} {h : es_H} (H : es_WF rep h) (v a b : Nat) : es_S h v a b ≤ 16384000 := es_big H.2.2.1 H.2.1 _
theorem es_L_lt {rep : Nat} {h : es_H} (H : es_WF rep h) (v a b : Nat) : es_L h v a b ≤ 16384000 := by
  unfold es_L es_ls
  by_cases e : es_mx (es_P h v a b) (es_tk h) (es_c h) = 0
  · rw [if_pos e]; omega
  · rw [if_neg e]; exact es_big H.2.2.1 H.2.1 _
section
variable {rp sl ql hl ct : Int32} {gv lt ls sp sv xa xt hd ln tn mk mf mt mi mn : Nat → Int32}
theorem ex_cell (post : Int32 → Prop) (p0 p1 p2 : Int32) : wpX_cell post (rp, sl, ql, hl, ct, gv, lt, ls, sp, sv, xa, xt, hd, ln, tn, mk, mf, mt, mi, mn) p0 p1 p2 = post (p0 * 16 + p1 * 4 + p2) := rfl
theorem es_R_step (h : es_H) (o v s : Nat) : es_R h (o + 1) v s = if o = s then es_R h o v s else es_R h o v s + es_S h v o s - es_S h v s o := by
  unfold es_R es_in es_out
  simp only [es_sg]
  by_cases e : o = s
  · rw [if_pos e, if_pos e, if_pos e]; omega
  · rw [if_neg e, if_neg e, if_neg e]; omega
theorem ex_rights_27 {h : es_H} {rep v s : Nat} (X : es_XR h gv lt ls sp sv) (h4 : rep ≤ 4) (hv : v < 17) (hs : s < rep) (post : Int32 → Prop) (hp : post (es_i (es_R h rep v s))) :
    ∀ d o, o + d = rep → wX_rights_27 post (nI v) (nI s) (nI rep) sl ql hl ct gv lt ls sp sv xa xt hd ln tn mk mf mt mi mn (d + 1) (es_i (es_R h o v s)) (nI o) := by
  intro d
  induction d with
  | zero =>
    intro o e
    have e' : o = rep := e
    subst e'
    exact br_t (nI_le (Nat.le_refl _) (by omega)) hp
  | succ d ih =>
    intro o e
    have st := es_R_step h o v s
    refine br_f (nI_ge (by omega) (by omega)) ?_
    by_cases q : o = s
    · rw [if_pos q] at st
      refine br_t (congrArg nI q) (nm_r (nI_1 o) ?_)
      rw [← st]
      exact ih (o + 1) (by omega)
    · rw [if_neg q] at st
      refine br_f (fun z => q ((nI_eq (by omega) (by omega)).mp z)) ?_
      rw [ex_cell, ex_cell]
      refine ⟨es_vp272 hv (by omega) (by omega), es_vp272 hv (by omega) (by omega), nm_r (e' := es_i (es_R h (o + 1) v s)) ?_ (nm_r (nI_1 o) (ih (o + 1) (by omega)))⟩
      rw [es_cl272 hv (by omega) (by omega), es_cl272 hv (by omega) (by omega), (es_XRg X hv (by omega) (by omega)).1, (es_XRg X hv (by omega) (by omega)).1, es_i_acc, st]
theorem ex_rights {h : es_H} {rep v s : Nat} (X : es_XR h gv lt ls sp sv) (h4 : rep ≤ 4) (hv : v < 17) (hs : s < rep) (post : Int32 → Prop) (hp : post (es_i (es_R h rep v s))) :
    wpX_rights post (nI rep, sl, ql, hl, ct, gv, lt, ls, sp, sv, xa, xt, hd, ln, tn, mk, mf, mt, mi, mn) (nI v) (nI s) := by
  unfold wpX_rights
  dsimp only
  rw [ex_cell]
  refine ⟨es_vp272 hv (by omega) (by omega), es_vp68 hv (by omega), nm_r (e' := es_i (es_R h 0 v s)) ?_ ⟨_, ex_rights_27 X h4 hv hs post hp rep 0 (by omega)⟩⟩
  rw [es_cl272 hv (by omega) (by omega), es_cl68 hv (by omega), (es_XRg X hv (by omega) (by omega)).1, (X.2 v s hv (by omega)).1, ← es_i_nat, ← es_i_nat, es_i_sub]
  refine congrArg es_i ?_
  show _ = (es_S h v s s : Int) - es_S h v s 4 + (0 : Nat) - (0 : Nat)
  omega
theorem ex_lentFor {h : es_H} {rep v a b t : Nat} (X : es_XR h gv lt ls sp sv) (W : es_W1 rep h) (hv : v < 17) (ha : a < 4) (hb : b < 4) (ht : t < 2147483648) (post : Int32 → Prop)
    (hp : post (nI (if es_T h v a b = t then es_L h v a b else 0))) : wpX_lentFor post (rp, sl, ql, hl, ct, gv, lt, ls, sp, sv, xa, xt, hd, ln, tn, mk, mf, mt, mi, mn) (nI v) (nI a) (nI b) (nI t) := by
  unfold wpX_lentFor
  dsimp only
  rw [ex_cell, es_cl272 hv ha hb, (es_XRg X hv ha hb).2.1, (es_XRg X hv ha hb).2.2]
  have T := es_T_lt W v a b
  refine ⟨es_vp272 hv ha hb, ?_⟩
  by_cases e : es_T h v a b = t
  · rw [if_pos e] at hp
    exact br_t (congrArg nI e) ⟨es_vp272 hv ha hb, hp⟩
  · rw [if_neg e] at hp
    exact br_f (fun z => e ((nI_eq (by omega) (by omega)).mp z)) hp
theorem ex_ring {r hh p : Nat} (hr : r < 4) (h1 : hd r = nI hh) (h2 : hh < 8) (h3 : p < 9) (post : Int32 → Prop) (hp : post (nI (r * 8 + (hh + p) % 8))) : wpX_ringIndex post (rp, sl, ql, hl, ct, gv, lt, ls, sp, sv, xa, xt, hd, ln, tn, mk, mf, mt, mi, mn) (nI r) (nI p) := by
  unfold wpX_ringIndex
  dsimp only
  rw [nI_clamp (by omega), h1, nI_add, es_and7 (by omega), es_ix8]
  exact ⟨vp_in_nI hr (by omega), hp⟩
theorem ex_full {c H : Nat} (hc : c < 2147483648) (hH : H < 2147483648) (post : Int32 → Prop) (hp : post (es_b (decide (H ≤ c)))) : wpX_historyFull post (rp, sl, ql, nI H, nI c, gv, lt, ls, sp, sv, xa, xt, hd, ln, tn, mk, mf, mt, mi, mn) := by
  unfold wpX_historyFull
  dsimp only
  by_cases e : H ≤ c
  · rw [decide_eq_true e] at hp
    exact br_f (nI_nlt e (by omega)) hp
  · rw [decide_eq_false e] at hp
    exact br_t (nI_lt (by omega) (by omega)) hp
/-! adding to cells -/
theorem ex_addGift {q w t S T L : Nat} (hq : q < 272) (hT : T < 2147483648) (ht : t < 2147483648) (e1 : gv q = nI S) (e2 : lt q = nI T) (e3 : ls q = nI L) :
    ∃ gv' lt' ls' : Nat → Int32, (gv' q = nI (S + w) ∧ lt' q = nI (if T < t then t else T) ∧ ls' q = nI (if T < t then w else if t = T ∧ 0 < t then L + w else L)) ∧
      (∀ j, j ≠ q → gv' j = gv j ∧ lt' j = lt j ∧ ls' j = ls j) ∧
      ∀ post : SX → Prop, post (rp, sl, ql, hl, ct, gv', lt', ls', sp, sv, xa, xt, hd, ln, tn, mk, mf, mt, mi, mn) → wpX_addGift post (rp, sl, ql, hl, ct, gv, lt, ls, sp, sv, xa, xt, hd, ln, tn, mk, mf, mt, mi, mn) (nI q) (nI w) (nI t) := by
  have c : (nI q).toNatClampNeg = q := nI_clamp (by omega)
  have vi : vp_in (nI q) 272 := vp_in_nI hq (by omega)
  by_cases g : T < t
  · rw [if_pos g, if_pos g]
    refine ⟨upd gv q (nI (S + w)), upd lt q (nI t), upd ls q (nI w), ⟨pk_us, pk_us, pk_us⟩, fun j hj => ⟨pk_un hj, pk_un hj, pk_un hj⟩, fun post hp => ?_⟩
    unfold wpX_addGift
    dsimp only
    rw [c, e1, e2, nI_add]
    exact ⟨vi, vi, nm_e ⟨vi, br_f (nI_ge g (by omega)) ⟨vi, nm_e ⟨vi, nm_e hp⟩⟩⟩⟩
  · rw [if_neg g, if_neg g]
    by_cases z : t = T ∧ 0 < t
    · rw [if_pos z]
      refine ⟨upd gv q (nI (S + w)), lt, upd ls q (nI (L + w)), ⟨pk_us, e2, pk_us⟩, fun j hj => ⟨pk_un hj, rfl, pk_un hj⟩, fun post hp => ?_⟩
      unfold wpX_addGift
      dsimp only
      rw [c, e1, e2, e3, nI_add, nI_add]
      exact ⟨vi, vi, nm_e ⟨vi, br_t (nI_le (by omega) (by omega)) (br_f (nI_nle z.2 (by omega)) ⟨vi, br_t (congrArg nI z.1) ⟨vi, vi, nm_e hp⟩⟩)⟩⟩
    · rw [if_neg z]
      refine ⟨upd gv q (nI (S + w)), lt, ls, ⟨pk_us, e2, e3⟩, fun j hj => ⟨pk_un hj, rfl, rfl⟩, fun post hp => ?_⟩
      unfold wpX_addGift
      dsimp only
      rw [c, e1, e2, nI_add]
      refine ⟨vi, vi, nm_e ⟨vi, br_t (nI_le (by omega) (by omega)) ?_⟩⟩
      by_cases y : 0 < t
      · exact br_f (nI_nle y (by omega)) ⟨vi, br_f (fun x => z ⟨(nI_eq (by omega) (by omega)).mp x, y⟩) hp⟩
      · exact br_t (nI_le (b := 0) (by omega) (by omega)) hp
theorem ex_addSpending {q w t S T : Nat} (hq : q < 68) (hT : T < 2147483648) (ht : t < 2147483648) (e1 : sp q = nI S) (e2 : sv q = nI T) :
    ∃ sp' sv' : Nat → Int32, (sp' q = nI (S + w) ∧ sv' q = nI (if T < t then t else T)) ∧
      (∀ j, j ≠ q → sp' j = sp j ∧ sv' j = sv j) ∧
      ∀ post : SX → Prop, post (rp, sl, ql, hl, ct, gv, lt, ls, sp', sv', xa, xt, hd, ln, tn, mk, mf, mt, mi, mn) → wpX_addSpending post (rp, sl, ql, hl, ct, gv, lt, ls, sp, sv, xa, xt, hd, ln, tn, mk, mf, mt, mi, mn) (nI q) (nI w) (nI t) := by
  have c : (nI q).toNatClampNeg = q := nI_clamp (by omega)
  have vi : vp_in (nI q) 68 := vp_in_nI hq (by omega)
  by_cases g : T < t
  · rw [if_pos g]
    refine ⟨upd sp q (nI (S + w)), upd sv q (nI t), ⟨pk_us, pk_us⟩, fun j hj => ⟨pk_un hj, pk_un hj⟩, fun post hp => ?_⟩
    unfold wpX_addSpending
    dsimp only
    rw [c, e1, e2, nI_add]
    exact ⟨vi, vi, nm_e ⟨vi, br_f (nI_ge g (by omega)) ⟨vi, nm_e hp⟩⟩⟩
  · rw [if_neg g]
    refine ⟨upd sp q (nI (S + w)), sv, ⟨pk_us, e2⟩, fun j hj => ⟨pk_un hj, rfl⟩, fun post hp => ?_⟩
    unfold wpX_addSpending
    dsimp only
    rw [c, e1, e2, nI_add]
    exact ⟨vi, vi, nm_e ⟨vi, br_t (nI_le (by omega) (by omega)) hp⟩⟩
theorem ex_recordGift {h : es_H} {rep o b w t : Nat} (X : es_XR h gv lt ls sp sv) (W : es_W1 rep h) (ho : o < 4) (hb : b < 4) (ht : t < 2147483648) :
    ∃ gv' lt' ls' : Nat → Int32, es_XR (es_add h o b w t) gv' lt' ls' sp sv ∧
      ∀ post : SX → Prop, post (rp, sl, ql, hl, ct + 1, gv', lt', ls', sp, sv, xa, xt, hd, ln, tn, mk, mf, mt, mi, mn) → wpX_recordGift post (rp, sl, ql, hl, ct, gv, lt, ls, sp, sv, xa, xt, hd, ln, tn, mk, mf, mt, mi, mn) (nI o) (nI b) (nI w) (nI t) := by
  obtain ⟨a1, a2, a3⟩ := es_XRg X (v := o) (by omega) ho hb
  obtain ⟨g1, t1, s1, ⟨b1, b2, b3⟩, b4, b5⟩ := ex_addGift (rp := rp) (sl := sl) (ql := ql) (hl := hl) (ct := ct) (sp := sp) (sv := sv) (xa := xa) (xt := xt) (hd := hd) (ln := ln) (tn := tn) (mk := mk) (mf := mf) (mt := mt) (mi := mi) (mn := mn)
    (q := o * 16 + (o * 4 + b)) (w := w) (t := t) (by omega) (es_T_lt W _ _ _) ht a1 a2 a3
  obtain ⟨c1, c2, c3⟩ := es_XRg X (v := 16) (by omega) ho hb
  obtain ⟨d1, d2, d3⟩ := b4 (16 * 16 + (o * 4 + b)) (by omega)
  obtain ⟨g2, t2, s2, ⟨e1, e2, e3⟩, e4, e5⟩ := ex_addGift (rp := rp) (sl := sl) (ql := ql) (hl := hl) (ct := ct) (sp := sp) (sv := sv) (xa := xa) (xt := xt) (hd := hd) (ln := ln) (tn := tn) (mk := mk) (mf := mf) (mt := mt) (mi := mi) (mn := mn)
    (q := 16 * 16 + (o * 4 + b)) (w := w) (t := t) (by omega) (es_T_lt W _ _ _) ht (d1.trans c1) (d2.trans c2) (d3.trans c3)
  refine ⟨g2, t2, s2, ⟨?_, ?_⟩, ?_⟩
  · intro v j hv hj
    unfold es_G
    rw [es_add_S, es_add_T, es_add_L]
    by_cases q : v = 16 ∧ j = o * 4 + b
    · obtain ⟨rfl, rfl⟩ := q
      have k : ((16 = o ∨ 16 = 16) ∧ (o * 4 + b) / 4 = o ∧ (o * 4 + b) % 4 = b) := ⟨Or.inr rfl, by omega, by omega⟩
      rw [if_pos k, if_pos k]
      have k2 : (o * 4 + b) / 4 = o := by omega
      have k3 : (o * 4 + b) % 4 = b := by omega
      rw [k2, k3]
      refine ⟨e1, ?_, e3⟩
      rw [e2]
      by_cases y : es_T h 16 o b < t
      · rw [if_pos y, if_pos ⟨⟨Or.inr rfl, rfl, rfl⟩, y⟩]
      · rw [if_neg y, if_neg (fun z => y z.2)]
    · obtain ⟨f1, f2, f3⟩ := e4 (v * 16 + j) (by omega)
      rw [f1, f2, f3]
      by_cases q2 : v = o ∧ j = o * 4 + b
      · obtain ⟨rfl, rfl⟩ := q2
        have k2 : (v * 4 + b) / 4 = v := by omega
        have k3 : (v * 4 + b) % 4 = b := by omega
        rw [k2, k3]
        have k : ((v = v ∨ v = 16) ∧ v = v ∧ b = b) := ⟨Or.inl rfl, rfl, rfl⟩
        rw [if_pos k, if_pos k]
        refine ⟨b1, ?_, b3⟩
        rw [b2]
        by_cases y : es_T h v v b < t
        · rw [if_pos y, if_pos ⟨k, y⟩]
        · rw [if_neg y, if_neg (fun z => y z.2)]
      · obtain ⟨f4, f5, f6⟩ := b4 (v * 16 + j) (by omega)
        rw [f4, f5, f6]
        have k : ¬ ((v = o ∨ v = 16) ∧ j / 4 = o ∧ j % 4 = b) := by omega
        rw [if_neg k, if_neg (fun z => k z.1), if_neg k]
        exact X.1 v j hv hj
  · intro v j hv hj
    unfold es_D
    have k : ¬ ((v = o ∨ v = 16) ∧ j = o ∧ 4 = b) := by omega
    rw [es_add_S, es_add_T, if_neg k, if_neg (fun z => k z.1)]
    exact X.2 v j hv hj
  · intro post hp
    unfold wpX_recordGift
    dsimp only
    rw [ex_cell, es_ix]
    refine b5 _ ?_
    dsimp only
    rw [ex_cell]
    refine es_to (P := fun z => wpX_addGift _ _ z _ _) (es_ix 16 o b) ?_
    refine e5 _ ?_
    exact nm_e hp
theorem ex_recordSpending {h : es_H} {rep o w t : Nat} (X : es_XR h gv lt ls sp sv) (W : es_W1 rep h) (ho : o < 4) (ht : t < 2147483648) :
    ∃ sp' sv' : Nat → Int32, es_XR (es_add h o 4 w t) gv lt ls sp' sv' ∧
      ∀ post : SX → Prop, post (rp, sl, ql, hl, ct + 1, gv, lt, ls, sp', sv', xa, xt, hd, ln, tn, mk, mf, mt, mi, mn) → wpX_recordSpending post (rp, sl, ql, hl, ct, gv, lt, ls, sp, sv, xa, xt, hd, ln, tn, mk, mf, mt, mi, mn) (nI o) (nI w) (nI t) := by
  obtain ⟨a1, a2⟩ := X.2 o o (by omega) ho
  obtain ⟨p1, v1, ⟨b1, b2⟩, b4, b5⟩ := ex_addSpending (rp := rp) (sl := sl) (ql := ql) (hl := hl) (ct := ct) (gv := gv) (lt := lt) (ls := ls) (xa := xa) (xt := xt) (hd := hd) (ln := ln) (tn := tn) (mk := mk) (mf := mf) (mt := mt) (mi := mi) (mn := mn)
    (q := o * 4 + o) (w := w) (t := t) (by omega) (es_T_lt W _ _ _) ht a1 a2
  obtain ⟨c1, c2⟩ := X.2 16 o (by omega) ho
  obtain ⟨d1, d2⟩ := b4 (16 * 4 + o) (by omega)
  obtain ⟨p2, v2, ⟨e1, e2⟩, e4, e5⟩ := ex_addSpending (rp := rp) (sl := sl) (ql := ql) (hl := hl) (ct := ct) (gv := gv) (lt := lt) (ls := ls) (xa := xa) (xt := xt) (hd := hd) (ln := ln) (tn := tn) (mk := mk) (mf := mf) (mt := mt) (mi := mi) (mn := mn)
    (q := 16 * 4 + o) (w := w) (t := t) (by omega) (es_T_lt W _ _ _) ht (d1.trans c1) (d2.trans c2)
  refine ⟨p2, v2, ⟨?_, ?_⟩, ?_⟩
  · intro v j hv hj
    unfold es_G
    have k : ¬ ((v = o ∨ v = 16) ∧ j / 4 = o ∧ j % 4 = 4) := by omega
    rw [es_add_S, es_add_T, es_add_L, if_neg k, if_neg (fun z => k z.1), if_neg k]
    exact X.1 v j hv hj
  · intro v j hv hj
    unfold es_D
    rw [es_add_S, es_add_T]
    by_cases q : v = 16 ∧ j = o
    · obtain ⟨rfl, rfl⟩ := q
      have k : ((16 = j ∨ 16 = 16) ∧ j = j ∧ 4 = 4) := ⟨Or.inr rfl, rfl, rfl⟩
      rw [if_pos k]
      refine ⟨e1, ?_⟩
      rw [e2]
      by_cases y : es_T h 16 j 4 < t
      · rw [if_pos y, if_pos ⟨k, y⟩]
      · rw [if_neg y, if_neg (fun z => y z.2)]
    · obtain ⟨f1, f2⟩ := e4 (v * 4 + j) (by omega)
      rw [f1, f2]
      by_cases q2 : v = o ∧ j = o
      · obtain ⟨rfl, rfl⟩ := q2
        have k : ((j = j ∨ j = 16) ∧ j = j ∧ 4 = 4) := ⟨Or.inl rfl, rfl, rfl⟩
        rw [if_pos k]
        refine ⟨b1, ?_⟩
        rw [b2]
        by_cases y : es_T h j j 4 < t
        · rw [if_pos y, if_pos ⟨k, y⟩]
        · rw [if_neg y, if_neg (fun z => y z.2)]
      · obtain ⟨f4, f5⟩ := b4 (v * 4 + j) (by omega)
        rw [f4, f5]
        have k : ¬ ((v = o ∨ v = 16) ∧ j = o ∧ 4 = 4) := by omega
        rw [if_neg k, if_neg (fun z => k z.1)]
        exact X.2 v j hv hj
  · intro post hp
    unfold wpX_recordSpending
    dsimp only
    rw [es_ix4]
    refine b5 _ ?_
    dsimp only
    rw [es_64p]
    refine e5 _ ?_
    exact nm_e hp
end
end
section
section
variable {rp sl ql hl ct : Int32} {gv lt ls sp sv xa xt hd ln tn mk mf mt mi mn : Nat → Int32}
theorem ex_within_43 {h : es_H} {rep v u : Nat} (H : es_WF rep h) (X : es_XR h gv lt ls sp sv) (hv : v < 17) (hu : u < 17)
    (pre : ∀ a, a < 4 → ∀ b, b < 4 → es_S h v a b ≤ es_S h u a b) (post : Int32 → Prop) (hp : post (es_b (!es_nw h v u (es_c h)))) :
    ∀ d i, i + d = 4 → (∀ a, a < i → es_S h v a 4 ≤ es_S h u a 4) → wX_within_43 post (nI v) (nI u) rp sl ql hl ct gv lt ls sp sv xa xt hd ln tn mk mf mt mi mn (d + 1) (nI i) := by
  intro d
  induction d with
  | zero =>
    intro i e q
    have e' : i = 4 := e
    subst e'
    refine br_t (nI_le (a := 4) (b := 4) (by omega) (by omega)) ?_
    rw [es_nw_all H hv hu (fun a ha b hb => by
      by_cases z : b = 4
      · subst z; exact q a ha
      · exact pre a ha b (by omega))] at hp
    exact hp
  | succ d ih =>
    intro i e q
    refine br_f (nI_ge (b := 4) (by omega) (by omega)) ⟨es_vp68 hv (by omega), es_vp68 hu (by omega), ?_⟩
    rw [es_cl68 hv (by omega), es_cl68 hu (by omega), (X.2 v i hv (by omega)).1, (X.2 u i hu (by omega)).1]
    have b1 := es_S_lt H v i 4
    have b2 := es_S_lt H u i 4
    by_cases z : es_S h v i 4 ≤ es_S h u i 4
    · refine br_t (nI_le z (by omega)) (nm_r (nI_1 i) (ih (i + 1) (by omega) fun a ha => ?_))
      by_cases y : a = i
      · subst y; exact z
      · exact q a (by omega)
    · refine br_f (nI_ge (by omega) (by omega)) ?_
      cases y : es_nw h v u (es_c h)
      · exact absurd (es_nw_le H y i 4) z
      · rw [y] at hp; exact hp
theorem ex_within_2 {h : es_H} {rep v u : Nat} (H : es_WF rep h) (X : es_XR h gv lt ls sp sv) (hv : v < 17) (hu : u < 17)
    (post : Int32 → Prop) (hp : post (es_b (!es_nw h v u (es_c h)))) :
    ∀ d i, i + d = 16 → (∀ j, j < i → es_S h v (j / 4) (j % 4) ≤ es_S h u (j / 4) (j % 4)) → wX_within_2 post (nI v) (nI u) rp sl ql hl ct gv lt ls sp sv xa xt hd ln tn mk mf mt mi mn (d + 1) (nI i) := by
  intro d
  induction d with
  | zero =>
    intro i e q
    have e' : i = 16 := e
    subst e'
    refine br_t (nI_le (a := 16) (b := 16) (by omega) (by omega)) ⟨5, ?_⟩
    refine ex_within_43 H X hv hu (fun a ha b hb => ?_) post hp 4 0 (by omega) (fun a ha => by omega)
    have z := q (a * 4 + b) (by omega)
    rw [show (a * 4 + b) / 4 = a by omega, show (a * 4 + b) % 4 = b by omega] at z
    exact z
  | succ d ih =>
    intro i e q
    rw [show wX_within_2 post (nI v) (nI u) rp sl ql hl ct gv lt ls sp sv xa xt hd ln tn mk mf mt mi mn (d + 1 + 1) (nI i) = _ from rfl]
    refine br_f (nI_ge (b := 16) (by omega) (by omega)) ?_
    rw [es_ix16, es_ix16, nI_clamp (by omega), nI_clamp (by omega), (X.1 v i hv (by omega)).1, (X.1 u i hu (by omega)).1]
    refine ⟨vp_in_nI (by omega) (by omega), vp_in_nI (by omega) (by omega), ?_⟩
    have b1 := es_S_lt H v (i / 4) (i % 4)
    have b2 := es_S_lt H u (i / 4) (i % 4)
    by_cases z : es_S h v (i / 4) (i % 4) ≤ es_S h u (i / 4) (i % 4)
    · refine br_t (nI_le z (by omega)) (nm_r (nI_1 i) (ih (i + 1) (by omega) fun a ha => ?_))
      by_cases y : a = i
      · subst y; exact z
      · exact q a (by omega)
    · refine br_f (nI_ge (by omega) (by omega)) ?_
      cases y : es_nw h v u (es_c h)
      · exact absurd (es_nw_le H y (i / 4) (i % 4)) z
      · rw [y] at hp; exact hp
theorem ex_within {h : es_H} {rep v u : Nat} (H : es_WF rep h) (X : es_XR h gv lt ls sp sv) (hv : v < 17) (hu : u < 17)
    (post : Int32 → Prop) (hp : post (es_b (!es_nw h v u (es_c h)))) : wpX_within post (rp, sl, ql, hl, ct, gv, lt, ls, sp, sv, xa, xt, hd, ln, tn, mk, mf, mt, mi, mn) (nI v) (nI u) := by
  unfold wpX_within
  exact ⟨17, ex_within_2 H X hv hu post hp 16 0 (by omega) (fun j hj => by omega)⟩
/-! uniting views -/
theorem ex_mergeCell_27 {q r S1 T1 L1 T2 L2 T L : Nat} (hq : q < 272) (hr : r < 272) (hT1 : T1 < 2147483648) (hT2 : T2 < 2147483648) (hL1 : L1 ≤ 16384000) (hL2 : L2 ≤ 16384000)
    (e2 : lt q = nI T1) (e3 : ls q = nI L1) (f2 : lt r = nI T2) (f3 : ls r = nI L2)
    (g : (T = T1 ∧ L = L1 ∧ (T2 < T1 ∨ (T2 = T1 ∧ L2 ≤ L1))) ∨ (T = T2 ∧ L = L2 ∧ (T1 < T2 ∨ (T1 = T2 ∧ L1 ≤ L2)))) :
    ∃ lt' ls' : Nat → Int32, (lt' q = nI T ∧ ls' q = nI L) ∧ (∀ j, j ≠ q → lt' j = lt j ∧ ls' j = ls j) ∧
      ∀ (gv : Nat → Int32) (post : SX → Prop), post (rp, sl, ql, hl, ct, gv, lt', ls', sp, sv, xa, xt, hd, ln, tn, mk, mf, mt, mi, mn) → wX_mergeCell_27 post (nI q) (nI r) rp sl ql hl ct gv lt ls sp sv xa xt hd ln tn mk mf mt mi mn := by
  have c : (nI q).toNatClampNeg = q := nI_clamp (by omega)
  have c2 : (nI r).toNatClampNeg = r := nI_clamp (by omega)
  have vi : vp_in (nI q) 272 := vp_in_nI hq (by omega)
  have vj : vp_in (nI r) 272 := vp_in_nI hr (by omega)
  by_cases y : T1 < T2
  · obtain ⟨rfl, rfl⟩ : T = T2 ∧ L = L2 := by omega
    refine ⟨upd lt q (nI T), upd ls q (nI L), ⟨pk_us, pk_us⟩, fun j hj => ⟨pk_un hj, pk_un hj⟩, fun gv post hp => ?_⟩
    unfold wX_mergeCell_27
    rw [c, c2, e2, f2, f3]
    exact ⟨vj, vi, br_f (nI_ge y (by omega)) ⟨vj, vi, nm_e ⟨vj, vi, nm_e hp⟩⟩⟩
  · by_cases z : T2 = T1
    · by_cases x : L2 ≤ L1
      · obtain ⟨rfl, rfl⟩ : T = T1 ∧ L = L1 := by omega
        refine ⟨lt, ls, ⟨e2, e3⟩, fun j hj => ⟨rfl, rfl⟩, fun gv post hp => ?_⟩
        unfold wX_mergeCell_27
        rw [c, c2, e2, f2, e3, f3]
        exact ⟨vj, vi, br_t (nI_le (by omega) (by omega)) ⟨vj, vi, br_t (congrArg nI z) ⟨vj, vi, br_t (nI_le x (by omega)) hp⟩⟩⟩
      · obtain ⟨e, rfl⟩ : T = T1 ∧ L = L2 := by omega
        subst e
        refine ⟨lt, upd ls q (nI L), ⟨e2, pk_us⟩, fun j hj => ⟨rfl, pk_un hj⟩, fun gv post hp => ?_⟩
        unfold wX_mergeCell_27
        rw [c, c2, e2, f2, e3, f3]
        exact ⟨vj, vi, br_t (nI_le (by omega) (by omega)) ⟨vj, vi, br_t (congrArg nI z) ⟨vj, vi, br_f (nI_ge (by omega) (by omega)) ⟨vj, vi, nm_e hp⟩⟩⟩⟩
    · obtain ⟨rfl, rfl⟩ : T = T1 ∧ L = L1 := by omega
      refine ⟨lt, ls, ⟨e2, e3⟩, fun j hj => ⟨rfl, rfl⟩, fun gv post hp => ?_⟩
      unfold wX_mergeCell_27
      rw [c, c2, e2, f2]
      exact ⟨vj, vi, br_t (nI_le (by omega) (by omega)) ⟨vj, vi, br_f (fun k => z ((nI_eq (by omega) (by omega)).mp k)) hp⟩⟩
theorem ex_mergeCell {q r S1 T1 L1 S2 T2 L2 S T L : Nat} (hq : q < 272) (hr : r < 272) (hS1 : S1 ≤ 16384000) (hS2 : S2 ≤ 16384000) (hT1 : T1 < 2147483648) (hT2 : T2 < 2147483648) (hL1 : L1 ≤ 16384000) (hL2 : L2 ≤ 16384000)
    (e1 : gv q = nI S1) (e2 : lt q = nI T1) (e3 : ls q = nI L1) (f1 : gv r = nI S2) (f2 : lt r = nI T2) (f3 : ls r = nI L2)
    (g : ((S = S1 ∧ T = T1 ∧ L = L1) ∧ S2 ≤ S1 ∧ (T2 < T1 ∨ (T2 = T1 ∧ L2 ≤ L1))) ∨ ((S = S2 ∧ T = T2 ∧ L = L2) ∧ S1 ≤ S2 ∧ (T1 < T2 ∨ (T1 = T2 ∧ L1 ≤ L2)))) :
    ∃ gv' lt' ls' : Nat → Int32, (gv' q = nI S ∧ lt' q = nI T ∧ ls' q = nI L) ∧ (∀ j, j ≠ q → gv' j = gv j ∧ lt' j = lt j ∧ ls' j = ls j) ∧
      ∀ post : SX → Prop, post (rp, sl, ql, hl, ct, gv', lt', ls', sp, sv, xa, xt, hd, ln, tn, mk, mf, mt, mi, mn) → wpX_mergeCell post (rp, sl, ql, hl, ct, gv, lt, ls, sp, sv, xa, xt, hd, ln, tn, mk, mf, mt, mi, mn) (nI q) (nI r) := by
  have c : (nI q).toNatClampNeg = q := nI_clamp (by omega)
  have c2 : (nI r).toNatClampNeg = r := nI_clamp (by omega)
  have vi : vp_in (nI q) 272 := vp_in_nI hq (by omega)
  have vj : vp_in (nI r) 272 := vp_in_nI hr (by omega)
  obtain ⟨lt', ls', ⟨a1, a2⟩, a3, a4⟩ := ex_mergeCell_27 (rp := rp) (sl := sl) (ql := ql) (hl := hl) (ct := ct) (sp := sp) (sv := sv) (xa := xa) (xt := xt) (hd := hd) (ln := ln) (tn := tn) (mk := mk) (mf := mf) (mt := mt) (mi := mi) (mn := mn)
    (S1 := S1) (T := T) (L := L) hq hr hT1 hT2 hL1 hL2 e2 e3 f2 f3 (by omega)
  by_cases y : S2 ≤ S1
  · have e : S = S1 := by omega
    subst e
    refine ⟨gv, lt', ls', ⟨e1, a1, a2⟩, fun j hj => ⟨rfl, a3 j hj⟩, fun post hp => ?_⟩
    unfold wpX_mergeCell
    dsimp only
    rw [c, c2, e1, f1]
    exact ⟨vj, vi, br_t (nI_le y (by omega)) (a4 _ _ hp)⟩
  · have e : S = S2 := by omega
    subst e
    refine ⟨upd gv q (nI S), lt', ls', ⟨pk_us, a1, a2⟩, fun j hj => ⟨pk_un hj, a3 j hj⟩, fun post hp => ?_⟩
    unfold wpX_mergeCell
    dsimp only
    rw [c, c2, e1, f1]
    exact ⟨vj, vi, br_f (nI_ge (by omega) (by omega)) ⟨vj, vi, nm_e (a4 _ _ hp)⟩⟩
theorem ex_mergeSpending {q r S1 T1 S2 T2 S T : Nat} (hq : q < 68) (hr : r < 68) (hS1 : S1 ≤ 16384000) (hS2 : S2 ≤ 16384000) (hT1 : T1 < 2147483648) (hT2 : T2 < 2147483648)
    (e1 : sp q = nI S1) (e2 : sv q = nI T1) (f1 : sp r = nI S2) (f2 : sv r = nI T2)
    (g : ((S = S1 ∧ T = T1) ∧ S2 ≤ S1 ∧ T2 ≤ T1) ∨ ((S = S2 ∧ T = T2) ∧ S1 ≤ S2 ∧ T1 ≤ T2)) :
    ∃ sp' sv' : Nat → Int32, (sp' q = nI S ∧ sv' q = nI T) ∧ (∀ j, j ≠ q → sp' j = sp j ∧ sv' j = sv j) ∧
      ∀ post : SX → Prop, post (rp, sl, ql, hl, ct, gv, lt, ls, sp', sv', xa, xt, hd, ln, tn, mk, mf, mt, mi, mn) → wpX_mergeSpending post (rp, sl, ql, hl, ct, gv, lt, ls, sp, sv, xa, xt, hd, ln, tn, mk, mf, mt, mi, mn) (nI q) (nI r) := by
  have c : (nI q).toNatClampNeg = q := nI_clamp (by omega)
  have c2 : (nI r).toNatClampNeg = r := nI_clamp (by omega)
  have vi : vp_in (nI q) 68 := vp_in_nI hq (by omega)
  have vj : vp_in (nI r) 68 := vp_in_nI hr (by omega)
  have K : ∃ sv' : Nat → Int32, sv' q = nI T ∧ (∀ j, j ≠ q → sv' j = sv j) ∧ ∀ (sp : Nat → Int32) (post : SX → Prop), post (rp, sl, ql, hl, ct, gv, lt, ls, sp, sv', xa, xt, hd, ln, tn, mk, mf, mt, mi, mn) → wX_mergeSpending_27 post (nI q) (nI r) rp sl ql hl ct gv lt ls sp sv xa xt hd ln tn mk mf mt mi mn := by
    by_cases y : T2 ≤ T1
    · have e : T = T1 := by omega
      subst e
      refine ⟨sv, e2, fun j hj => rfl, fun sp post hp => ?_⟩
      unfold wX_mergeSpending_27
      rw [c, c2, e2, f2]
      exact ⟨vj, vi, br_t (nI_le y (by omega)) hp⟩
    · have e : T = T2 := by omega
      subst e
      refine ⟨upd sv q (nI T), pk_us, fun j hj => pk_un hj, fun sp post hp => ?_⟩
      unfold wX_mergeSpending_27
      rw [c, c2, e2, f2]
      exact ⟨vj, vi, br_f (nI_ge (by omega) (by omega)) ⟨vj, vi, nm_e hp⟩⟩
  obtain ⟨sv', a1, a3, a4⟩ := K
  by_cases y : S2 ≤ S1
  · have e : S = S1 := by omega
    subst e
    refine ⟨sp, sv', ⟨e1, a1⟩, fun j hj => ⟨rfl, a3 j hj⟩, fun post hp => ?_⟩
    unfold wpX_mergeSpending
    dsimp only
    rw [c, c2, e1, f1]
    exact ⟨vj, vi, br_t (nI_le y (by omega)) (a4 _ _ hp)⟩
  · have e : S = S2 := by omega
    subst e
    refine ⟨upd sp q (nI S), sv', ⟨pk_us, a1⟩, fun j hj => ⟨pk_un hj, a3 j hj⟩, fun post hp => ?_⟩
    unfold wpX_mergeSpending
    dsimp only
    rw [c, c2, e1, f1]
    exact ⟨vj, vi, br_f (nI_ge (by omega) (by omega)) ⟨vj, vi, nm_e (a4 _ _ hp)⟩⟩
end
section
variable {rp sl ql hl ct : Int32} {xa xt hd ln tn mk mf mt mi mn : Nat → Int32}
theorem ex_merge_52 {h : es_H} {rep p s : Nat} (H : es_WF rep h) (hp : p < 16) (hs : s < 16) (hps : ¬ s = p) {x3 : Int32} (hx : x3 = 0 ∨ x3 = 1) (gv lt ls : Nat → Int32) :
    ∀ (d i : Nat) (sp sv : Nat → Int32), i + d = 4 → (∀ v j, v < 17 → j < 4 → es_D (if v = p ∧ j < i then es_mrg h p s else h) v j sp sv) →
      ∃ sp' sv' : Nat → Int32, (∀ v j, v < 17 → j < 4 → es_D (es_mrg h p s) v j sp' sv') ∧
        ∀ post : Int32 → SX → Prop, post x3 (rp, sl, ql, hl, ct, gv, lt, ls, sp', sv', xa, xt, hd, ln, tn, mk, mf, mt, mi, mn) → wX_merge_52 post (nI p) (nI s) x3 (d + 1) (nI i) rp sl ql hl ct gv lt ls sp sv xa xt hd ln tn mk mf mt mi mn := by
  intro d
  induction d with
  | zero =>
    intro i sp sv e I
    have e' : i = 4 := e
    subst e'
    refine ⟨sp, sv, fun v j hv hj => ?_, fun post q => br_t (nI_le (a := 4) (b := 4) (by omega) (by omega)) ⟨?_, q⟩⟩
    · have z := I v j hv hj
      by_cases y : v = p
      · rw [if_pos ⟨y, hj⟩] at z; exact z
      · rw [if_neg (fun x => y x.1)] at z
        obtain ⟨o1, o2, o3⟩ := es_mrg_o h p s v j 4 y
        unfold es_D at z ⊢
        rw [o1, o2]
        exact z
    · rcases hx with rfl | rfl <;> rfl
  | succ d ih =>
    intro i sp sv e I
    have z1 := I p i (by omega) (by omega)
    have z2 := I s i (by omega) (by omega)
    rw [if_neg (by omega)] at z1
    rw [if_neg (fun x => hps x.1)] at z2
    have W := H.2.2.1
    have mm := es_mrg_p H.2.2.2.1 (p := p) (s := s) (by omega) (by omega) i 4
    obtain ⟨sp1, sv1, ⟨a1, a2⟩, a3, a4⟩ := ex_mergeSpending (rp := rp) (sl := sl) (ql := ql) (hl := hl) (ct := ct) (gv := gv) (lt := lt) (ls := ls) (xa := xa) (xt := xt) (hd := hd) (ln := ln) (tn := tn) (mk := mk) (mf := mf) (mt := mt) (mi := mi) (mn := mn)
      (q := p * 4 + i) (r := s * 4 + i) (S := es_S (es_mrg h p s) p i 4) (T := es_T (es_mrg h p s) p i 4) (by omega) (by omega) (es_S_lt H p i 4) (es_S_lt H s i 4) (es_T_lt W p i 4) (es_T_lt W s i 4) z1.1 z1.2 z2.1 z2.2 (by omega)
    obtain ⟨sp', sv', b1, b2⟩ := ih (i + 1) sp1 sv1 (by omega) (fun v j hv hj => by
      by_cases y : v = p ∧ j = i
      · obtain ⟨rfl, rfl⟩ := y
        rw [if_pos ⟨rfl, by omega⟩]
        exact ⟨a1, a2⟩
      · have z := I v j hv hj
        obtain ⟨c1, c2⟩ := a3 (v * 4 + j) (by omega)
        by_cases x : v = p ∧ j < i
        · rw [if_pos x] at z
          rw [if_pos ⟨x.1, by omega⟩]
          unfold es_D at z ⊢
          rw [c1, c2]; exact z
        · rw [if_neg x] at z
          rw [if_neg (by omega)]
          unfold es_D at z ⊢
          rw [c1, c2]; exact z)
    refine ⟨sp', sv', b1, fun post q => ?_⟩
    refine br_f (nI_ge (b := 4) (by omega) (by omega)) ?_
    rw [es_ix4, es_ix4]
    exact a4 _ (nm_r (nI_1 i) (b2 post q))
theorem ex_merge_18 {h : es_H} {rep p s : Nat} (H : es_WF rep h) (hp : p < 16) (hs : s < 16) (hps : ¬ s = p) {x3 : Int32} (hx : x3 = 0 ∨ x3 = 1) (sp sv : Nat → Int32)
    (I0 : ∀ v j, v < 17 → j < 4 → es_D h v j sp sv) :
    ∀ (d i : Nat) (gv lt ls : Nat → Int32), i + d = 16 → (∀ v j, v < 17 → j < 16 → es_G (if v = p ∧ j < i then es_mrg h p s else h) v j gv lt ls) →
      ∃ gv' lt' ls' sp' sv' : Nat → Int32, es_XR (es_mrg h p s) gv' lt' ls' sp' sv' ∧
        ∀ post : Int32 → SX → Prop, post x3 (rp, sl, ql, hl, ct, gv', lt', ls', sp', sv', xa, xt, hd, ln, tn, mk, mf, mt, mi, mn) → wX_merge_18 post (nI p) (nI s) x3 (d + 1) (nI i) rp sl ql hl ct gv lt ls sp sv xa xt hd ln tn mk mf mt mi mn := by
  intro d
  induction d with
  | zero =>
    intro i gv lt ls e I
    have e' : i = 16 := e
    subst e'
    obtain ⟨sp', sv', b1, b2⟩ := ex_merge_52 (rp := rp) (sl := sl) (ql := ql) (hl := hl) (ct := ct) (xa := xa) (xt := xt) (hd := hd) (ln := ln) (tn := tn) (mk := mk) (mf := mf) (mt := mt) (mi := mi) (mn := mn)
      H hp hs hps hx gv lt ls 4 0 sp sv (by omega) (fun v j hv hj => by rw [if_neg (by omega)]; exact I0 v j hv hj)
    refine ⟨gv, lt, ls, sp', sv', ⟨fun v j hv hj => ?_, b1⟩, fun post q => br_t (nI_le (a := 16) (b := 16) (by omega) (by omega)) ⟨5, b2 post q⟩⟩
    have z := I v j hv hj
    by_cases y : v = p
    · rw [if_pos ⟨y, hj⟩] at z; exact z
    · rw [if_neg (fun x => y x.1)] at z
      obtain ⟨o1, o2, o3⟩ := es_mrg_o h p s v (j / 4) (j % 4) y
      unfold es_G at z ⊢
      rw [o1, o2, o3]
      exact z
  | succ d ih =>
    intro i gv lt ls e I
    have z1 := I p i (by omega) (by omega)
    have z2 := I s i (by omega) (by omega)
    rw [if_neg (by omega)] at z1
    rw [if_neg (fun x => hps x.1)] at z2
    have W := H.2.2.1
    have mm := es_mrg_p H.2.2.2.1 (p := p) (s := s) (by omega) (by omega) (i / 4) (i % 4)
    obtain ⟨gv1, lt1, ls1, ⟨a1, a2, a2'⟩, a3, a4⟩ := ex_mergeCell (rp := rp) (sl := sl) (ql := ql) (hl := hl) (ct := ct) (sp := sp) (sv := sv) (xa := xa) (xt := xt) (hd := hd) (ln := ln) (tn := tn) (mk := mk) (mf := mf) (mt := mt) (mi := mi) (mn := mn)
      (q := p * 16 + i) (r := s * 16 + i) (by omega) (by omega) (es_S_lt H p (i / 4) (i % 4)) (es_S_lt H s (i / 4) (i % 4)) (es_T_lt W p (i / 4) (i % 4)) (es_T_lt W s (i / 4) (i % 4)) (es_L_lt H p (i / 4) (i % 4)) (es_L_lt H s (i / 4) (i % 4))
      z1.1 z1.2.1 z1.2.2 z2.1 z2.2.1 z2.2.2 mm
    obtain ⟨gv', lt', ls', sp', sv', b1, b2⟩ := ih (i + 1) gv1 lt1 ls1 (by omega) (fun v j hv hj => by
      by_cases y : v = p ∧ j = i
      · obtain ⟨rfl, rfl⟩ := y
        rw [if_pos ⟨rfl, by omega⟩]
        exact ⟨a1, a2, a2'⟩
      · have z := I v j hv hj
        obtain ⟨c1, c2, c3⟩ := a3 (v * 16 + j) (by omega)
        by_cases x : v = p ∧ j < i
        · rw [if_pos x] at z
          rw [if_pos ⟨x.1, by omega⟩]
          unfold es_G at z ⊢
          rw [c1, c2, c3]; exact z
        · rw [if_neg x] at z
          rw [if_neg (by omega)]
          unfold es_G at z ⊢
          rw [c1, c2, c3]; exact z)
    refine ⟨gv', lt', ls', sp', sv', b1, fun post q => ?_⟩
    refine br_f (nI_ge (b := 16) (by omega) (by omega)) ?_
    rw [es_ix16, es_ix16]
    exact a4 _ (nm_r (nI_1 i) (b2 post q))
end
section
variable {rp sl ql hl ct : Int32} {gv lt ls sp sv xa xt hd ln tn mk mf mt mi mn : Nat → Int32}
theorem ex_merge {h : es_H} {rep p s : Nat} (H : es_WF rep h) (X : es_XR h gv lt ls sp sv) (hp : p < 16) (hs : s < 16) (hps : ¬ s = p) :
    ∃ gv' lt' ls' sp' sv' : Nat → Int32, es_XR (es_mrg h p s) gv' lt' ls' sp' sv' ∧
      ∀ post : Int32 → SX → Prop, post (es_b (es_nw h s p (es_c h))) (rp, sl, ql, hl, ct, gv', lt', ls', sp', sv', xa, xt, hd, ln, tn, mk, mf, mt, mi, mn) → wpX_merge post (rp, sl, ql, hl, ct, gv, lt, ls, sp, sv, xa, xt, hd, ln, tn, mk, mf, mt, mi, mn) (nI p) (nI s) := by
  have hx : es_b (es_nw h s p (es_c h)) = 0 ∨ es_b (es_nw h s p (es_c h)) = 1 := by
    cases es_nw h s p (es_c h)
    · exact Or.inl rfl
    · exact Or.inr rfl
  obtain ⟨gv', lt', ls', sp', sv', b1, b2⟩ := ex_merge_18 (rp := rp) (sl := sl) (ql := ql) (hl := hl) (ct := ct) (xa := xa) (xt := xt) (hd := hd) (ln := ln) (tn := tn) (mk := mk) (mf := mf) (mt := mt) (mi := mi) (mn := mn)
    H hp hs hps hx sp sv X.2 16 0 gv lt ls (by omega) (fun v j hv hj => by rw [if_neg (by omega)]; exact X.1 v j hv hj)
  refine ⟨gv', lt', ls', sp', sv', b1, fun post q => ?_⟩
  unfold wpX_merge
  dsimp only
  refine ex_within H X (by omega) (by omega) _ ?_
  have z := b2 post q
  cases y : es_nw h s p (es_c h)
  · rw [y] at z
    exact br_f (by decide) ⟨_, z⟩
  · rw [y] at z
    exact br_t (by decide) ⟨_, z⟩
/-! copying views -/
def es_cp (a : Nat → Int32) (N d s i : Nat) : Nat → Int32 := fun j => if d * N ≤ j ∧ j < d * N + i then a (s * N + (j - d * N)) else a j
theorem es_cp_0 (a : Nat → Int32) (N d s : Nat) : es_cp a N d s 0 = a := by
  funext j
  exact if_neg (by omega)
theorem es_cp_r {a : Nat → Int32} {N d s i j : Nat} (h : ¬ (d * N ≤ j ∧ j < d * N + i)) : es_cp a N d s i j = a j := if_neg h
theorem es_cp_w {a : Nat → Int32} {N d s i j : Nat} (h : j < i) : es_cp a N d s i (d * N + j) = a (s * N + j) := by
  unfold es_cp
  rw [if_pos ⟨by omega, by omega⟩, show s * N + (d * N + j - d * N) = s * N + j by omega]
theorem es_cp_s {a : Nat → Int32} {N d s i : Nat} (h : ¬ (d * N ≤ s * N + i ∧ s * N + i < d * N + i)) : upd (es_cp a N d s i) (d * N + i) (es_cp a N d s i (s * N + i)) = es_cp a N d s (i + 1) := by
  rw [es_cp_r h]
  funext j
  by_cases e : j = d * N + i
  · subst e
    rw [pk_us, es_cp_w (by omega)]
  · rw [pk_un e]
    unfold es_cp
    by_cases q : d * N ≤ j ∧ j < d * N + i
    · rw [if_pos q, if_pos ⟨q.1, by omega⟩]
    · rw [if_neg q, if_neg (by omega)]
theorem es_XR_cpy {h : es_H} (X : es_XR h gv lt ls sp sv) {d s : Nat} (hdd : d < 17) (hs : s < 17) :
    es_XR (es_cpy h d s) (es_cp gv 16 d s 16) (es_cp lt 16 d s 16) (es_cp ls 16 d s 16) (es_cp sp 4 d s 4) (es_cp sv 4 d s 4) := by
  refine ⟨fun v j hv hj => ?_, fun v j hv hj => ?_⟩
  · unfold es_G
    by_cases e : v = d
    · subst e
      obtain ⟨o1, o2, o3⟩ := es_cpy_d h v s (j / 4) (j % 4)
      rw [es_cp_w hj, es_cp_w hj, es_cp_w hj, o1, o2, o3]
      exact X.1 s j hs hj
    · obtain ⟨o1, o2, o3⟩ := es_cpy_o h d s v (j / 4) (j % 4) e
      rw [es_cp_r (by omega), es_cp_r (by omega), es_cp_r (by omega), o1, o2, o3]
      exact X.1 v j hv hj
  · unfold es_D
    by_cases e : v = d
    · subst e
      obtain ⟨o1, o2, o3⟩ := es_cpy_d h v s j 4
      rw [es_cp_w hj, es_cp_w hj, o1, o2]
      exact X.2 s j hs hj
    · obtain ⟨o1, o2, o3⟩ := es_cpy_o h d s v j 4 e
      rw [es_cp_r (by omega), es_cp_r (by omega), o1, o2]
      exact X.2 v j hv hj
theorem ex_copy_82 {d s : Nat} (hdd : d < 17) (hs : s < 17) (hds : ¬ s = d) (post : SX → Prop) (q : post (rp, sl, ql, hl, ct, gv, lt, ls, es_cp sp 4 d s 4, es_cp sv 4 d s 4, xa, xt, hd, ln, tn, mk, mf, mt, mi, mn)) :
    ∀ m i, i + m = 4 → wX_copyView_82 post (nI d) (nI s) rp sl ql hl ct (m + 1) (nI i) gv lt ls (es_cp sp 4 d s i) (es_cp sv 4 d s i) xa xt hd ln tn mk mf mt mi mn := by
  intro m
  induction m with
  | zero =>
    intro i e
    have e' : i = 4 := e
    subst e'
    exact br_t (nI_le (a := 4) (b := 4) (by omega) (by omega)) q
  | succ m ih =>
    intro i e
    refine br_f (nI_ge (b := 4) (by omega) (by omega)) ?_
    rw [es_cl68 hdd (by omega), es_cl68 hs (by omega), es_cp_s (by omega), es_cp_s (by omega)]
    exact ⟨es_vp68 hs (by omega), es_vp68 hdd (by omega), nm_e ⟨es_vp68 hs (by omega), es_vp68 hdd (by omega), nm_e (nm_r (nI_1 i) (ih (i + 1) (by omega)))⟩⟩
theorem ex_copy_2 {d s : Nat} (hdd : d < 17) (hs : s < 17) (hds : ¬ s = d) (post : SX → Prop)
    (q : post (rp, sl, ql, hl, ct, es_cp gv 16 d s 16, es_cp lt 16 d s 16, es_cp ls 16 d s 16, es_cp sp 4 d s 4, es_cp sv 4 d s 4, xa, xt, hd, ln, tn, mk, mf, mt, mi, mn)) :
    ∀ m i, i + m = 16 → wX_copyView_2 post (nI d) (nI s) rp sl ql hl ct (m + 1) (nI i) (es_cp gv 16 d s i) (es_cp lt 16 d s i) (es_cp ls 16 d s i) sp sv xa xt hd ln tn mk mf mt mi mn := by
  intro m
  induction m with
  | zero =>
    intro i e
    have e' : i = 16 := e
    subst e'
    refine br_t (nI_le (a := 16) (b := 16) (by omega) (by omega)) ⟨5, ?_⟩
    have z := ex_copy_82 hdd hs hds post q 4 0 (by omega)
    rw [es_cp_0, es_cp_0] at z
    exact z
  | succ m ih =>
    intro i e
    refine br_f (nI_ge (b := 16) (by omega) (by omega)) ?_
    rw [es_ix16, es_ix16, nI_clamp (by omega), nI_clamp (by omega), es_cp_s (by omega), es_cp_s (by omega), es_cp_s (by omega)]
    have v1 : vp_in (nI (d * 16 + i)) 272 := vp_in_nI (by omega) (by omega)
    have v2 : vp_in (nI (s * 16 + i)) 272 := vp_in_nI (by omega) (by omega)
    exact ⟨v2, v1, nm_e ⟨v2, v1, nm_e ⟨v2, v1, nm_e (nm_r (nI_1 i) (ih (i + 1) (by omega)))⟩⟩⟩
theorem ex_copyView {d s : Nat} (hdd : d < 17) (hs : s < 17) (hds : ¬ s = d) (post : SX → Prop)
    (q : post (rp, sl, ql, hl, ct, es_cp gv 16 d s 16, es_cp lt 16 d s 16, es_cp ls 16 d s 16, es_cp sp 4 d s 4, es_cp sv 4 d s 4, xa, xt, hd, ln, tn, mk, mf, mt, mi, mn)) : wpX_copyView post (rp, sl, ql, hl, ct, gv, lt, ls, sp, sv, xa, xt, hd, ln, tn, mk, mf, mt, mi, mn) (nI d) (nI s) := by
  unfold wpX_copyView
  dsimp only
  have z := ex_copy_2 hdd hs hds post q 16 0 (by omega)
  rw [es_cp_0, es_cp_0, es_cp_0] at z
  exact ⟨17, z⟩
/-! the lowest free slot -/
theorem es_free (mk : Nat → Int32) (n : Nat) : (∀ j, j < n → ¬ mk j = 0) ∨ ∃ f, f < n ∧ mk f = 0 ∧ ∀ j, j < f → ¬ mk j = 0 := by
  by_cases e : ∃ f, f < n ∧ mk f = 0
  · obtain ⟨f, ⟨h1, h2⟩, h3⟩ := pk_least (fun f => f < n ∧ mk f = 0) e
    exact Or.inr ⟨f, h1, h2, fun j hj hz => h3 j hj ⟨by omega, hz⟩⟩
  · exact Or.inl fun j hj hz => e ⟨j, hj, hz⟩
theorem ex_low {slt f : Nat} (hs : slt ≤ 12) (hf : f < slt) (h0 : mk f = 0) (hb : ∀ j, j < f → ¬ mk j = 0) (post : Int32 → Prop) (q : post (nI f)) :
    ∀ m i, i + m = f → wX_lowestFreeSlot_2 post rp (nI slt) ql hl ct gv lt ls sp sv xa xt hd ln tn mk mf mt mi mn (m + 1) (nI i) := by
  intro m
  induction m with
  | zero =>
    intro i e
    have e' : i = f := e
    subst e'
    refine br_f (nI_ge hf (by omega)) ⟨vp_in_nI (by omega) (by omega), ?_⟩
    rw [nI_clamp (by omega)]
    exact br_t h0 q
  | succ m ih =>
    intro i e
    refine br_f (nI_ge (by omega) (by omega)) ⟨vp_in_nI (by omega) (by omega), ?_⟩
    rw [nI_clamp (by omega)]
    exact br_f (hb i (by omega)) (nm_r (nI_1 i) (ih (i + 1) (by omega)))
theorem ex_low_none {slt : Nat} (hs : slt ≤ 12) (hb : ∀ j, j < slt → ¬ mk j = 0) (post : Int32 → Prop) (q : post (-6)) :
    ∀ m i, i + m = slt → wX_lowestFreeSlot_2 post rp (nI slt) ql hl ct gv lt ls sp sv xa xt hd ln tn mk mf mt mi mn (m + 1) (nI i) := by
  intro m
  induction m with
  | zero =>
    intro i e
    have e' : i = slt := e
    subst e'
    exact br_t (nI_le (by omega) (by omega)) q
  | succ m ih =>
    intro i e
    refine br_f (nI_ge (by omega) (by omega)) ⟨vp_in_nI (by omega) (by omega), ?_⟩
    rw [nI_clamp (by omega)]
    exact br_f (hb i (by omega)) (nm_r (nI_1 i) (ih (i + 1) (by omega)))
theorem ex_post {slt f s : Nat} (hs : slt ≤ 12) (hf : f < slt) (h0 : mk f = 0) (hb : ∀ j, j < f → ¬ mk j = 0) (hss : s < 16) (hsd : ¬ s = 4 + f) (k a b t n : Int32) (post : Int32 → SX → Prop)
    (q : post (nI f) (rp, nI slt, ql, hl, ct, es_cp gv 16 (4 + f) s 16, es_cp lt 16 (4 + f) s 16, es_cp ls 16 (4 + f) s 16, es_cp sp 4 (4 + f) s 4, es_cp sv 4 (4 + f) s 4, xa, xt, hd, ln, tn, upd mk f k, upd mf f a, upd mt f b, upd mi f t, upd mn f n)) :
    wpX_post post (rp, nI slt, ql, hl, ct, gv, lt, ls, sp, sv, xa, xt, hd, ln, tn, mk, mf, mt, mi, mn) (nI s) k a b t n := by
  unfold wpX_post wpX_lowestFreeSlot
  dsimp only
  refine ⟨f + 1, ex_low hs hf h0 hb _ ?_ f 0 (by omega)⟩
  have v : vp_in (nI f) 12 := vp_in_nI (by omega) (by omega)
  rw [nI_clamp (by omega), es_4p]
  exact br_t (nI_pos' (by omega)) ⟨v, nm_e ⟨v, nm_e ⟨v, nm_e ⟨v, nm_e ⟨v, nm_e (ex_copyView (by omega) (by omega) hsd _ q)⟩⟩⟩⟩⟩
theorem ex_post_none {slt : Nat} (hs : slt ≤ 12) (hb : ∀ j, j < slt → ¬ mk j = 0) (s k a b t n : Int32) (post : Int32 → SX → Prop)
    (q : post (-6) (rp, nI slt, ql, hl, ct, gv, lt, ls, sp, sv, xa, xt, hd, ln, tn, mk, mf, mt, mi, mn)) : wpX_post post (rp, nI slt, ql, hl, ct, gv, lt, ls, sp, sv, xa, xt, hd, ln, tn, mk, mf, mt, mi, mn) s k a b t n := by
  unfold wpX_post wpX_lowestFreeSlot
  dsimp only
  refine ⟨slt + 1, ex_low_none hs hb _ ?_ slt 0 (by omega)⟩
  exact br_f (by decide) q
end
end
section
/-! the reference's arrays hold the history -/
def es_kd (o t : Nat) : Int32 := if t = 4 then 2 else if t = o then 1 else 3
def es_tI (o t : Nat) : Int32 := if t = 4 ∨ t = o then -1 else nI t
theorem es_kd1 (o t : Nat) : es_kd o t = 1 ↔ (¬ t = 4 ∧ t = o) := by
  unfold es_kd
  by_cases a : t = 4
  · rw [if_pos a]; exact ⟨fun z => absurd z (by decide), fun z => absurd a z.1⟩
  · rw [if_neg a]
    by_cases b : t = o
    · rw [if_pos b]; exact ⟨fun _ => ⟨a, b⟩, fun _ => rfl⟩
    · rw [if_neg b]; exact ⟨fun z => absurd z (by decide), fun z => absurd z.2 b⟩
theorem es_kd2 (o t : Nat) : es_kd o t = 2 ↔ t = 4 := by
  unfold es_kd
  by_cases a : t = 4
  · rw [if_pos a]; exact ⟨fun _ => a, fun _ => rfl⟩
  · rw [if_neg a]
    by_cases b : t = o
    · rw [if_pos b]; exact ⟨fun z => absurd z (by decide), fun z => absurd z a⟩
    · rw [if_neg b]; exact ⟨fun z => absurd z (by decide), fun z => absurd z a⟩
theorem es_kd3 (o t : Nat) : es_kd o t = 3 ↔ (¬ t = 4 ∧ ¬ t = o) := by
  unfold es_kd
  by_cases a : t = 4
  · rw [if_pos a]; exact ⟨fun z => absurd z (by decide), fun z => absurd a z.1⟩
  · rw [if_neg a]
    by_cases b : t = o
    · rw [if_pos b]; exact ⟨fun z => absurd z (by decide), fun z => absurd b z.2⟩
    · rw [if_neg b]; exact ⟨fun _ => ⟨a, b⟩, fun _ => rfl⟩
theorem es_tI_eq {o t b : Nat} (ht : t < 2147483648) (hb : b < 2147483648) : es_tI o t = nI b ↔ (¬ (t = 4 ∨ t = o) ∧ t = b) := by
  unfold es_tI
  by_cases a : t = 4 ∨ t = o
  · rw [if_pos a]; exact ⟨fun z => absurd z (es_m1 hb), fun z => absurd a z.1⟩
  · rw [if_neg a, nI_eq (by omega) (by omega)]; exact ⟨fun z => ⟨a, z⟩, fun z => z.2⟩
def es_YR (h : es_H) (yk yo yg ya yt kn : Nat → Int32) : Prop :=
  (∀ i, i < es_c h → yk i = es_kd (es_og h i) (es_tg h i) ∧ yo i = nI (es_og h i) ∧ yg i = es_tI (es_og h i) (es_tg h i) ∧ ya i = nI (es_am h i) ∧ yt i = nI (es_tk h i)) ∧
  (∀ v i, v < 16 → i < 128 → kn (v * 128 + i) = es_b (es_K h v i))
section
variable {rp sl ql hl ct : Int32} {yk yo yg ya yt kn ln tn wa wt mk mf mt mi mn : Nat → Int32}
theorem ey_holds0 {v i : Nat} {q : Bool} (hv : v < 17) (hi : i < 128) (h1 : ¬ v = 16 → kn (v * 128 + i) = es_b q) (h2 : v = 16 → q = true) (post : Int32 → Prop) (hp : post (es_b q)) :
    wpY_holds post (rp, sl, ql, hl, ct, yk, yo, yg, ya, yt, kn, ln, tn, wa, wt, mk, mf, mt, mi, mn) (nI v) (nI i) := by
  unfold wpY_holds
  dsimp only
  by_cases e : v = 16
  · rw [h2 e] at hp
    exact br_t (congrArg nI e) hp
  · refine br_f (fun z => e ((nI_eq (b := 16) (by omega) (by omega)).mp z)) ?_
    rw [es_ix128, nI_clamp (by omega), h1 e]
    refine ⟨vp_in_nI (by omega) (by omega), ?_⟩
    cases q
    · exact br_t rfl hp
    · exact br_f (by decide) hp
theorem ey_holds {h : es_H} {v i : Nat} (Y : es_YR h yk yo yg ya yt kn) (W2 : es_W2 h) (hv : v < 17) (hi : i < 128) (post : Int32 → Prop) (hp : post (es_b (es_K h v i))) :
    wpY_holds post (rp, sl, ql, hl, ct, yk, yo, yg, ya, yt, kn, ln, tn, wa, wt, mk, mf, mt, mi, mn) (nI v) (nI i) :=
  ey_holds0 hv hi (fun e => Y.2 v i (by omega) hi) (fun e => e ▸ W2.1 i) post hp
theorem ey_fits {h : es_H} {v i : Nat} (Y : es_YR h yk yo yg ya yt kn) (W2 : es_W2 h) (hv : v < 17) (hi : i < 128) (kd o t : Int32) (q : Bool)
    (hq : q = true ↔ es_K h v i = true ∧ yk i = kd ∧ (o = -1 ∨ yo i = o) ∧ (t = -1 ∨ yg i = t)) (post : Int32 → Prop) (hp : post (es_b q)) :
    wpY_fits post (rp, sl, ql, hl, ct, yk, yo, yg, ya, yt, kn, ln, tn, wa, wt, mk, mf, mt, mi, mn) (nI i) (nI v) kd o t := by
  have vi : vp_in (nI i) 128 := vp_in_nI hi (by omega)
  have c : (nI i).toNatClampNeg = i := nI_clamp (by omega)
  have qt : (es_K h v i = true ∧ yk i = kd ∧ (o = -1 ∨ yo i = o) ∧ (t = -1 ∨ yg i = t)) → post 1 := by
    intro z
    rw [hq.mpr z] at hp
    exact hp
  have qf : ¬ (es_K h v i = true ∧ yk i = kd ∧ (o = -1 ∨ yo i = o) ∧ (t = -1 ∨ yg i = t)) → post 0 := by
    intro z
    have e : q = false := by
      cases y : q
      · rfl
      · exact absurd (hq.mp y) z
    rw [e] at hp
    exact hp
  have K36 : es_K h v i = true → yk i = kd → (o = -1 ∨ yo i = o) → wY_fits_36 post (nI i) t rp sl ql hl ct yk yo yg ya yt kn ln tn wa wt mk mf mt mi mn := by
    intro z1 z2 z3
    unfold wY_fits_36
    rw [c]
    by_cases y : t = -1
    · exact br_t y (qt ⟨z1, z2, z3, Or.inl y⟩)
    · refine br_f y ⟨vi, ?_⟩
      by_cases x : yg i = t
      · exact br_t x (qt ⟨z1, z2, z3, Or.inr x⟩)
      · exact br_f x (qf fun w => w.2.2.2.elim y x)
  unfold wpY_fits
  dsimp only
  refine ey_holds Y W2 hv hi _ ?_
  rw [c]
  cases z1 : es_K h v i
  · exact br_t rfl (qf fun w => absurd (z1.symm.trans w.1) (by decide))
  · refine br_f (by decide) ⟨vi, ?_⟩
    by_cases z2 : yk i = kd
    · refine br_t z2 ?_
      by_cases z3 : o = -1
      · exact br_t z3 (K36 z1 z2 (Or.inl z3))
      · refine br_f z3 ⟨vi, ?_⟩
        by_cases z4 : yo i = o
        · exact br_t z4 (K36 z1 z2 (Or.inr z4))
        · exact br_f z4 (qf fun w => w.2.2.1.elim z3 z4)
    · exact br_f z2 (qf fun w => z2 w.2.1)
def es_Q (h : es_H) (v : Nat) (yk yo yg : Nat → Int32) (kd o t : Int32) (Q : Nat → Bool) : Prop :=
  ∀ i, i < es_c h → (Q i = true ↔ es_K h v i = true ∧ yk i = kd ∧ (o = -1 ∨ yo i = o) ∧ (t = -1 ∨ yg i = t))
theorem ey_sum_6 {h : es_H} {rep v : Nat} (Y : es_YR h yk yo yg ya yt kn) (H : es_WF rep h) (hv : v < 17) {kd o t : Int32} {Q : Nat → Bool} (hQ : es_Q h v yk yo yg kd o t Q)
    (post : Int32 → Prop) (hp : post (nI (es_sm Q (es_am h) (es_c h)))) :
    ∀ d i, i + d = es_c h → wY_sum_6 post (nI v) kd o t rp sl ql hl (nI (es_c h)) yk yo yg ya yt kn ln tn wa wt mk mf mt mi mn (d + 1) (nI (es_sm Q (es_am h) i)) (nI i) := by
  have hc := H.2.1
  intro d
  induction d with
  | zero =>
    intro i e
    have e' : i = es_c h := e
    subst e'
    exact br_t (nI_le (Nat.le_refl _) (by omega)) hp
  | succ d ih =>
    intro i e
    refine br_f (nI_ge (by omega) (by omega)) (ey_fits Y H.2.2.2.1 hv (by omega) kd o t (Q i) (hQ i (by omega)) _ ?_)
    have z := ih (i + 1) (by omega)
    simp only [es_sm] at z
    cases y : Q i
    · rw [y] at z
      exact br_t rfl (nm_r (nI_1 i) z)
    · rw [y, if_pos rfl] at z
      refine br_f (by decide) ⟨vp_in_nI (by omega) (by omega), nm_r ?_ (nm_r (nI_1 i) z)⟩
      rw [nI_clamp (by omega), (Y.1 i (by omega)).2.2.2.1, nI_add]
theorem ey_sum {h : es_H} {rep v : Nat} (Y : es_YR h yk yo yg ya yt kn) (H : es_WF rep h) (hv : v < 17) {kd o t : Int32} {Q : Nat → Bool} (hQ : es_Q h v yk yo yg kd o t Q)
    (post : Int32 → Prop) (hp : post (nI (es_sm Q (es_am h) (es_c h)))) : wpY_sum post (rp, sl, ql, hl, nI (es_c h), yk, yo, yg, ya, yt, kn, ln, tn, wa, wt, mk, mf, mt, mi, mn) (nI v) kd o t := by
  unfold wpY_sum
  exact ⟨_, ey_sum_6 Y H hv hQ post hp (es_c h) 0 (by omega)⟩
theorem ey_gt_6 {h : es_H} {rep v : Nat} (Y : es_YR h yk yo yg ya yt kn) (H : es_WF rep h) (hv : v < 17) {kd o t : Int32} {Q : Nat → Bool} (hQ : es_Q h v yk yo yg kd o t Q)
    (post : Int32 → Prop) (hp : post (nI (es_mx Q (es_tk h) (es_c h)))) :
    ∀ d i, i + d = es_c h → wY_greatestTicket_6 post (nI v) kd o t rp sl ql hl (nI (es_c h)) yk yo yg ya yt kn ln tn wa wt mk mf mt mi mn (d + 1) (nI (es_mx Q (es_tk h) i)) (nI i) := by
  have hc := H.2.1
  intro d
  induction d with
  | zero =>
    intro i e
    have e' : i = es_c h := e
    subst e'
    exact br_t (nI_le (Nat.le_refl _) (by omega)) hp
  | succ d ih =>
    intro i e
    refine br_f (nI_ge (by omega) (by omega)) (ey_fits Y H.2.2.2.1 hv (by omega) kd o t (Q i) (hQ i (by omega)) _ ?_)
    have z := ih (i + 1) (by omega)
    simp only [es_mx] at z
    have m1 : es_mx Q (es_tk h) i < 2147483648 := es_mx_lt (fun j hj => (H.2.2.1 j (by omega)).2.2.2.2.2.1) (by omega)
    have m2 : es_tk h i < 2147483648 := (H.2.2.1 i (by omega)).2.2.2.2.2.1
    have vi : vp_in (nI i) 128 := vp_in_nI (by omega) (by omega)
    cases y : Q i
    · rw [if_neg (fun w => absurd (y.symm.trans w.1) (by decide))] at z
      exact br_t rfl (nm_r (nI_1 i) z)
    · rw [nI_clamp (by omega), (Y.1 i (by omega)).2.2.2.2]
      refine br_f (by decide) ⟨vi, ?_⟩
      by_cases x : es_mx Q (es_tk h) i < es_tk h i
      · rw [if_pos ⟨y, x⟩] at z
        exact br_f (nI_ge x (by omega)) ⟨vi, nm_e (nm_r (nI_1 i) z)⟩
      · rw [if_neg (fun w => x w.2)] at z
        exact br_t (nI_le (by omega) (by omega)) (nm_r (nI_1 i) z)
theorem ey_gt {h : es_H} {rep v : Nat} (Y : es_YR h yk yo yg ya yt kn) (H : es_WF rep h) (hv : v < 17) {kd o t : Int32} {Q : Nat → Bool} (hQ : es_Q h v yk yo yg kd o t Q)
    (post : Int32 → Prop) (hp : post (nI (es_mx Q (es_tk h) (es_c h)))) : wpY_greatestTicket post (rp, sl, ql, hl, nI (es_c h), yk, yo, yg, ya, yt, kn, ln, tn, wa, wt, mk, mf, mt, mi, mn) (nI v) kd o t := by
  unfold wpY_greatestTicket
  exact ⟨_, ey_gt_6 Y H hv hQ post hp (es_c h) 0 (by omega)⟩
theorem ey_ls_16 {h : es_H} {rep v a b : Nat} (Y : es_YR h yk yo yg ya yt kn) (H : es_WF rep h) (hv : v < 17) {Q : Nat → Bool} (hQ : es_Q h v yk yo yg 3 (nI a) (nI b) Q) (t : Nat) (ht : t < 2147483648)
    (post : Int32 → Prop) (hp : post (nI (if t = 0 then 0 else es_sm (fun i => Q i && (es_tk h i == t)) (es_am h) (es_c h)))) :
    ∀ d i, i + d = es_c h → wY_loanSum_16 post (nI v) (nI a) (nI b) (nI t) rp sl ql hl (nI (es_c h)) yk yo yg ya yt kn ln tn wa wt mk mf mt mi mn (d + 1) (nI (if t = 0 then 0 else es_sm (fun i => Q i && (es_tk h i == t)) (es_am h) i)) (nI i) := by
  have hc := H.2.1
  intro d
  induction d with
  | zero =>
    intro i e
    have e' : i = es_c h := e
    subst e'
    exact br_t (nI_le (Nat.le_refl _) (by omega)) hp
  | succ d ih =>
    intro i e
    refine br_f (nI_ge (by omega) (by omega)) ?_
    have z := ih (i + 1) (by omega)
    simp only [es_sm] at z
    by_cases t0 : t = 0
    · rw [if_pos t0] at z ⊢
      exact br_t (congrArg nI t0) (nm_r (nI_1 i) z)
    · rw [if_neg t0] at z ⊢
      refine br_f (nI_ne0 (by omega) (by omega)) (ey_fits Y H.2.2.2.1 hv (by omega) 3 (nI a) (nI b) (Q i) (hQ i (by omega)) _ ?_)
      have m2 : es_tk h i < 2147483648 := (H.2.2.1 i (by omega)).2.2.2.2.2.1
      have vi : vp_in (nI i) 128 := vp_in_nI (by omega) (by omega)
      cases y : Q i
      · rw [if_neg (by simp [y])] at z
        exact br_t rfl (nm_r (nI_1 i) z)
      · rw [nI_clamp (by omega), (Y.1 i (by omega)).2.2.2.2, (Y.1 i (by omega)).2.2.2.1]
        refine br_f (by decide) ⟨vi, ?_⟩
        by_cases x : es_tk h i = t
        · rw [if_pos (by simp [x, y])] at z
          refine br_t (congrArg nI x) ⟨vi, nm_r (nI_add _ _) (nm_r (nI_1 i) z)⟩
        · rw [if_neg (by simp [x])] at z
          exact br_f (fun w => x ((nI_eq (by omega) (by omega)).mp w)) (nm_r (nI_1 i) z)
/-! which updates each question of the reference meets -/
theorem es_q_c {h : es_H} {rep : Nat} (Y : es_YR h yk yo yg ya yt kn) (H : es_WF rep h) {i : Nat} (hi : i < es_c h) :
    (yk i = 1 ↔ (¬ es_tg h i = 4 ∧ es_tg h i = es_og h i)) ∧ (yk i = 2 ↔ es_tg h i = 4) ∧ (yk i = 3 ↔ (¬ es_tg h i = 4 ∧ ¬ es_tg h i = es_og h i)) ∧
    (∀ s, s < 4 → ((nI s = -1 ∨ yo i = nI s) ↔ es_og h i = s)) ∧ (∀ s, s < 4 → ((nI s = -1 ∨ yg i = nI s) ↔ (¬ (es_tg h i = 4 ∨ es_tg h i = es_og h i) ∧ es_tg h i = s))) ∧ es_og h i < 4 ∧ (es_tg h i < 4 ∨ es_tg h i = 4) := by
  obtain ⟨y1, y2, y3, _, _⟩ := Y.1 i hi
  obtain ⟨w1, w2, _⟩ := H.2.2.1 i hi
  have h4 := H.1
  rw [y1, y2, y3]
  refine ⟨es_kd1 _ _, es_kd2 _ _, es_kd3 _ _, fun s hs => ?_, fun s hs => ?_, by omega, by omega⟩
  · rw [nI_eq (by omega) (by omega)]
    exact ⟨fun z => z.resolve_left (es_m1' (by omega)), Or.inr⟩
  · rw [es_tI_eq (by omega) (by omega)]
    exact ⟨fun z => z.resolve_left (es_m1' (by omega)), Or.inr⟩
theorem es_q_m1 {p : Prop} : ((-1 : Int32) = -1 ∨ p) ↔ True := ⟨fun _ => trivial, fun _ => Or.inl rfl⟩
theorem es_q_inc {h : es_H} {rep : Nat} (Y : es_YR h yk yo yg ya yt kn) (H : es_WF rep h) (v : Nat) {s : Nat} (hs : s < 4) : es_Q h v yk yo yg 1 (nI s) (-1) (es_P h v s s) := by
  intro i hi
  obtain ⟨k1, k2, k3, o, t, a, b⟩ := es_q_c Y H hi
  rw [es_P_iff, k1, o s hs, es_q_m1]
  refine and_congr Iff.rfl ?_
  rw [and_true]
  omega
theorem es_q_dec {h : es_H} {rep : Nat} (Y : es_YR h yk yo yg ya yt kn) (H : es_WF rep h) (v : Nat) {s : Nat} (hs : s < 4) : es_Q h v yk yo yg 2 (nI s) (-1) (es_P h v s 4) := by
  intro i hi
  obtain ⟨k1, k2, k3, o, t, a, b⟩ := es_q_c Y H hi
  rw [es_P_iff, k2, o s hs, es_q_m1]
  refine and_congr Iff.rfl ?_
  rw [and_true]
  omega
theorem es_q_mv {h : es_H} {rep : Nat} (Y : es_YR h yk yo yg ya yt kn) (H : es_WF rep h) (v : Nat) {s b : Nat} (hs : s < 4) (hb : b < 4) (hsb : ¬ s = b) : es_Q h v yk yo yg 3 (nI s) (nI b) (es_P h v s b) := by
  intro i hi
  obtain ⟨k1, k2, k3, o, t, a, b'⟩ := es_q_c Y H hi
  rw [es_P_iff, k3, o s hs, t b hb]
  refine and_congr Iff.rfl ?_
  omega
theorem es_q_in {h : es_H} {rep : Nat} (Y : es_YR h yk yo yg ya yt kn) (H : es_WF rep h) (v : Nat) {s : Nat} (hs : s < 4) : es_Q h v yk yo yg 3 (-1) (nI s) (fun i => es_K h v i && (es_tg h i == s) && !(es_og h i == s)) := by
  intro i hi
  obtain ⟨k1, k2, k3, o, t, a, b⟩ := es_q_c Y H hi
  rw [k3, t s hs, es_q_m1]
  simp only [Bool.and_eq_true, beq_iff_eq, Bool.not_eq_true', beq_eq_false_iff_ne, ne_eq, and_assoc]
  refine and_congr Iff.rfl ?_
  rw [true_and]
  omega
theorem es_q_out {h : es_H} {rep : Nat} (Y : es_YR h yk yo yg ya yt kn) (H : es_WF rep h) (v : Nat) {s : Nat} (hs : s < 4) : es_Q h v yk yo yg 3 (nI s) (-1) (fun i => es_K h v i && (es_og h i == s) && !(es_tg h i == s) && !(es_tg h i == 4)) := by
  intro i hi
  obtain ⟨k1, k2, k3, o, t, a, b⟩ := es_q_c Y H hi
  rw [k3, o s hs, es_q_m1]
  simp only [Bool.and_eq_true, beq_iff_eq, Bool.not_eq_true', beq_eq_false_iff_ne, ne_eq, and_assoc]
  refine and_congr Iff.rfl ?_
  rw [and_true]
  omega
theorem es_q_incs {h : es_H} {rep : Nat} (Y : es_YR h yk yo yg ya yt kn) (H : es_WF rep h) (v : Nat) : es_Q h v yk yo yg 1 (-1) (-1) (fun i => es_K h v i && (es_tg h i == es_og h i)) := by
  intro i hi
  obtain ⟨k1, k2, k3, o, t, a, b⟩ := es_q_c Y H hi
  rw [k1, es_q_m1, es_q_m1]
  simp only [Bool.and_eq_true, beq_iff_eq]
  refine and_congr Iff.rfl ?_
  rw [and_true, and_true]
  omega
theorem es_q_decs {h : es_H} {rep : Nat} (Y : es_YR h yk yo yg ya yt kn) (H : es_WF rep h) (v : Nat) : es_Q h v yk yo yg 2 (-1) (-1) (fun i => es_K h v i && (es_tg h i == 4)) := by
  intro i hi
  obtain ⟨k1, k2, k3, o, t, a, b⟩ := es_q_c Y H hi
  rw [k2, es_q_m1, es_q_m1]
  simp only [Bool.and_eq_true, beq_iff_eq]
  refine and_congr Iff.rfl ?_
  rw [and_true, and_true]
theorem es_i_rt (a b c d : Nat) : nI a + nI b - nI c - nI d = es_i ((a : Int) - d + b - c) := by
  rw [← es_i_nat, ← es_i_nat, ← es_i_nat, ← es_i_nat, es_i_add, es_i_sub, es_i_sub]
  exact congrArg es_i (by omega)
theorem ey_rights {h : es_H} {rep v s : Nat} (Y : es_YR h yk yo yg ya yt kn) (H : es_WF rep h) (hv : v < 17) (hs : s < rep)
    (post : Int32 → Prop) (hp : post (es_i (es_R h rep v s))) : wpY_rights post (rp, sl, ql, hl, nI (es_c h), yk, yo, yg, ya, yt, kn, ln, tn, wa, wt, mk, mf, mt, mi, mn) (nI v) (nI s) := by
  have h4 := H.1
  unfold wpY_rights
  dsimp only
  refine ey_sum Y H hv (es_q_inc Y H v (by omega)) _ ?_
  refine ey_sum Y H hv (es_q_in Y H v (by omega)) _ ?_
  refine ey_sum Y H hv (es_q_out Y H v (by omega)) _ ?_
  refine ey_sum Y H hv (es_q_dec Y H v (by omega)) _ ?_
  rw [es_i_rt, ← es_in_sm H.2.2.1, ← es_out_sm h4 H.2.2.1]
  exact hp
theorem ey_loanSum {h : es_H} {rep v a b : Nat} (Y : es_YR h yk yo yg ya yt kn) (H : es_WF rep h) (hv : v < 17) (ha : a < 4) (hb : b < 4) (hab : ¬ a = b)
    (post : Int32 → Prop) (hp : post (nI (es_L h v a b))) : wpY_loanSum post (rp, sl, ql, hl, nI (es_c h), yk, yo, yg, ya, yt, kn, ln, tn, wa, wt, mk, mf, mt, mi, mn) (nI v) (nI a) (nI b) := by
  unfold wpY_loanSum
  dsimp only
  refine ey_gt Y H hv (es_q_mv Y H v ha hb hab) _ ?_
  refine ⟨es_c h + 1, ?_⟩
  have z := ey_ls_16 (rp := rp) (sl := sl) (ql := ql) (hl := hl) (ln := ln) (tn := tn) (wa := wa) (wt := wt) (mk := mk) (mf := mf) (mt := mt) (mi := mi) (mn := mn) Y H hv (es_q_mv Y H v ha hb hab) (es_T h v a b) (es_T_lt H.2.2.1 v a b) post hp (es_c h) 0 (by omega)
  have e : (if es_T h v a b = 0 then 0 else es_sm (fun i => es_P h v a b i && (es_tk h i == es_T h v a b)) (es_am h) 0) = 0 := by
    by_cases q : es_T h v a b = 0
    · rw [if_pos q]
    · rw [if_neg q]; rfl
  rw [e] at z
  exact z
theorem ey_lent {h : es_H} {rep v a b t : Nat} (Y : es_YR h yk yo yg ya yt kn) (H : es_WF rep h) (hv : v < 17) (ha : a < 4) (hb : b < 4) (hab : ¬ a = b) (ht : t < 2147483648)
    (post : Int32 → Prop) (hp : post (nI (if es_T h v a b = t then es_L h v a b else 0))) : wpY_lent post (rp, sl, ql, hl, nI (es_c h), yk, yo, yg, ya, yt, kn, ln, tn, wa, wt, mk, mf, mt, mi, mn) (nI v) (nI a) (nI b) (nI t) := by
  have T := es_T_lt H.2.2.1 v a b
  unfold wpY_lent
  dsimp only
  refine ey_gt Y H hv (es_q_mv Y H v ha hb hab) _ ?_
  show (nI (es_T h v a b) = nI t → _) ∧ (¬ nI (es_T h v a b) = nI t → _)
  by_cases e : es_T h v a b = t
  · rw [if_pos e] at hp
    exact br_t (congrArg nI e) (ey_loanSum Y H hv ha hb hab _ hp)
  · rw [if_neg e] at hp
    exact br_f (fun w => e ((nI_eq (by omega) (by omega)).mp w)) hp
end
end
section
section
variable {rp sl ql hl ct : Int32} {yk yo yg ya yt kn ln tn wa wt mk mf mt mi mn : Nat → Int32}
/-! one more update -/
theorem es_YR_add {h : es_H} (Y : es_YR h yk yo yg ya yt kn) (W2 : es_W2 h) (hc : es_c h < 128) {o b w t : Nat} (ho : o < 16) :
    es_YR (es_add h o b w t) (upd yk (es_c h) (es_kd o b)) (upd yo (es_c h) (nI o)) (upd yg (es_c h) (es_tI o b)) (upd ya (es_c h) (nI w)) (upd yt (es_c h) (nI t)) (upd kn (o * 128 + es_c h) 1) := by
  refine ⟨fun i hi => ?_, fun v i hv hi => ?_⟩
  · rw [es_add_c] at hi
    by_cases e : i = es_c h
    · subst e
      rw [es_add_ogc, es_add_tgc, es_add_amc, es_add_tkc]
      exact ⟨pk_us, pk_us, pk_us, pk_us, pk_us⟩
    · have q : i < es_c h := by omega
      rw [es_add_og q, es_add_tg q, es_add_am q, es_add_tk q, pk_un e, pk_un e, pk_un e, pk_un e, pk_un e]
      exact Y.1 i q
  · by_cases e : i = es_c h
    · subst e
      rw [es_add_Kc]
      by_cases q : v = o
      · subst q
        rw [pk_us, es_bt rfl]
        rfl
      · rw [pk_un (by omega), Y.2 v _ hv hi, es_bf q, es_bf (a := v) (b := 16) (by omega), W2.2.2 v _ hv (Nat.le_refl _)]
        rfl
    · rw [pk_un (by omega), es_add_K e]
      exact Y.2 v i hv hi
theorem ey_add {h : es_H} (hc : es_c h < 128) {o w t : Nat} (ho : o < 4) (kd tg : Int32) (post : SY → Prop)
    (q : post (rp, sl, ql, hl, nI (es_c h + 1), upd yk (es_c h) kd, upd yo (es_c h) (nI o), upd yg (es_c h) tg, upd ya (es_c h) (nI w), upd yt (es_c h) (nI t), upd kn (o * 128 + es_c h) 1, ln, tn, wa, wt, mk, mf, mt, mi, mn)) :
    wpY_addUpdate post (rp, sl, ql, hl, nI (es_c h), yk, yo, yg, ya, yt, kn, ln, tn, wa, wt, mk, mf, mt, mi, mn) kd (nI o) tg (nI w) (nI t) := by
  have v : vp_in (nI (es_c h)) 128 := vp_in_nI hc (by omega)
  unfold wpY_addUpdate
  dsimp only
  rw [es_ix128, nI_clamp (by omega), nI_clamp (by omega)]
  exact ⟨v, nm_e ⟨v, nm_e ⟨v, nm_e ⟨v, nm_e ⟨v, nm_e ⟨vp_in_nI (by omega) (by omega), nm_r (e' := upd kn (o * 128 + es_c h) 1) rfl (nm_r (nI_1 _) q)⟩⟩⟩⟩⟩⟩
/-! the shifted queue -/
def es_sh (a : Nat → Int32) (r i : Nat) : Nat → Int32 := fun j => if r * 8 ≤ j ∧ j < r * 8 + i then a (j + 1) else a j
theorem es_sh_0 (a : Nat → Int32) (r : Nat) : es_sh a r 0 = a := by
  funext j
  exact if_neg (by omega)
theorem es_sh_s (a : Nat → Int32) (r i : Nat) : upd (es_sh a r i) (r * 8 + i) (es_sh a r i (r * 8 + i + 1)) = es_sh a r (i + 1) := by
  have e : es_sh a r i (r * 8 + i + 1) = a (r * 8 + i + 1) := if_neg (by omega)
  rw [e]
  funext j
  by_cases q : j = r * 8 + i
  · subst q
    rw [pk_us]
    exact (if_pos ⟨by omega, by omega⟩).symm
  · rw [pk_un q]
    unfold es_sh
    by_cases z : r * 8 ≤ j ∧ j < r * 8 + i
    · rw [if_pos z, if_pos ⟨z.1, by omega⟩]
    · rw [if_neg z, if_neg (by omega)]
theorem ey_rm_2 {r : Nat} (hr : r < 4) (post : SY → Prop) (q : post (rp, sl, ql, hl, ct, yk, yo, yg, ya, yt, kn, upd ln r (ln r - 1), tn, es_sh wa r 7, es_sh wt r 7, mk, mf, mt, mi, mn)) :
    ∀ m i, i + m = 7 → wY_removeFirst_2 post (nI r) rp sl ql hl ct (m + 1) (nI i) yk yo yg ya yt kn ln tn (es_sh wa r i) (es_sh wt r i) mk mf mt mi mn := by
  intro m
  induction m with
  | zero =>
    intro i e
    have e' : i = 7 := e
    subst e'
    refine br_t (nI_le (a := 7) (b := 7) (by omega) (by omega)) ?_
    rw [nI_clamp (by omega)]
    exact ⟨vp_in_nI hr (by omega), vp_in_nI hr (by omega), nm_e q⟩
  | succ m ih =>
    intro i e
    refine br_f (nI_ge (b := 7) (by omega) (by omega)) ?_
    rw [es_ix8, nI_1 (r * 8 + i), nI_clamp (by omega), nI_clamp (by omega), es_sh_s, es_sh_s]
    have v1 : vp_in (nI (r * 8 + i)) 32 := vp_in_nI (by omega) (by omega)
    have v2 : vp_in (nI (r * 8 + i + 1)) 32 := vp_in_nI (by omega) (by omega)
    exact ⟨v2, v1, nm_e ⟨v2, v1, nm_e (nm_r (nI_1 i) (ih (i + 1) (by omega)))⟩⟩
theorem ey_rm {r : Nat} (hr : r < 4) (post : SY → Prop) (q : post (rp, sl, ql, hl, ct, yk, yo, yg, ya, yt, kn, upd ln r (ln r - 1), tn, es_sh wa r 7, es_sh wt r 7, mk, mf, mt, mi, mn)) : wpY_removeFirst post (rp, sl, ql, hl, ct, yk, yo, yg, ya, yt, kn, ln, tn, wa, wt, mk, mf, mt, mi, mn) (nI r) := by
  unfold wpY_removeFirst
  dsimp only
  have z := ey_rm_2 hr post q 7 0 (by omega)
  rw [es_sh_0, es_sh_0] at z
  exact ⟨8, z⟩
/-! putting a message -/
theorem es_nar (q : Bool) : vp_nar .boolean (es_b q) = es_b q := by cases q <;> rfl
theorem es_YR_cpy {h : es_H} (Y : es_YR h yk yo yg ya yt kn) {d s : Nat} (hs : s < 16) : es_YR (es_cpy h d s) yk yo yg ya yt (es_cp kn 128 d s 128) := by
  refine ⟨Y.1, fun v i hv hi => ?_⟩
  have k : es_K (es_cpy h d s) v i = if v = d then es_K h s i else es_K h v i := rfl
  rw [k]
  by_cases e : v = d
  · subst e
    rw [if_pos rfl, es_cp_w hi]
    exact Y.2 s i hs hi
  · rw [if_neg e, es_cp_r (by omega)]
    exact Y.2 v i hv hi
theorem ey_put_67 {h : es_H} (Y : es_YR h yk yo yg ya yt kn) {f s : Nat} (hf : f < 12) (hs : s < 16) (hsd : ¬ s = 4 + f) (post : Int32 → SY → Prop) (q : post (nI f) (rp, sl, ql, hl, ct, yk, yo, yg, ya, yt, es_cp kn 128 (4 + f) s 128, ln, tn, wa, wt, mk, mf, mt, mi, mn)) :
    ∀ m i, i + m = 128 → wY_put_67 post (nI s) (nI f) rp sl ql hl ct (m + 1) (nI i) yk yo yg ya yt (es_cp kn 128 (4 + f) s i) ln tn wa wt mk mf mt mi mn := by
  intro m
  induction m with
  | zero =>
    intro i e
    have e' : i = 128 := e
    subst e'
    exact br_t (nI_le (a := 128) (b := 128) (by omega) (by omega)) q
  | succ m ih =>
    intro i e
    refine br_f (nI_ge (b := 128) (by omega) (by omega)) ?_
    have k : vp_nar .boolean (es_cp kn 128 (4 + f) s i (s * 128 + i)) = es_cp kn 128 (4 + f) s i (s * 128 + i) := by
      rw [es_cp_r (by omega), Y.2 s i hs (by omega), es_nar]
    rw [es_4p, es_ix128, es_ix128, nI_clamp (by omega), nI_clamp (by omega), k, es_cp_s (by omega)]
    exact ⟨vp_in_nI (by omega) (by omega), vp_in_nI (by omega) (by omega), nm_e (nm_r (nI_1 i) (ih (i + 1) (by omega)))⟩
theorem ey_put_3 {h : es_H} {slt f s : Nat} (Y : es_YR h yk yo yg ya yt kn) (hs : slt ≤ 12) (hf : f < slt) (h0 : mk f = 0) (hb : ∀ j, j < f → ¬ mk j = 0) (hss : s < 16) (hsd : ¬ s = 4 + f) (k a b t n : Int32) (post : Int32 → SY → Prop)
    (q : post (nI f) (rp, nI slt, ql, hl, ct, yk, yo, yg, ya, yt, es_cp kn 128 (4 + f) s 128, ln, tn, wa, wt, upd mk f k, upd mf f a, upd mt f b, upd mi f t, upd mn f n)) :
    ∀ m i, i + m = f → wY_put_3 post k a b (nI s) t n rp (nI slt) ql hl ct yk yo yg ya yt kn ln tn wa wt mk mf mt mi mn (m + 1) (nI i) := by
  intro m
  induction m with
  | zero =>
    intro i e
    have e' : i = f := e
    subst e'
    have v : vp_in (nI i) 12 := vp_in_nI (by omega) (by omega)
    refine br_f (nI_ge hf (by omega)) ⟨v, ?_⟩
    rw [nI_clamp (by omega)]
    have z := ey_put_67 Y (by omega) hss hsd post q 128 0 (by omega)
    rw [es_cp_0] at z
    exact br_t h0 ⟨v, nm_e ⟨v, nm_e ⟨v, nm_e ⟨v, nm_e ⟨v, nm_e ⟨129, z⟩⟩⟩⟩⟩⟩
  | succ m ih =>
    intro i e
    refine br_f (nI_ge (by omega) (by omega)) ⟨vp_in_nI (by omega) (by omega), ?_⟩
    rw [nI_clamp (by omega)]
    exact br_f (hb i (by omega)) (nm_r (nI_1 i) (ih (i + 1) (by omega)))
theorem ey_put_3n {slt : Nat} (hs : slt ≤ 12) (hb : ∀ j, j < slt → ¬ mk j = 0) (s k a b t n : Int32) (post : Int32 → SY → Prop)
    (q : post (-6) (rp, nI slt, ql, hl, ct, yk, yo, yg, ya, yt, kn, ln, tn, wa, wt, mk, mf, mt, mi, mn)) :
    ∀ m i, i + m = slt → wY_put_3 post k a b s t n rp (nI slt) ql hl ct yk yo yg ya yt kn ln tn wa wt mk mf mt mi mn (m + 1) (nI i) := by
  intro m
  induction m with
  | zero =>
    intro i e
    have e' : i = slt := e
    subst e'
    exact br_t (nI_le (by omega) (by omega)) q
  | succ m ih =>
    intro i e
    refine br_f (nI_ge (by omega) (by omega)) ⟨vp_in_nI (by omega) (by omega), ?_⟩
    rw [nI_clamp (by omega)]
    exact br_f (hb i (by omega)) (nm_r (nI_1 i) (ih (i + 1) (by omega)))
theorem ey_put {h : es_H} {slt f s : Nat} (Y : es_YR h yk yo yg ya yt kn) (hs : slt ≤ 12) (hf : f < slt) (h0 : mk f = 0) (hb : ∀ j, j < f → ¬ mk j = 0) (hss : s < 16) (hsd : ¬ s = 4 + f) (k a b t n : Int32) (post : Int32 → SY → Prop)
    (q : post (nI f) (rp, nI slt, ql, hl, ct, yk, yo, yg, ya, yt, es_cp kn 128 (4 + f) s 128, ln, tn, wa, wt, upd mk f k, upd mf f a, upd mt f b, upd mi f t, upd mn f n)) :
    wpY_put post (rp, nI slt, ql, hl, ct, yk, yo, yg, ya, yt, kn, ln, tn, wa, wt, mk, mf, mt, mi, mn) k a b (nI s) t n := by
  unfold wpY_put
  exact ⟨f + 1, ey_put_3 Y hs hf h0 hb hss hsd k a b t n post q f 0 (by omega)⟩
theorem ey_put_none {slt : Nat} (hs : slt ≤ 12) (hb : ∀ j, j < slt → ¬ mk j = 0) (s k a b t n : Int32) (post : Int32 → SY → Prop)
    (q : post (-6) (rp, nI slt, ql, hl, ct, yk, yo, yg, ya, yt, kn, ln, tn, wa, wt, mk, mf, mt, mi, mn)) : wpY_put post (rp, nI slt, ql, hl, ct, yk, yo, yg, ya, yt, kn, ln, tn, wa, wt, mk, mf, mt, mi, mn) k a b s t n := by
  unfold wpY_put
  exact ⟨slt + 1, ey_put_3n hs hb s k a b t n post q slt 0 (by omega)⟩
/-! uniting views -/
def es_kn (h : es_H) (kn : Nat → Int32) (p s i : Nat) : Nat → Int32 := fun j => if p * 128 ≤ j ∧ j < p * 128 + i ∧ es_K h s (j - p * 128) = true then 1 else kn j
theorem es_kn_0 (h : es_H) (kn : Nat → Int32) (p s : Nat) : es_kn h kn p s 0 = kn := by
  funext j
  exact if_neg (by omega)
theorem es_kn_r {h : es_H} {kn : Nat → Int32} {p s i j : Nat} (q : ¬ (p * 128 ≤ j ∧ j < p * 128 + i)) : es_kn h kn p s i j = kn j := if_neg fun z => q ⟨z.1, z.2.1⟩
theorem es_kn_keep {h : es_H} {kn : Nat → Int32} {p s i : Nat} (q : es_K h s i = true → kn (p * 128 + i) = 1) : es_kn h kn p s (i + 1) = es_kn h kn p s i := by
  funext j
  unfold es_kn
  by_cases e : j = p * 128 + i
  · subst e
    rw [if_neg (c := p * 128 ≤ p * 128 + i ∧ p * 128 + i < p * 128 + i ∧ _) (fun z => absurd z.2.1 (by omega))]
    by_cases k : es_K h s i = true
    · rw [if_pos ⟨by omega, by omega, by rw [show p * 128 + i - p * 128 = i by omega]; exact k⟩, q k]
    · rw [if_neg (fun z => k (by have := z.2.2; rw [show p * 128 + i - p * 128 = i by omega] at this; exact this))]
  · by_cases z : p * 128 ≤ j ∧ j < p * 128 + i ∧ es_K h s (j - p * 128) = true
    · rw [if_pos z, if_pos ⟨z.1, by omega, z.2.2⟩]
    · rw [if_neg z, if_neg (fun w => z ⟨w.1, by omega, w.2.2⟩)]
theorem es_kn_put {h : es_H} {kn : Nat → Int32} {p s i : Nat} (q : es_K h s i = true) : upd (es_kn h kn p s i) (p * 128 + i) 1 = es_kn h kn p s (i + 1) := by
  funext j
  by_cases e : j = p * 128 + i
  · subst e
    rw [pk_us]
    exact (if_pos ⟨by omega, by omega, by rw [show p * 128 + i - p * 128 = i by omega]; exact q⟩).symm
  · rw [pk_un e]
    unfold es_kn
    by_cases z : p * 128 ≤ j ∧ j < p * 128 + i ∧ es_K h s (j - p * 128) = true
    · rw [if_pos z, if_pos ⟨z.1, by omega, z.2.2⟩]
    · rw [if_neg z, if_neg (fun w => z ⟨w.1, by omega, w.2.2⟩)]
theorem es_YR_mrg {h : es_H} {rep : Nat} (Y : es_YR h yk yo yg ya yt kn) (H : es_WF rep h) {p s : Nat} (hp : p < 16) (hs : s < 16) : es_YR (es_mrg h p s) yk yo yg ya yt (es_kn h kn p s (es_c h)) := by
  have hc := H.2.1
  refine ⟨Y.1, fun v i hv hi => ?_⟩
  have k : es_K (es_mrg h p s) v i = if v = p then (es_K h p i || es_K h s i) else es_K h v i := rfl
  rw [k]
  by_cases e : v = p
  · subst e
    rw [if_pos rfl]
    by_cases c : i < es_c h
    · cases q : es_K h s i
      · rw [Bool.or_false, ← Y.2 v i hv hi]
        exact if_neg (fun z => by have := z.2.2; rw [show v * 128 + i - v * 128 = i by omega, q] at this; exact Bool.noConfusion this)
      · rw [Bool.or_true]
        exact if_pos ⟨by omega, by omega, by rw [show v * 128 + i - v * 128 = i by omega]; exact q⟩
    · rw [es_kn_r (by omega), Y.2 v i hv hi, H.2.2.2.1.2.2 s i hs (by omega), Bool.or_false]
  · rw [if_neg e, es_kn_r (by omega)]
    exact Y.2 v i hv hi
theorem ey_dl {h : es_H} {rep p f : Nat} (Y : es_YR h yk yo yg ya yt kn) (H : es_WF rep h) (hp : p < 4) (hf : f < 12) (x2 x3 x5 x6 : Int32) (post : Int32 → SY → Prop)
    (q : wY_deliver_73 post (nI f) x2 x3 (nI p) x5 x6 rp sl ql hl (nI (es_c h)) 1 (es_b (es_nw h (4 + f) p (es_c h))) (nI (es_c h)) yk yo yg ya yt (es_kn h kn p (4 + f) (es_c h)) ln tn wa wt mk mf mt mi mn) :
    ∀ m i, i + m = es_c h → wY_deliver_73 post (nI f) x2 x3 (nI p) x5 x6 rp sl ql hl (nI (es_c h)) (m + 1) (es_b (es_nw h (4 + f) p i)) (nI i) yk yo yg ya yt (es_kn h kn p (4 + f) i) ln tn wa wt mk mf mt mi mn := by
  have hc := H.2.1
  intro m
  induction m with
  | zero =>
    intro i e
    have e' : i = es_c h := e
    subst e'
    exact q
  | succ m ih =>
    intro i e
    have z := ih (i + 1) (by omega)
    simp only [es_nw] at z
    refine br_f (nI_ge (by omega) (by omega)) ?_
    rw [es_4p]
    refine ey_holds0 (q := es_K h (4 + f) i) (by omega) (by omega) (fun _ => ?_) (fun w => by omega) _ ?_
    · rw [es_kn_r (by omega)]
      exact Y.2 (4 + f) i (by omega) (by omega)
    · cases k1 : es_K h (4 + f) i
      · rw [k1, Bool.false_and, Bool.or_false, es_kn_keep (fun w => absurd (k1.symm.trans w) (by decide))] at z
        exact br_t rfl (nm_r (nI_1 i) z)
      · refine br_f (by decide) (ey_holds0 (q := es_K h p i) (by omega) (by omega) (fun _ => ?_) (fun w => by omega) _ ?_)
        · rw [es_kn_r (by omega)]
          exact Y.2 p i (by omega) (by omega)
        · cases k2 : es_K h p i
          · rw [k1, k2, ← es_kn_put k1] at z
            refine br_t rfl ?_
            rw [es_ix128, nI_clamp (by omega)]
            refine ⟨vp_in_nI (by omega) (by omega), nm_r (e' := upd (es_kn h kn p (4 + f) i) (p * 128 + i) 1) rfl (nm_r (nI_1 i) ?_)⟩
            cases k3 : es_nw h (4 + f) p i
            · rw [k3] at z; exact z
            · rw [k3] at z; exact z
          · rw [k1, k2, es_kn_keep (fun w => by rw [Y.2 p i (by omega) (by omega), k2]; rfl)] at z
            refine br_f (by decide) (nm_r (nI_1 i) ?_)
            cases k3 : es_nw h (4 + f) p i
            · rw [k3] at z; exact z
            · rw [k3] at z; exact z
/-! comparing views -/
def es_cmp (a b : Bool) : Int32 := if a = true then (if b = true then 3 else 2) else (if b = true then 1 else 0)
theorem ey_cmp_57 {h : es_H} {rep v u i : Nat} (Y : es_YR h yk yo yg ya yt kn) (H : es_WF rep h) (hv : v < 17) (hu : u < 17) (hi : i < 128) (a b : Bool) (post : Int32 → Prop) (J : Int32 → Int32 → Int32 → Prop)
    (q : J (es_b a) (es_b (b || (es_K h u i && !es_K h v i))) (nI (i + 1))) : wY_compare_57 post J (nI v) (nI u) (es_b a) (es_b b) (nI i) rp sl ql hl ct yk yo yg ya yt kn ln tn wa wt mk mf mt mi mn := by
  unfold wY_compare_57
  refine ey_holds Y H.2.2.2.1 hu hi _ ?_
  cases k1 : es_K h u i
  · rw [k1, Bool.false_and, Bool.or_false] at q
    exact br_t rfl (nm_r (nI_1 i) q)
  · refine br_f (by decide) (ey_holds Y H.2.2.2.1 hv hi _ ?_)
    cases k2 : es_K h v i
    · rw [k1, k2] at q
      refine br_t rfl (nm_r (nI_1 i) ?_)
      cases b <;> exact q
    · rw [k1, k2] at q
      refine br_f (by decide) (nm_r (nI_1 i) ?_)
      cases b <;> exact q
theorem ey_cmp_26 {h : es_H} {rep v u : Nat} (Y : es_YR h yk yo yg ya yt kn) (H : es_WF rep h) (hv : v < 17) (hu : u < 17) (post : Int32 → Prop)
    (q : post (es_cmp (es_nw h v u (es_c h)) (es_nw h u v (es_c h)))) :
    ∀ m i, i + m = es_c h → wY_compare_26 post (nI v) (nI u) rp sl ql hl (nI (es_c h)) yk yo yg ya yt kn ln tn wa wt mk mf mt mi mn (m + 1) (es_b (es_nw h v u i)) (es_b (es_nw h u v i)) (nI i) := by
  have hc := H.2.1
  intro m
  induction m with
  | zero =>
    intro i e
    have e' : i = es_c h := e
    subst e'
    refine br_t (nI_le (Nat.le_refl _) (by omega)) ?_
    cases k1 : es_nw h v u (es_c h) <;> cases k2 : es_nw h u v (es_c h) <;> rw [k1, k2] at q
    · exact br_t rfl (br_t rfl q)
    · exact br_t rfl (br_f (by decide) q)
    · exact br_f (by decide) (br_t rfl q)
    · exact br_f (by decide) (br_f (by decide) q)
  | succ m ih =>
    intro i e
    have z := ih (i + 1) (by omega)
    simp only [es_nw] at z
    refine br_f (nI_ge (by omega) (by omega)) ?_
    refine ey_holds Y H.2.2.2.1 hv (by omega) _ ?_
    cases k1 : es_K h v i
    · refine br_t rfl (ey_cmp_57 Y H hv hu (by omega) _ _ post _ ?_)
      rw [k1] at z ⊢
      rw [Bool.false_and, Bool.or_false] at z
      exact z
    · refine br_f (by decide) (ey_holds Y H.2.2.2.1 hu (by omega) _ ?_)
      cases k2 : es_K h u i
      · refine br_t rfl (ey_cmp_57 Y H hv hu (by omega) true _ post _ ?_)
        rw [k1, k2] at z ⊢
        cases k3 : es_nw h v u i
        · rw [k3] at z; exact z
        · rw [k3] at z; exact z
      · refine br_f (by decide) (ey_cmp_57 Y H hv hu (by omega) _ _ post _ ?_)
        rw [k1, k2] at z ⊢
        cases k3 : es_nw h v u i
        · rw [k3] at z; exact z
        · rw [k3] at z; exact z
end
end
section
/-! the relation -/
def es_QR (k qlm : Nat) (xa xt hd ln tn wa wt : Nat → Int32) : Prop :=
  ∀ r, r < 4 → ∃ hh l g : Nat, hh < 8 ∧ l ≤ qlm ∧ g ≤ k ∧ hd r = nI hh ∧ ln r = nI l ∧ tn r = nI g ∧
    ∀ p, p < l → xa (r * 8 + (hh + p) % 8) = wa (r * 8 + p) ∧ xt (r * 8 + (hh + p) % 8) = wt (r * 8 + p) ∧
      ∃ w t : Nat, 1 ≤ w ∧ w ≤ 1000 ∧ t < 2147483648 ∧ wa (r * 8 + p) = nI w ∧ wt (r * 8 + p) = nI t
def es_MR (rep slt : Nat) (mk mf mt mi : Nat → Int32) : Prop :=
  ∀ s, s < slt → ¬ mk s = 0 → ∃ a b t : Nat, mf s = nI a ∧ mt s = nI b ∧ mi s = nI t ∧ a < rep ∧ b < rep ∧ ¬ a = b ∧ t < 2147483648
def es_Rel (k rep slt qlm hlm : Nat) (h : es_H) (gv lt ls sp sv xa xt hd ln tn mk mf mt mi yk yo yg ya yt kn wa wt : Nat → Int32) : Prop :=
  (2 ≤ rep ∧ slt ≤ 12 ∧ qlm ≤ 8 ∧ hlm ≤ 128) ∧ es_WF rep h ∧ es_XR h gv lt ls sp sv ∧ es_YR h yk yo yg ya yt kn ∧ es_QR k qlm xa xt hd ln tn wa wt ∧ es_MR rep slt mk mf mt mi
/-- the relation at the head of a turn whose first cell is k -/
def i_Rel (k : Nat) (u : SX) (v : SY) : Prop :=
  ∃ (rep slt qlm hlm : Nat) (h : es_H) (gv lt ls sp sv xa xt hd ln tn mk mf mt mi mn yk yo yg ya yt kn wa wt : Nat → Int32),
    es_Rel k rep slt qlm hlm h gv lt ls sp sv xa xt hd ln tn mk mf mt mi yk yo yg ya yt kn wa wt ∧ u = (nI rep, nI slt, nI qlm, nI hlm, nI (es_c h), gv, lt, ls, sp, sv, xa, xt, hd, ln, tn, mk, mf, mt, mi, mn) ∧ v = (nI rep, nI slt, nI qlm, nI hlm, nI (es_c h), yk, yo, yg, ya, yt, kn, ln, tn, wa, wt, mk, mf, mt, mi, mn)
theorem es_el {P : SX → SY → Prop} {k : Nat} {u : SX} {v : SY}
    (H : ∀ (rep slt qlm hlm : Nat) (h : es_H) (gv lt ls sp sv xa xt hd ln tn mk mf mt mi mn yk yo yg ya yt kn wa wt : Nat → Int32),
      es_Rel k rep slt qlm hlm h gv lt ls sp sv xa xt hd ln tn mk mf mt mi yk yo yg ya yt kn wa wt → P (nI rep, nI slt, nI qlm, nI hlm, nI (es_c h), gv, lt, ls, sp, sv, xa, xt, hd, ln, tn, mk, mf, mt, mi, mn) (nI rep, nI slt, nI qlm, nI hlm, nI (es_c h), yk, yo, yg, ya, yt, kn, ln, tn, wa, wt, mk, mf, mt, mi, mn)) (I : i_Rel k u v) : P u v := by
  obtain ⟨rep, slt, qlm, hlm, h, gv, lt, ls, sp, sv, xa, xt, hd, ln, tn, mk, mf, mt, mi, mn, yk, yo, yg, ya, yt, kn, wa, wt, R, e1, e2⟩ := I
  rw [e1, e2]
  exact H rep slt qlm hlm h gv lt ls sp sv xa xt hd ln tn mk mf mt mi mn yk yo yg ya yt kn wa wt R
theorem es_intro {k rep slt qlm hlm : Nat} {h : es_H} {gv lt ls sp sv xa xt hd ln tn mk mf mt mi mn yk yo yg ya yt kn wa wt : Nat → Int32}
    (R : es_Rel k rep slt qlm hlm h gv lt ls sp sv xa xt hd ln tn mk mf mt mi yk yo yg ya yt kn wa wt) : i_Rel k (nI rep, nI slt, nI qlm, nI hlm, nI (es_c h), gv, lt, ls, sp, sv, xa, xt, hd, ln, tn, mk, mf, mt, mi, mn) (nI rep, nI slt, nI qlm, nI hlm, nI (es_c h), yk, yo, yg, ya, yt, kn, ln, tn, wa, wt, mk, mf, mt, mi, mn) :=
  ⟨rep, slt, qlm, hlm, h, gv, lt, ls, sp, sv, xa, xt, hd, ln, tn, mk, mf, mt, mi, mn, yk, yo, yg, ya, yt, kn, wa, wt, R, rfl, rfl⟩
theorem es_QR_up {k k' qlm : Nat} {xa xt hd ln tn wa wt : Nat → Int32} (hk : k ≤ k') (Q : es_QR k qlm xa xt hd ln tn wa wt) : es_QR k' qlm xa xt hd ln tn wa wt := by
  intro r hr
  obtain ⟨hh, l, g, a1, a2, a3, a4⟩ := Q r hr
  exact ⟨hh, l, g, a1, a2, by omega, a4⟩
theorem es_Rel_up {k k' rep slt qlm hlm : Nat} {h : es_H} {gv lt ls sp sv xa xt hd ln tn mk mf mt mi yk yo yg ya yt kn wa wt : Nat → Int32} (hk : k ≤ k')
    (R : es_Rel k rep slt qlm hlm h gv lt ls sp sv xa xt hd ln tn mk mf mt mi yk yo yg ya yt kn wa wt) : es_Rel k' rep slt qlm hlm h gv lt ls sp sv xa xt hd ln tn mk mf mt mi yk yo yg ya yt kn wa wt := by
  obtain ⟨a1, a2, a3, a4, a5, a6⟩ := R
  exact ⟨a1, a2, a3, a4, es_QR_up hk a5, a6⟩
theorem i_up {k : Nat} {u : SX} {v : SY} (h : i_Rel k u v) : i_Rel (k + 5) u v := by
  refine es_el (P := fun u v => i_Rel (k + 5) u v) ?_ h
  intro rep slt qlm hlm h gv lt ls sp sv xa xt hd ln tn mk mf mt mi mn yk yo yg ya yt kn wa wt R
  exact es_intro (es_Rel_up (by omega) R)
/-! queues -/
theorem es_QR_rm {k qlm r : Nat} {xa xt hd ln tn wa wt : Nat → Int32} (Q : es_QR k qlm xa xt hd ln tn wa wt) (hq : qlm ≤ 8) (hr : r < 4) (h0 : ¬ ln r = 0) :
    es_QR k qlm xa xt (upd hd r ((hd r + 1) &&& 7)) (upd ln r (ln r - 1)) tn (es_sh wa r 7) (es_sh wt r 7) := by
  intro q hq'
  obtain ⟨hh, l, g, a1, a2, a3, a4, a5, a6, a7⟩ := Q q hq'
  by_cases e : q = r
  · subst e
    obtain ⟨m, rfl⟩ : ∃ m, l = m + 1 := by
      rcases l with _ | m
      · exact absurd a5 h0
      · exact ⟨m, rfl⟩
    refine ⟨(hh + 1) % 8, m, g, by omega, by omega, a3, ?_, ?_, a6, fun p hp => ?_⟩
    · rw [pk_us, a4, nI_1, es_and7 (by omega)]
    · rw [pk_us, a5, nI_pred]
    · obtain ⟨b1, b2, b3⟩ := a7 (p + 1) (by omega)
      have c1 : es_sh wa q 7 (q * 8 + p) = wa (q * 8 + (p + 1)) := if_pos ⟨by omega, by omega⟩
      have c2 : es_sh wt q 7 (q * 8 + p) = wt (q * 8 + (p + 1)) := if_pos ⟨by omega, by omega⟩
      rw [c1, c2, show ((hh + 1) % 8 + p) % 8 = (hh + (p + 1)) % 8 by omega]
      exact ⟨b1, b2, b3⟩
  · refine ⟨hh, l, g, a1, a2, a3, ?_, ?_, a6, fun p hp => ?_⟩
    · rw [pk_un e]; exact a4
    · rw [pk_un e]; exact a5
    · have c1 : es_sh wa r 7 (q * 8 + p) = wa (q * 8 + p) := if_neg (by omega)
      have c2 : es_sh wt r 7 (q * 8 + p) = wt (q * 8 + p) := if_neg (by omega)
      rw [c1, c2]
      exact a7 p hp
theorem es_QR_en {k qlm r hh l g w : Nat} {xa xt hd ln tn wa wt : Nat → Int32} (Q : es_QR k qlm xa xt hd ln tn wa wt) (hq : qlm ≤ 8) (hk : k + 5 ≤ 2564) (hr : r < 4)
    (e1 : hd r = nI hh) (e1' : hh < 8) (e2 : ln r = nI l) (hl : l < qlm) (e3 : tn r = nI g) (e3' : g ≤ k) (hw : 1 ≤ w) (hw2 : w ≤ 1000) :
    es_QR (k + 5) qlm (upd xa (r * 8 + (hh + l) % 8) (nI w)) (upd xt (r * 8 + (hh + l) % 8) (nI (g + 1))) hd (upd ln r (nI (l + 1))) (upd tn r (nI (g + 1)))
      (upd wa (r * 8 + l) (nI w)) (upd wt (r * 8 + l) (nI (g + 1))) := by
  intro q hq'
  obtain ⟨hh', l', g', a1, a2, a3, a4, a5, a6, a7⟩ := Q q hq'
  by_cases e : q = r
  · subst e
    have i1 : hh' = hh := (nI_eq (by omega) (by omega)).mp (a4.symm.trans e1)
    have i2 : l' = l := (nI_eq (by omega) (by omega)).mp (a5.symm.trans e2)
    subst i1 i2
    refine ⟨hh', l' + 1, g + 1, a1, by omega, by omega, a4, pk_us, pk_us, fun p hp => ?_⟩
    by_cases z : p = l'
    · subst z
      rw [pk_us, pk_us, pk_us, pk_us]
      exact ⟨rfl, rfl, w, g + 1, hw, hw2, by omega, rfl, rfl⟩
    · rw [pk_un (by omega), pk_un (by omega), pk_un (by omega), pk_un (by omega)]
      exact a7 p (by omega)
  · refine ⟨hh', l', g', a1, a2, by omega, a4, ?_, ?_, fun p hp => ?_⟩
    · rw [pk_un e]; exact a5
    · rw [pk_un e]; exact a6
    · rw [pk_un (by omega), pk_un (by omega), pk_un (by omega), pk_un (by omega)]
      exact a7 p hp
/-! one more update, on both sides -/
theorem es_both_gift {k rep slt qlm hlm : Nat} {h : es_H} {gv lt ls sp sv xa xt hd ln tn mk mf mt mi mn yk yo yg ya yt kn wa wt : Nat → Int32} (R : es_Rel k rep slt qlm hlm h gv lt ls sp sv xa xt hd ln tn mk mf mt mi yk yo yg ya yt kn wa wt)
    {o b w t : Nat} (hc : es_c h < hlm) (ho : o < rep) (hb : b < rep) (hw : 1 ≤ w) (hw2 : w ≤ 128000)
    (hi : b = o → w ≤ 1000 ∧ t = 0) (ht : t < 2147483648) (hR : ¬ b = o → (w : Int) ≤ es_R h rep o o) (kd tg : Int32) (ek : es_kd o b = kd) (et : es_tI o b = tg) :
    ∃ gv' lt' ls' yk' yo' yg' ya' yt' kn' : Nat → Int32, es_Rel k rep slt qlm hlm (es_add h o b w t) gv' lt' ls' sp sv xa xt hd ln tn mk mf mt mi yk' yo' yg' ya' yt' kn' wa wt ∧
      (∀ post : SX → Prop, post (nI rep, nI slt, nI qlm, nI hlm, nI (es_c (es_add h o b w t)), gv', lt', ls', sp, sv, xa, xt, hd, ln, tn, mk, mf, mt, mi, mn) → wpX_recordGift post (nI rep, nI slt, nI qlm, nI hlm, nI (es_c h), gv, lt, ls, sp, sv, xa, xt, hd, ln, tn, mk, mf, mt, mi, mn) (nI o) (nI b) (nI w) (nI t)) ∧
      (∀ post : SY → Prop, post (nI rep, nI slt, nI qlm, nI hlm, nI (es_c (es_add h o b w t)), yk', yo', yg', ya', yt', kn', ln, tn, wa, wt, mk, mf, mt, mi, mn) → wpY_addUpdate post (nI rep, nI slt, nI qlm, nI hlm, nI (es_c h), yk, yo, yg, ya, yt, kn, ln, tn, wa, wt, mk, mf, mt, mi, mn) kd (nI o) tg (nI w) (nI t)) := by
  obtain ⟨⟨r1, r2, r3, r4⟩, H, X, Y, Q, M⟩ := R
  have h4 := H.1
  obtain ⟨gv', lt', ls', x1, x2⟩ := ex_recordGift (rp := nI rep) (sl := nI slt) (ql := nI qlm) (hl := nI hlm) (ct := nI (es_c h)) (xa := xa) (xt := xt) (hd := hd) (ln := ln) (tn := tn) (mk := mk) (mf := mf) (mt := mt) (mi := mi) (mn := mn)
    (o := o) (b := b) (w := w) (t := t) X H.2.2.1 (by omega) (by omega) ht
  subst ek et
  refine ⟨gv', lt', ls', _, _, _, _, _, _, ⟨⟨r1, r2, r3, r4⟩, es_WF_add H (by omega) ho (Or.inl hb) hw hw2 hi ht hR, x1, es_YR_add Y H.2.2.2.1 (by omega) (by omega), Q, M⟩, fun post hp => x2 post ?_, fun post hp => ey_add (by omega) (by omega) _ _ post hp⟩
  rw [nI_1]
  exact hp
theorem es_both_dec {k rep slt qlm hlm : Nat} {h : es_H} {gv lt ls sp sv xa xt hd ln tn mk mf mt mi mn yk yo yg ya yt kn wa wt : Nat → Int32} (R : es_Rel k rep slt qlm hlm h gv lt ls sp sv xa xt hd ln tn mk mf mt mi yk yo yg ya yt kn wa wt)
    {o w t : Nat} (hc : es_c h < hlm) (ho : o < rep) (hw : 1 ≤ w) (hw2 : w ≤ 128000) (ht : t < 2147483648) (hR : (w : Int) ≤ es_R h rep o o) (hd2 ln2 : Nat → Int32) :
    ∃ sp' sv' yk' yo' yg' ya' yt' kn' : Nat → Int32, es_Rel k rep slt qlm hlm (es_add h o 4 w t) gv lt ls sp' sv' xa xt hd ln tn mk mf mt mi yk' yo' yg' ya' yt' kn' wa wt ∧
      (∀ post : SX → Prop, post (nI rep, nI slt, nI qlm, nI hlm, nI (es_c (es_add h o 4 w t)), gv, lt, ls, sp', sv', xa, xt, hd2, ln2, tn, mk, mf, mt, mi, mn) → wpX_recordSpending post (nI rep, nI slt, nI qlm, nI hlm, nI (es_c h), gv, lt, ls, sp, sv, xa, xt, hd2, ln2, tn, mk, mf, mt, mi, mn) (nI o) (nI w) (nI t)) ∧
      (∀ post : SY → Prop, post (nI rep, nI slt, nI qlm, nI hlm, nI (es_c (es_add h o 4 w t)), yk', yo', yg', ya', yt', kn', ln, tn, wa, wt, mk, mf, mt, mi, mn) → wpY_addUpdate post (nI rep, nI slt, nI qlm, nI hlm, nI (es_c h), yk, yo, yg, ya, yt, kn, ln, tn, wa, wt, mk, mf, mt, mi, mn) 2 (nI o) (-1) (nI w) (nI t)) := by
  obtain ⟨⟨r1, r2, r3, r4⟩, H, X, Y, Q, M⟩ := R
  have h4 := H.1
  obtain ⟨sp', sv', x1, x2⟩ := ex_recordSpending (rp := nI rep) (sl := nI slt) (ql := nI qlm) (hl := nI hlm) (ct := nI (es_c h)) (xa := xa) (xt := xt) (hd := hd2) (ln := ln2) (tn := tn) (mk := mk) (mf := mf) (mt := mt) (mi := mi) (mn := mn)
    (o := o) (w := w) (t := t) X H.2.2.1 (by omega) ht
  have y1 := es_YR_add (o := o) (b := 4) (w := w) (t := t) Y H.2.2.2.1 (by omega) (by omega)
  refine ⟨sp', sv', _, _, _, _, _, _, ⟨⟨r1, r2, r3, r4⟩, es_WF_add H (by omega) ho (Or.inr rfl) hw hw2 (fun z => by omega) ht (fun _ => hR), x1, y1, Q, M⟩, fun post hp => x2 post ?_, fun post hp => ey_add (by omega) (by omega) _ _ post hp⟩
  rw [nI_1]
  exact hp
end
section
section
variable {rp sl ql hl ct : Int32} {gv lt ls sp sv xa xt hd ln tn mk mf mt mi mn : Nat → Int32}
theorem ex_rm {r : Nat} (hr : r < 4) (post : SX → Prop) (q : post (rp, sl, ql, hl, ct, gv, lt, ls, sp, sv, xa, xt, upd hd r ((hd r + 1) &&& 7), upd ln r (ln r - 1), tn, mk, mf, mt, mi, mn)) : wpX_removeFirst post (rp, sl, ql, hl, ct, gv, lt, ls, sp, sv, xa, xt, hd, ln, tn, mk, mf, mt, mi, mn) (nI r) := by
  have v : vp_in (nI r) 4 := vp_in_nI hr (by omega)
  unfold wpX_removeFirst
  dsimp only
  rw [nI_clamp (by omega)]
  exact ⟨v, v, nm_e ⟨v, v, nm_e q⟩⟩
theorem ex_can {h : es_H} {rep r l w hh hlm : Nat} (H : es_WF rep h) (X : es_XR h gv lt ls sp sv) (hr : r < rep) (hl2 : hlm ≤ 128) (e1 : hd r = nI hh) (e1' : hh < 8) (e2 : ln r = nI l) (e2' : l ≤ 8) (e3 : ¬ l = 0 → xa (r * 8 + (hh + 0) % 8) = nI w) (hw : w ≤ 1000)
    (q : Bool) (hq : q = true ↔ (¬ l = 0 ∧ es_c h < hlm ∧ (w : Int) ≤ es_R h rep r r)) (post : Int32 → Prop) (hp : post (es_b q)) :
    wpX_canServe post (nI rep, sl, ql, nI hlm, nI (es_c h), gv, lt, ls, sp, sv, xa, xt, hd, ln, tn, mk, mf, mt, mi, mn) (nI r) := by
  have h4 := H.1
  have hc := H.2.1
  have qt : q = true → post 1 := fun z => by rw [z] at hp; exact hp
  have qf : ¬ q = true → post 0 := fun z => by
    have e : q = false := by cases y : q; rfl; exact absurd y z
    rw [e] at hp; exact hp
  unfold wpX_canServe
  dsimp only
  rw [nI_clamp (by omega), e2]
  refine ⟨vp_in_nI (by omega) (by omega), ?_⟩
  by_cases l0 : l = 0
  · exact br_t (congrArg nI l0) (qf fun z => (hq.mp z).1 l0)
  · refine br_f (nI_ne0 (by omega) (by omega)) (ex_full (by omega) (by omega) _ ?_)
    by_cases f : hlm ≤ es_c h
    · rw [decide_eq_true f]
      exact br_f (by decide) (qf fun z => absurd (hq.mp z).2.1 (by omega))
    · rw [decide_eq_false f]
      refine br_t rfl (ex_ring (p := 0) (by omega) e1 e1' (by omega) _ ?_)
      refine ⟨vp_in_nI (by omega) (by omega), ex_rights X h4 (by omega) hr _ ?_⟩
      have rg := es_R_rng H r r
      rw [nI_clamp (by omega), e3 l0, ← es_i_nat, es_i_lt (by omega) (by omega) (by omega) (by omega)]
      by_cases y : es_R h rep r r < (w : Int)
      · exact br_t y (qf fun z => absurd (hq.mp z).2.2 (by omega))
      · exact br_f y (qt (hq.mpr ⟨l0, by omega, by omega⟩))
end
theorem ey_full {rp sl ql : Int32} {yk yo yg ya yt kn ln tn wa wt mk mf mt mi mn : Nat → Int32} {c H : Nat} (hc : c < 2147483648) (hH : H < 2147483648) (post : Int32 → Prop) (hp : post (es_b (decide (H ≤ c)))) : wpY_full post (rp, sl, ql, nI H, nI c, yk, yo, yg, ya, yt, kn, ln, tn, wa, wt, mk, mf, mt, mi, mn) := by
  unfold wpY_full
  dsimp only
  by_cases e : H ≤ c
  · rw [decide_eq_true e] at hp
    exact br_f (nI_nlt e (by omega)) hp
  · rw [decide_eq_false e] at hp
    exact br_t (nI_lt (by omega) (by omega)) hp
theorem es_serve {k rep slt qlm hlm r : Nat} (hr : r < rep) {gv lt ls xa xt tn mk mf mt mi mn : Nat → Int32} :
    ∀ (m i : Nat) (h : es_H) (sp sv hd ln yk yo yg ya yt kn wa wt : Nat → Int32), i + m = 8 → es_Rel k rep slt qlm hlm h gv lt ls sp sv xa xt hd ln tn mk mf mt mi yk yo yg ya yt kn wa wt →
      ∃ (n : Nat) (h' : es_H) (sp' sv' hd' ln' yk' yo' yg' ya' yt' kn' wa' wt' : Nat → Int32), n ≤ 8 ∧
        es_Rel k rep slt qlm hlm h' gv lt ls sp' sv' xa xt hd' ln' tn mk mf mt mi yk' yo' yg' ya' yt' kn' wa' wt' ∧
        (∀ post : Int32 → SX → Prop, post (nI n) (nI rep, nI slt, nI qlm, nI hlm, nI (es_c h'), gv, lt, ls, sp', sv', xa, xt, hd', ln', tn, mk, mf, mt, mi, mn) → wX_serve_4 post (nI r) (m + 1) (nI i) (nI i) (nI rep) (nI slt) (nI qlm) (nI hlm) (nI (es_c h)) gv lt ls sp sv xa xt hd ln tn mk mf mt mi mn) ∧
        (∀ post : Int32 → SY → Prop, post (nI n) (nI rep, nI slt, nI qlm, nI hlm, nI (es_c h'), yk', yo', yg', ya', yt', kn', ln', tn, wa', wt', mk, mf, mt, mi, mn) → wY_serve_2 post (nI r) (m + 1) (nI i) (nI rep) (nI slt) (nI qlm) (nI hlm) (nI (es_c h)) yk yo yg ya yt kn ln tn wa wt mk mf mt mi mn) := by
  intro m
  induction m with
  | zero =>
    intro i h sp sv hd ln yk yo yg ya yt kn wa wt e R
    have e' : i = 8 := e
    subst e'
    exact ⟨8, h, sp, sv, hd, ln, yk, yo, yg, ya, yt, kn, wa, wt, by omega, R,
      fun post hp => br_t (nI_le (a := 8) (b := 8) (by omega) (by omega)) hp, fun post hp => br_t (nI_le (a := 8) (b := 8) (by omega) (by omega)) hp⟩
  | succ m ih =>
    intro i h sp sv hd ln yk yo yg ya yt kn wa wt e R
    have R0 := R
    obtain ⟨⟨r1, r2, r3, r4⟩, H, X, Y, Q, M⟩ := R
    have h4 := H.1
    have hc := H.2.1
    obtain ⟨hh, l, g, a1, a2, a3, a4, a5, a6, a7⟩ := Q r (by omega)
    have vr : vp_in (nI r) 4 := vp_in_nI (by omega) (by omega)
    have v8 : vp_in (nI (r * 8)) 32 := vp_in_nI (by omega) (by omega)
    have W : ∃ w t : Nat, w ≤ 1000 ∧ (¬ l = 0 → xa (r * 8 + (hh + 0) % 8) = nI w ∧ xt (r * 8 + (hh + 0) % 8) = nI t ∧ wa (r * 8) = nI w ∧ wt (r * 8) = nI t ∧ 1 ≤ w ∧ t < 2147483648) := by
      by_cases l0 : l = 0
      · exact ⟨0, 0, by omega, fun z => absurd l0 z⟩
      · obtain ⟨b1, b2, w, t, b3, b4, b5, b6, b7⟩ := a7 0 (by omega)
        exact ⟨w, t, b4, fun _ => ⟨b1.trans b6, b2.trans b7, b6, b7, b3, b5⟩⟩
    obtain ⟨w, t, w1, w2⟩ := W
    have rg := es_R_rng H r r
    by_cases go : (¬ l = 0 ∧ es_c h < hlm ∧ (w : Int) ≤ es_R h rep r r)
    · obtain ⟨g1, g2, g3⟩ := go
      obtain ⟨b1, b2, b3, b4, b5, b6⟩ := w2 g1
      have hn : ¬ ln r = 0 := by rw [a5]; exact nI_ne0 (by omega) (by omega)
      obtain ⟨sp1, sv1, yk1, yo1, yg1, ya1, yt1, kn1, c1, c2, c3⟩ := es_both_dec (mn := mn) R0 (o := r) (w := w) (t := t) g2 hr b5 (by omega) b6 g3 (upd hd r ((hd r + 1) &&& 7)) (upd ln r (ln r - 1))
      obtain ⟨d1, d2, d3, d4, d5, d6⟩ := c1
      obtain ⟨n, h', sp', sv', hd', ln', yk', yo', yg', ya', yt', kn', wa', wt', f1, f2, f3, f4⟩ := ih (i + 1) (es_add h r 4 w t) sp1 sv1 (upd hd r ((hd r + 1) &&& 7)) (upd ln r (ln r - 1)) yk1 yo1 yg1 ya1 yt1 kn1 (es_sh wa r 7) (es_sh wt r 7) (by omega)
        ⟨d1, d2, d3, d4, es_QR_rm d5 r3 (by omega) hn, d6⟩
      refine ⟨n, h', sp', sv', hd', ln', yk', yo', yg', ya', yt', kn', wa', wt', f1, f2, fun post hp => ?_, fun post hp => ?_⟩
      · refine br_f (nI_ge (b := 8) (by omega) (by omega)) (ex_can H X hr r4 a4 a1 a5 (by omega) (fun z => (w2 z).1) w1 true ⟨fun _ => ⟨g1, g2, g3⟩, fun _ => rfl⟩ _ ?_)
        refine br_f (by decide) (ex_ring (p := 0) (by omega) a4 a1 (by omega) _ (ex_rm (by omega) _ ?_))
        have v : vp_in (nI (r * 8 + (hh + 0) % 8)) 32 := vp_in_nI (by omega) (by omega)
        refine ⟨v, v, ?_⟩
        rw [nI_clamp (by omega), b1, b2]
        exact c2 _ (nm_r (nI_1 i) (nm_r (nI_1 i) (f3 post hp)))
      · refine br_f (nI_ge (b := 8) (by omega) (by omega)) ?_
        rw [es_ix8', nI_clamp (by omega), nI_clamp (by omega), a5, b3, b4]
        refine ⟨vr, br_f (nI_ne0 (by omega) (by omega)) ?_⟩
        refine ey_full (by omega) (by omega) _ ?_
        rw [decide_eq_false (by omega)]
        refine br_t rfl ⟨v8, ey_rights Y H (by omega) hr _ ?_⟩
        rw [← es_i_nat w, es_i_le (by omega) (by omega) (by omega) (by omega), es_i_nat]
        exact br_t g3 ⟨v8, v8, c3 _ (ey_rm (by omega) _ (nm_r (nI_1 i) (f4 post hp)))⟩
    · refine ⟨i, h, sp, sv, hd, ln, yk, yo, yg, ya, yt, kn, wa, wt, by omega, R0, fun post hp => ?_, fun post hp => ?_⟩
      · refine br_f (nI_ge (b := 8) (by omega) (by omega)) (ex_can H X hr r4 a4 a1 a5 (by omega) (fun z => (w2 z).1) w1 false ⟨fun z => Bool.noConfusion z, fun z => absurd z go⟩ _ ?_)
        exact br_t rfl hp
      · refine br_f (nI_ge (b := 8) (by omega) (by omega)) ?_
        rw [es_ix8', nI_clamp (by omega), nI_clamp (by omega), a5]
        refine ⟨vr, ?_⟩
        by_cases l0 : l = 0
        · exact br_t (congrArg nI l0) hp
        · refine br_f (nI_ne0 (by omega) (by omega)) (ey_full (by omega) (by omega) _ ?_)
          by_cases f : hlm ≤ es_c h
          · rw [decide_eq_true f]
            exact br_f (by decide) hp
          · rw [decide_eq_false f]
            obtain ⟨b1, b2, b3, b4, b5, b6⟩ := w2 l0
            refine br_t rfl ⟨v8, ey_rights Y H (by omega) hr _ ?_⟩
            rw [b3, ← es_i_nat w, es_i_le (by omega) (by omega) (by omega) (by omega)]
            exact br_f (fun z => go ⟨l0, by omega, z⟩) hp
end
section
theorem es_serve0 {k rep slt qlm hlm r : Nat} (hr : r < rep) {h : es_H} {gv lt ls sp sv xa xt hd ln tn mk mf mt mi mn yk yo yg ya yt kn wa wt : Nat → Int32} (R : es_Rel k rep slt qlm hlm h gv lt ls sp sv xa xt hd ln tn mk mf mt mi yk yo yg ya yt kn wa wt) :
      ∃ (n : Nat) (h' : es_H) (sp' sv' hd' ln' yk' yo' yg' ya' yt' kn' wa' wt' : Nat → Int32), n ≤ 8 ∧
        es_Rel k rep slt qlm hlm h' gv lt ls sp' sv' xa xt hd' ln' tn mk mf mt mi yk' yo' yg' ya' yt' kn' wa' wt' ∧
        (∀ post : Int32 → SX → Prop, post (nI n) (nI rep, nI slt, nI qlm, nI hlm, nI (es_c h'), gv, lt, ls, sp', sv', xa, xt, hd', ln', tn, mk, mf, mt, mi, mn) → wpX_serve post (nI rep, nI slt, nI qlm, nI hlm, nI (es_c h), gv, lt, ls, sp, sv, xa, xt, hd, ln, tn, mk, mf, mt, mi, mn) (nI r)) ∧
        (∀ post : Int32 → SY → Prop, post (nI n) (nI rep, nI slt, nI qlm, nI hlm, nI (es_c h'), yk', yo', yg', ya', yt', kn', ln', tn, wa', wt', mk, mf, mt, mi, mn) → wpY_serve post (nI rep, nI slt, nI qlm, nI hlm, nI (es_c h), yk, yo, yg, ya, yt, kn, ln, tn, wa, wt, mk, mf, mt, mi, mn) (nI r)) := by
  obtain ⟨n, h', sp', sv', hd', ln', yk', yo', yg', ya', yt', kn', wa', wt', f1, f2, f3, f4⟩ := es_serve (mn := mn) hr 8 0 h sp sv hd ln yk yo yg ya yt kn wa wt (by omega) R
  refine ⟨n, h', sp', sv', hd', ln', yk', yo', yg', ya', yt', kn', wa', wt', f1, f2, fun post hp => ?_, fun post hp => ?_⟩
  · unfold wpX_serve
    exact ⟨9, f3 post hp⟩
  · unfold wpY_serve
    exact ⟨9, f4 post hp⟩
theorem es_both_post {k rep slt qlm hlm : Nat} {h : es_H} {gv lt ls sp sv xa xt hd ln tn mk mf mt mi mn yk yo yg ya yt kn wa wt : Nat → Int32} (R : es_Rel k rep slt qlm hlm h gv lt ls sp sv xa xt hd ln tn mk mf mt mi yk yo yg ya yt kn wa wt)
    {s a b t : Nat} (hs : s < 16) (hsf : ∀ f, f < slt → mk f = 0 → ¬ s = 4 + f) (kk n : Int32) (ha : a < rep) (hb : b < rep) (hab : ¬ a = b) (ht : t < 2147483648) :
    ∃ (r : Int32) (h' : es_H) (gv' lt' ls' sp' sv' mk' mf' mt' mi' mn' kn' : Nat → Int32),
      es_Rel k rep slt qlm hlm h' gv' lt' ls' sp' sv' xa xt hd ln tn mk' mf' mt' mi' yk yo yg ya yt kn' wa wt ∧
      (∀ post : Int32 → SX → Prop, post r (nI rep, nI slt, nI qlm, nI hlm, nI (es_c h'), gv', lt', ls', sp', sv', xa, xt, hd, ln, tn, mk', mf', mt', mi', mn') → wpX_post post (nI rep, nI slt, nI qlm, nI hlm, nI (es_c h), gv, lt, ls, sp, sv, xa, xt, hd, ln, tn, mk, mf, mt, mi, mn) (nI s) kk (nI a) (nI b) (nI t) n) ∧
      (∀ post : Int32 → SY → Prop, post r (nI rep, nI slt, nI qlm, nI hlm, nI (es_c h'), yk, yo, yg, ya, yt, kn', ln, tn, wa, wt, mk', mf', mt', mi', mn') → wpY_put post (nI rep, nI slt, nI qlm, nI hlm, nI (es_c h), yk, yo, yg, ya, yt, kn, ln, tn, wa, wt, mk, mf, mt, mi, mn) kk (nI a) (nI b) (nI s) (nI t) n) := by
  have R0 := R
  obtain ⟨⟨r1, r2, r3, r4⟩, H, X, Y, Q, M⟩ := R
  rcases es_free mk slt with F | ⟨f, f1, f2, f3⟩
  · exact ⟨-6, h, gv, lt, ls, sp, sv, mk, mf, mt, mi, mn, kn, R0, fun post hp => ex_post_none r2 F _ _ _ _ _ _ post hp, fun post hp => ey_put_none r2 F _ _ _ _ _ _ post hp⟩
  · refine ⟨nI f, es_cpy h (4 + f) s, _, _, _, _, _, _, _, _, _, _, _, ⟨⟨r1, r2, r3, r4⟩, es_WF_cpy H (by omega) (by omega) hs, es_XR_cpy X (by omega) (by omega), es_YR_cpy Y hs, Q, ?_⟩,
      fun post hp => ex_post r2 f1 f2 f3 hs (hsf f f1 f2) kk (nI a) (nI b) (nI t) n post hp, fun post hp => ey_put Y r2 f1 f2 f3 hs (hsf f f1 f2) kk (nI a) (nI b) (nI t) n post hp⟩
    intro q hq hk
    by_cases e : q = f
    · subst e
      exact ⟨a, b, t, pk_us, pk_us, pk_us, ha, hb, hab, ht⟩
    · rw [pk_un e] at hk
      rw [pk_un e, pk_un e, pk_un e]
      exact M q hq hk
/-! the loan -/
theorem es_both_grant {k rep slt qlm hlm : Nat} {h : es_H} {gv lt ls sp sv xa xt hd ln tn mk mf mt mi mn yk yo yg ya yt kn wa wt : Nat → Int32} (R : es_Rel k rep slt qlm hlm h gv lt ls sp sv xa xt hd ln tn mk mf mt mi yk yo yg ya yt kn wa wt)
    {p b t : Nat} (hp : p < rep) (hb : b < rep) (hpb : ¬ p = b) (ht : t < 2147483648) (need : Int32) :
    ∃ (r : Int32) (h' : es_H) (gv' lt' ls' yk' yo' yg' ya' yt' kn' : Nat → Int32),
      es_Rel k rep slt qlm hlm h' gv' lt' ls' sp sv xa xt hd ln tn mk mf mt mi yk' yo' yg' ya' yt' kn' wa wt ∧
      (∀ post : Int32 → SX → Prop, post r (nI rep, nI slt, nI qlm, nI hlm, nI (es_c h'), gv', lt', ls', sp, sv, xa, xt, hd, ln, tn, mk, mf, mt, mi, mn) → wpX_grant post (nI rep, nI slt, nI qlm, nI hlm, nI (es_c h), gv, lt, ls, sp, sv, xa, xt, hd, ln, tn, mk, mf, mt, mi, mn) (nI p) (nI b) (nI t) need) ∧
      (∀ post : Int32 → SY → Prop, post r (nI rep, nI slt, nI qlm, nI hlm, nI (es_c h'), yk', yo', yg', ya', yt', kn', ln, tn, wa, wt, mk, mf, mt, mi, mn) → wpY_grant post (nI rep, nI slt, nI qlm, nI hlm, nI (es_c h), yk, yo, yg, ya, yt, kn, ln, tn, wa, wt, mk, mf, mt, mi, mn) (nI p) (nI b) (nI t) need) := by
  have R0 := R
  obtain ⟨⟨r1, r2, r3, r4⟩, H, X, Y, Q, M⟩ := R
  have h4 := H.1
  have hc := H.2.1
  have W := H.2.2.1
  obtain ⟨hh, l, g, a1, a2, a3, a4, a5, a6, a7⟩ := Q p (by omega)
  have T1 := es_T_lt W p b 4
  have T2 := es_T_lt W p p b
  have vr : vp_in (nI p) 4 := vp_in_nI (by omega) (by omega)
  have px : ∀ post : Int32 → SX → Prop,
      (t ≤ es_T h p b 4 → post 16 (nI rep, nI slt, nI qlm, nI hlm, nI (es_c h), gv, lt, ls, sp, sv, xa, xt, hd, ln, tn, mk, mf, mt, mi, mn)) → (¬ t ≤ es_T h p b 4 → ¬ es_T h p p b ≤ t → post 16 (nI rep, nI slt, nI qlm, nI hlm, nI (es_c h), gv, lt, ls, sp, sv, xa, xt, hd, ln, tn, mk, mf, mt, mi, mn)) →
      (¬ t ≤ es_T h p b 4 → es_T h p p b ≤ t → ¬ l = 0 → post 17 (nI rep, nI slt, nI qlm, nI hlm, nI (es_c h), gv, lt, ls, sp, sv, xa, xt, hd, ln, tn, mk, mf, mt, mi, mn)) →
      (¬ t ≤ es_T h p b 4 → es_T h p p b ≤ t → l = 0 → ¬ (0 : Int32) < need - nI (if es_T h p p b = t then es_L h p p b else 0) → post 15 (nI rep, nI slt, nI qlm, nI hlm, nI (es_c h), gv, lt, ls, sp, sv, xa, xt, hd, ln, tn, mk, mf, mt, mi, mn)) →
      (¬ t ≤ es_T h p b 4 → es_T h p p b ≤ t → l = 0 → (0 : Int32) < need - nI (if es_T h p p b = t then es_L h p p b else 0) → es_R h rep p p = 0 → post 18 (nI rep, nI slt, nI qlm, nI hlm, nI (es_c h), gv, lt, ls, sp, sv, xa, xt, hd, ln, tn, mk, mf, mt, mi, mn)) →
      (¬ t ≤ es_T h p b 4 → es_T h p p b ≤ t → l = 0 → (0 : Int32) < need - nI (if es_T h p p b = t then es_L h p p b else 0) → 0 < es_R h rep p p → hlm ≤ es_c h → post 19 (nI rep, nI slt, nI qlm, nI hlm, nI (es_c h), gv, lt, ls, sp, sv, xa, xt, hd, ln, tn, mk, mf, mt, mi, mn)) →
      (¬ t ≤ es_T h p b 4 → es_T h p p b ≤ t → l = 0 → (0 : Int32) < need - nI (if es_T h p p b = t then es_L h p p b else 0) → 0 < es_R h rep p p → es_c h < hlm →
        (es_i (es_R h rep p p) ≤ need - nI (if es_T h p p b = t then es_L h p p b else 0) → wX_grant_106 post (nI p) (nI b) (nI t) (need - nI (if es_T h p p b = t then es_L h p p b else 0)) (es_i (es_R h rep p p)) (nI rep) (nI slt) (nI qlm) (nI hlm) (nI (es_c h)) gv lt ls sp sv xa xt hd ln tn mk mf mt mi mn) ∧
        (¬ es_i (es_R h rep p p) ≤ need - nI (if es_T h p p b = t then es_L h p p b else 0) → wX_grant_106 post (nI p) (nI b) (nI t) (need - nI (if es_T h p p b = t then es_L h p p b else 0)) (need - nI (if es_T h p p b = t then es_L h p p b else 0)) (nI rep) (nI slt) (nI qlm) (nI hlm) (nI (es_c h)) gv lt ls sp sv xa xt hd ln tn mk mf mt mi mn)) →
      wpX_grant post (nI rep, nI slt, nI qlm, nI hlm, nI (es_c h), gv, lt, ls, sp, sv, xa, xt, hd, ln, tn, mk, mf, mt, mi, mn) (nI p) (nI b) (nI t) need := by
    intro post c1 c2 c3 c4 c5 c6 c7
    unfold wpX_grant
    dsimp only
    rw [ex_cell, es_cl68 (by omega) (by omega), es_cl272 (by omega) (by omega) (by omega), nI_clamp (by omega), a5, (X.2 p b (by omega) (by omega)).2, (es_XRg X (v := p) (by omega) (by omega) (by omega)).2.1]
    refine ⟨es_vp68 (by omega) (by omega), ?_⟩
    by_cases k1 : t ≤ es_T h p b 4
    · exact br_t (nI_le k1 (by omega)) (c1 k1)
    · refine br_f (nI_ge (by omega) (by omega)) ⟨es_vp272 (by omega) (by omega) (by omega), ?_⟩
      by_cases k2 : es_T h p p b ≤ t
      · refine br_t (nI_le k2 (by omega)) ⟨vr, ?_⟩
        by_cases k3 : l = 0
        · refine br_t (nI_le (b := 0) (by omega) (by omega)) (ex_lentFor X W (by omega) (by omega) (by omega) ht _ (nm_e ?_))
          by_cases k4 : (0 : Int32) < need - nI (if es_T h p p b = t then es_L h p p b else 0)
          · refine br_t k4 (ex_rights X h4 (by omega) hp _ ?_)
            have rg := es_R_rng H p p
            have r0 := H.2.2.2.2 p hp
            have lit : (0 : Int32) < es_i (es_R h rep p p) ↔ 0 < es_R h rep p p := es_i_lt (a := 0) (by omega) (by omega) (by omega) (by omega)
            by_cases k5 : 0 < es_R h rep p p
            · refine br_t (lit.mpr k5) (ex_full (by omega) (by omega) _ ?_)
              by_cases k6 : hlm ≤ es_c h
              · rw [decide_eq_true k6]
                exact br_f (by decide) (c6 k1 k2 k3 k4 k5 k6)
              · rw [decide_eq_false k6]
                exact br_t rfl (c7 k1 k2 k3 k4 k5 (by omega))
            · exact br_f (fun z => k5 (lit.mp z)) (c5 k1 k2 k3 k4 (by omega))
          · exact br_f k4 (c4 k1 k2 k3 k4)
        · exact br_f (nI_nle (by omega) (by omega)) (c3 k1 k2 k3)
      · exact br_f (nI_ge (by omega) (by omega)) (c2 k1 k2)
  have py : ∀ post : Int32 → SY → Prop,
      (t ≤ es_T h p b 4 → post 16 (nI rep, nI slt, nI qlm, nI hlm, nI (es_c h), yk, yo, yg, ya, yt, kn, ln, tn, wa, wt, mk, mf, mt, mi, mn)) → (¬ t ≤ es_T h p b 4 → ¬ es_T h p p b ≤ t → post 16 (nI rep, nI slt, nI qlm, nI hlm, nI (es_c h), yk, yo, yg, ya, yt, kn, ln, tn, wa, wt, mk, mf, mt, mi, mn)) →
      (¬ t ≤ es_T h p b 4 → es_T h p p b ≤ t → ¬ l = 0 → post 17 (nI rep, nI slt, nI qlm, nI hlm, nI (es_c h), yk, yo, yg, ya, yt, kn, ln, tn, wa, wt, mk, mf, mt, mi, mn)) →
      (¬ t ≤ es_T h p b 4 → es_T h p p b ≤ t → l = 0 → ¬ (0 : Int32) < need - nI (if es_T h p p b = t then es_L h p p b else 0) → post 15 (nI rep, nI slt, nI qlm, nI hlm, nI (es_c h), yk, yo, yg, ya, yt, kn, ln, tn, wa, wt, mk, mf, mt, mi, mn)) →
      (¬ t ≤ es_T h p b 4 → es_T h p p b ≤ t → l = 0 → (0 : Int32) < need - nI (if es_T h p p b = t then es_L h p p b else 0) → es_R h rep p p = 0 → post 18 (nI rep, nI slt, nI qlm, nI hlm, nI (es_c h), yk, yo, yg, ya, yt, kn, ln, tn, wa, wt, mk, mf, mt, mi, mn)) →
      (¬ t ≤ es_T h p b 4 → es_T h p p b ≤ t → l = 0 → (0 : Int32) < need - nI (if es_T h p p b = t then es_L h p p b else 0) → 0 < es_R h rep p p → hlm ≤ es_c h → post 19 (nI rep, nI slt, nI qlm, nI hlm, nI (es_c h), yk, yo, yg, ya, yt, kn, ln, tn, wa, wt, mk, mf, mt, mi, mn)) →
      (¬ t ≤ es_T h p b 4 → es_T h p p b ≤ t → l = 0 → (0 : Int32) < need - nI (if es_T h p p b = t then es_L h p p b else 0) → 0 < es_R h rep p p → es_c h < hlm →
        (es_i (es_R h rep p p) ≤ need - nI (if es_T h p p b = t then es_L h p p b else 0) → wY_grant_104 post (nI t) (need - nI (if es_T h p p b = t then es_L h p p b else 0)) (es_i (es_R h rep p p)) (es_i (es_R h rep p p)) (nI b) (nI p) 3 (nI rep) (nI slt) (nI qlm) (nI hlm) (nI (es_c h)) yk yo yg ya yt kn ln tn wa wt mk mf mt mi mn) ∧
        (¬ es_i (es_R h rep p p) ≤ need - nI (if es_T h p p b = t then es_L h p p b else 0) → wY_grant_104 post (nI t) (need - nI (if es_T h p p b = t then es_L h p p b else 0)) (es_i (es_R h rep p p)) (need - nI (if es_T h p p b = t then es_L h p p b else 0)) (nI b) (nI p) 3 (nI rep) (nI slt) (nI qlm) (nI hlm) (nI (es_c h)) yk yo yg ya yt kn ln tn wa wt mk mf mt mi mn)) →
      wpY_grant post (nI rep, nI slt, nI qlm, nI hlm, nI (es_c h), yk, yo, yg, ya, yt, kn, ln, tn, wa, wt, mk, mf, mt, mi, mn) (nI p) (nI b) (nI t) need := by
    intro post c1 c2 c3 c4 c5 c6 c7
    unfold wpY_grant
    dsimp only
    refine ey_gt Y H (by omega) (es_q_dec Y H p (by omega)) _ ?_
    show (nI t ≤ nI (es_T h p b 4) → _) ∧ (¬ nI t ≤ nI (es_T h p b 4) → _)
    by_cases k1 : t ≤ es_T h p b 4
    · exact br_t (nI_le k1 (by omega)) (c1 k1)
    · refine br_f (nI_ge (by omega) (by omega)) (ey_gt Y H (by omega) (es_q_mv Y H p (by omega) (by omega) hpb) _ ?_)
      show (nI (es_T h p p b) ≤ nI t → _) ∧ (¬ nI (es_T h p p b) ≤ nI t → _)
      by_cases k2 : es_T h p p b ≤ t
      · rw [nI_clamp (by omega), a5]
        refine br_t (nI_le k2 (by omega)) ⟨vr, ?_⟩
        by_cases k3 : l = 0
        · refine br_t (congrArg nI k3) (ey_lent Y H (by omega) (by omega) (by omega) hpb ht _ (nm_e ?_))
          by_cases k4 : (0 : Int32) < need - nI (if es_T h p p b = t then es_L h p p b else 0)
          · refine br_t k4 (ey_rights Y H (by omega) hp _ ?_)
            have rg := es_R_rng H p p
            have r0 := H.2.2.2.2 p hp
            have lit : es_i (es_R h rep p p) = 0 ↔ es_R h rep p p = 0 := es_i_eq (b := 0) (by omega) (by omega) (by omega) (by omega)
            by_cases k5 : 0 < es_R h rep p p
            · refine br_f (fun z => absurd (lit.mp z) (by omega)) (ey_full (by omega) (by omega) _ ?_)
              by_cases k6 : hlm ≤ es_c h
              · rw [decide_eq_true k6]
                exact br_f (by decide) (c6 k1 k2 k3 k4 k5 k6)
              · rw [decide_eq_false k6]
                exact br_t rfl (c7 k1 k2 k3 k4 k5 (by omega))
            · exact br_t (lit.mpr (by omega)) (c5 k1 k2 k3 k4 (by omega))
          · exact br_f k4 (c4 k1 k2 k3 k4)
        · exact br_f (nI_ne0 (by omega) (by omega)) (c3 k1 k2 k3)
      · exact br_f (nI_ge (by omega) (by omega)) (c2 k1 k2)
  by_cases k1 : t ≤ es_T h p b 4
  · exact ⟨16, h, gv, lt, ls, yk, yo, yg, ya, yt, kn, R0, fun post q => px post (fun _ => q) (fun z => absurd k1 z) (fun z => absurd k1 z) (fun z => absurd k1 z) (fun z => absurd k1 z) (fun z => absurd k1 z) (fun z => absurd k1 z),
      fun post q => py post (fun _ => q) (fun z => absurd k1 z) (fun z => absurd k1 z) (fun z => absurd k1 z) (fun z => absurd k1 z) (fun z => absurd k1 z) (fun z => absurd k1 z)⟩
  by_cases k2 : es_T h p p b ≤ t
  rotate_left
  · exact ⟨16, h, gv, lt, ls, yk, yo, yg, ya, yt, kn, R0, fun post q => px post (fun z => absurd z k1) (fun _ _ => q) (fun _ z => absurd z k2) (fun _ z => absurd z k2) (fun _ z => absurd z k2) (fun _ z => absurd z k2) (fun _ z => absurd z k2),
      fun post q => py post (fun z => absurd z k1) (fun _ _ => q) (fun _ z => absurd z k2) (fun _ z => absurd z k2) (fun _ z => absurd z k2) (fun _ z => absurd z k2) (fun _ z => absurd z k2)⟩
  by_cases k3 : l = 0
  rotate_left
  · exact ⟨17, h, gv, lt, ls, yk, yo, yg, ya, yt, kn, R0, fun post q => px post (fun z => absurd z k1) (fun _ z => absurd k2 z) (fun _ _ _ => q) (fun _ _ z => absurd z k3) (fun _ _ z => absurd z k3) (fun _ _ z => absurd z k3) (fun _ _ z => absurd z k3),
      fun post q => py post (fun z => absurd z k1) (fun _ z => absurd k2 z) (fun _ _ _ => q) (fun _ _ z => absurd z k3) (fun _ _ z => absurd z k3) (fun _ _ z => absurd z k3) (fun _ _ z => absurd z k3)⟩
  generalize need - nI (if es_T h p p b = t then es_L h p p b else 0) = mI at px py
  by_cases k4 : (0 : Int32) < mI
  rotate_left
  · exact ⟨15, h, gv, lt, ls, yk, yo, yg, ya, yt, kn, R0, fun post q => px post (fun z => absurd z k1) (fun _ z => absurd k2 z) (fun _ _ z => absurd k3 z) (fun _ _ _ _ => q) (fun _ _ _ z => absurd z k4) (fun _ _ _ z => absurd z k4) (fun _ _ _ z => absurd z k4),
      fun post q => py post (fun z => absurd z k1) (fun _ z => absurd k2 z) (fun _ _ z => absurd k3 z) (fun _ _ _ _ => q) (fun _ _ _ z => absurd z k4) (fun _ _ _ z => absurd z k4) (fun _ _ _ z => absurd z k4)⟩
  have r0 := H.2.2.2.2 p hp
  have rl := es_R_le H hp
  by_cases k5 : es_R h rep p p = 0
  · have k5' : ¬ 0 < es_R h rep p p := by omega
    exact ⟨18, h, gv, lt, ls, yk, yo, yg, ya, yt, kn, R0, fun post q => px post (fun z => absurd z k1) (fun _ z => absurd k2 z) (fun _ _ z => absurd k3 z) (fun _ _ _ z => absurd k4 z) (fun _ _ _ _ _ => q) (fun _ _ _ _ z => absurd z k5') (fun _ _ _ _ z => absurd z k5'),
      fun post q => py post (fun z => absurd z k1) (fun _ z => absurd k2 z) (fun _ _ z => absurd k3 z) (fun _ _ _ z => absurd k4 z) (fun _ _ _ _ _ => q) (fun _ _ _ _ z => absurd z k5') (fun _ _ _ _ z => absurd z k5')⟩
  by_cases k6 : hlm ≤ es_c h
  · have k6' : ¬ es_c h < hlm := by omega
    exact ⟨19, h, gv, lt, ls, yk, yo, yg, ya, yt, kn, R0, fun post q => px post (fun z => absurd z k1) (fun _ z => absurd k2 z) (fun _ _ z => absurd k3 z) (fun _ _ _ z => absurd k4 z) (fun _ _ _ _ z => absurd z k5) (fun _ _ _ _ _ _ => q) (fun _ _ _ _ _ z => absurd z k6'),
      fun post q => py post (fun z => absurd z k1) (fun _ z => absurd k2 z) (fun _ _ z => absurd k3 z) (fun _ _ _ z => absurd k4 z) (fun _ _ _ _ z => absurd z k5) (fun _ _ _ _ _ _ => q) (fun _ _ _ _ _ z => absurd z k6')⟩
  obtain ⟨mm, hm, rfl⟩ := nI_of (x := mI) (fun z => by
    rw [Int32.lt_iff_toInt_lt] at z k4
    omega)
  have m0 : 0 < mm := by
    rcases Nat.eq_zero_or_pos mm with z | z
    · subst z
      exact absurd k4 (by decide)
    · exact z
  obtain ⟨rn, hrn⟩ : ∃ rn : Nat, es_R h rep p p = (rn : Int) := ⟨(es_R h rep p p).toNat, by omega⟩
  have er : es_i (es_R h rep p p) = nI rn := by rw [hrn, es_i_nat]
  rw [er] at px py
  have kd : es_kd p b = 3 := (es_kd3 p b).mpr ⟨by omega, fun z => hpb z.symm⟩
  have ti : es_tI p b = nI b := (es_tI_eq (by omega) (by omega)).mpr ⟨by omega, rfl⟩
  by_cases le : rn ≤ mm
  · obtain ⟨gv', lt', ls', yk', yo', yg', ya', yt', kn', d1, d2, d3⟩ := es_both_gift (mn := mn) R0 (o := p) (b := b) (w := rn) (t := t) (by omega) hp hb (by omega) (by omega) (fun z => absurd z.symm hpb) ht (fun _ => by omega) 3 (nI b) kd ti
    refine ⟨if rn = mm then 13 else 14, es_add h p b rn t, gv', lt', ls', yk', yo', yg', ya', yt', kn', d1, fun post q => ?_, fun post q => ?_⟩
    · refine px post (fun z => absurd z k1) (fun _ z => absurd k2 z) (fun _ _ z => absurd k3 z) (fun _ _ _ z => absurd k4 z) (fun _ _ _ _ z => absurd z k5) (fun _ _ _ _ _ z => absurd z k6) (fun _ _ _ _ _ _ => br_t (nI_le le (by omega)) ?_)
      unfold wX_grant_106
      refine d2 _ ?_
      by_cases z : rn = mm
      · rw [if_pos z] at q
        exact br_t (congrArg nI z) q
      · rw [if_neg z] at q
        exact br_f (fun y => z ((nI_eq (by omega) (by omega)).mp y)) q
    · refine py post (fun z => absurd z k1) (fun _ z => absurd k2 z) (fun _ _ z => absurd k3 z) (fun _ _ _ z => absurd k4 z) (fun _ _ _ _ z => absurd z k5) (fun _ _ _ _ _ z => absurd z k6) (fun _ _ _ _ _ _ => br_t (nI_le le (by omega)) ?_)
      unfold wY_grant_104
      refine d3 _ ?_
      by_cases z : rn = mm
      · rw [if_pos z] at q
        exact br_f (nI_nlt (by omega) (by omega)) q
      · rw [if_neg z] at q
        exact br_t (nI_lt (by omega) (by omega)) q
  · obtain ⟨gv', lt', ls', yk', yo', yg', ya', yt', kn', d1, d2, d3⟩ := es_both_gift (mn := mn) R0 (o := p) (b := b) (w := mm) (t := t) (by omega) hp hb (by omega) (by omega) (fun z => absurd z.symm hpb) ht (fun _ => by omega) 3 (nI b) kd ti
    refine ⟨13, es_add h p b mm t, gv', lt', ls', yk', yo', yg', ya', yt', kn', d1, fun post q => ?_, fun post q => ?_⟩
    · refine px post (fun z => absurd z k1) (fun _ z => absurd k2 z) (fun _ _ z => absurd k3 z) (fun _ _ _ z => absurd k4 z) (fun _ _ _ _ z => absurd z k5) (fun _ _ _ _ _ z => absurd z k6) (fun _ _ _ _ _ _ => br_f (nI_ge (by omega) (by omega)) ?_)
      unfold wX_grant_106
      refine d2 _ ?_
      exact br_t rfl q
    · refine py post (fun z => absurd z k1) (fun _ z => absurd k2 z) (fun _ _ z => absurd k3 z) (fun _ _ _ z => absurd k4 z) (fun _ _ _ _ z => absurd z k5) (fun _ _ _ _ _ z => absurd z k6) (fun _ _ _ _ _ _ => br_f (nI_ge (by omega) (by omega)) ?_)
      unfold wY_grant_104
      refine d3 _ ?_
      exact br_f (nI_nlt (by omega) (by omega)) q
end
section
section
variable {rp sl ql hl ct : Int32} {gv lt ls sp sv xa xt hd ln tn mk mf mt mi mn yk yo yg ya yt kn wa wt : Nat → Int32}
theorem es_ck (v1 : Int32) {n : Nat} (hn : n < 2 ^ 31) : (v1 < 0 ∨ nI n ≤ v1) ∨ ∃ j : Nat, j < n ∧ v1 = nI j := by
  rcases pk_ix v1 hn with a | a | a
  · exact Or.inl (Or.inl a)
  · exact Or.inl (Or.inr a)
  · exact Or.inr a
theorem es_bad {v1 x : Int32} {P Q : Prop} (hb : v1 < 0 ∨ x ≤ v1) (hp : P) : (v1 < 0 → P) ∧ (¬ v1 < 0 → ((v1 < x → Q) ∧ (¬ v1 < x → P))) := by
  by_cases e : v1 < 0
  · exact br_t e hp
  · exact br_f e (br_f (Int32.not_lt.mpr (hb.resolve_left e)) hp)
theorem es_good {j n : Nat} {P Q : Prop} (hj : j < n) (hn : n < 2 ^ 31) (hp : P) : (nI j < 0 → Q) ∧ (¬ nI j < 0 → ((nI j < nI n → P) ∧ (¬ nI j < nI n → Q))) :=
  br_f (nI_pos (by omega)) (br_t (nI_lt hj hn) hp)
theorem ex_ckR_b {rep : Nat} {v1 : Int32} (hb : v1 < 0 ∨ nI rep ≤ v1) (post : Int32 → Prop) (hp : post 1) : wpX_badReplica post (nI rep, sl, ql, hl, ct, gv, lt, ls, sp, sv, xa, xt, hd, ln, tn, mk, mf, mt, mi, mn) v1 := es_bad hb hp
theorem ex_ckR_g {rep j : Nat} (h4 : rep ≤ 4) (hj : j < rep) (post : Int32 → Prop) (hp : post 0) : wpX_badReplica post (nI rep, sl, ql, hl, ct, gv, lt, ls, sp, sv, xa, xt, hd, ln, tn, mk, mf, mt, mi, mn) (nI j) := es_good hj (by omega) hp
theorem ey_ckR_b {rep : Nat} {v1 : Int32} (hb : v1 < 0 ∨ nI rep ≤ v1) (post : Int32 → Prop) (hp : post 1) : wpY_badReplica post (nI rep, sl, ql, hl, ct, yk, yo, yg, ya, yt, kn, ln, tn, wa, wt, mk, mf, mt, mi, mn) v1 := es_bad hb hp
theorem ey_ckR_g {rep j : Nat} (h4 : rep ≤ 4) (hj : j < rep) (post : Int32 → Prop) (hp : post 0) : wpY_badReplica post (nI rep, sl, ql, hl, ct, yk, yo, yg, ya, yt, kn, ln, tn, wa, wt, mk, mf, mt, mi, mn) (nI j) := es_good hj (by omega) hp
theorem ex_ckS_b {slt : Nat} {v1 : Int32} (hb : v1 < 0 ∨ nI slt ≤ v1) (post : Int32 → Prop) (hp : post 1) : wpX_badSlot post (rp, nI slt, ql, hl, ct, gv, lt, ls, sp, sv, xa, xt, hd, ln, tn, mk, mf, mt, mi, mn) v1 := es_bad hb hp
theorem ex_ckS_g {slt j : Nat} (h4 : slt ≤ 12) (hj : j < slt) (post : Int32 → Prop) (hp : post 0) : wpX_badSlot post (rp, nI slt, ql, hl, ct, gv, lt, ls, sp, sv, xa, xt, hd, ln, tn, mk, mf, mt, mi, mn) (nI j) := es_good hj (by omega) hp
theorem ey_ckS_b {slt : Nat} {v1 : Int32} (hb : v1 < 0 ∨ nI slt ≤ v1) (post : Int32 → Prop) (hp : post 1) : wpY_badSlot post (rp, nI slt, ql, hl, ct, yk, yo, yg, ya, yt, kn, ln, tn, wa, wt, mk, mf, mt, mi, mn) v1 := es_bad hb hp
theorem ey_ckS_g {slt j : Nat} (h4 : slt ≤ 12) (hj : j < slt) (post : Int32 → Prop) (hp : post 0) : wpY_badSlot post (rp, nI slt, ql, hl, ct, yk, yo, yg, ya, yt, kn, ln, tn, wa, wt, mk, mf, mt, mi, mn) (nI j) := es_good hj (by omega) hp
theorem es_ckA (v2 : Int32) : (v2 < 1 ∨ ¬ v2 ≤ 1000) ∨ ∃ w : Nat, 1 ≤ w ∧ w ≤ 1000 ∧ v2 = nI w := by
  by_cases a : v2 < 1
  · exact Or.inl (Or.inl a)
  · by_cases b : v2 ≤ 1000
    · rw [Int32.lt_iff_toInt_lt, show (1 : Int32).toInt = 1 from by decide] at a
      have b' := b
      rw [Int32.le_iff_toInt_le, show (1000 : Int32).toInt = 1000 from by decide] at b'
      obtain ⟨j, hj, rfl⟩ := nI_of (x := v2) (by rw [Int32.lt_iff_toInt_lt, show (0 : Int32).toInt = 0 from by decide]; omega)
      rw [nI_toInt hj] at a b'
      exact Or.inr ⟨j, by omega, by omega, rfl⟩
    · exact Or.inl (Or.inr b)
theorem es_badA {v2 : Int32} {P Q : Prop} (hb : v2 < 1 ∨ ¬ v2 ≤ 1000) (hp : P) : (v2 < 1 → P) ∧ (¬ v2 < 1 → ((v2 ≤ 1000 → Q) ∧ (¬ v2 ≤ 1000 → P))) := by
  by_cases e : v2 < 1
  · exact br_t e hp
  · exact br_f e (br_f (hb.resolve_left e) hp)
theorem es_goodA {w : Nat} {P Q : Prop} (h1 : 1 ≤ w) (h2 : w ≤ 1000) (hp : P) : (nI w < 1 → Q) ∧ (¬ nI w < 1 → ((nI w ≤ 1000 → P) ∧ (¬ nI w ≤ 1000 → Q))) :=
  br_f (nI_nlt (b := 1) h1 (by omega)) (br_t (nI_le (b := 1000) h2 (by omega)) hp)
theorem ex_ckA_b {v2 : Int32} (hb : v2 < 1 ∨ ¬ v2 ≤ 1000) (post : Int32 → Prop) (hp : post 1) : wpX_badAmount post (rp, sl, ql, hl, ct, gv, lt, ls, sp, sv, xa, xt, hd, ln, tn, mk, mf, mt, mi, mn) v2 := es_badA hb hp
theorem ex_ckA_g {w : Nat} (h1 : 1 ≤ w) (h2 : w ≤ 1000) (post : Int32 → Prop) (hp : post 0) : wpX_badAmount post (rp, sl, ql, hl, ct, gv, lt, ls, sp, sv, xa, xt, hd, ln, tn, mk, mf, mt, mi, mn) (nI w) := es_goodA h1 h2 hp
theorem ey_ckA_b {v2 : Int32} (hb : v2 < 1 ∨ ¬ v2 ≤ 1000) (post : Int32 → Prop) (hp : post 1) : wpY_badAmount post (rp, sl, ql, hl, ct, yk, yo, yg, ya, yt, kn, ln, tn, wa, wt, mk, mf, mt, mi, mn) v2 := es_badA hb hp
theorem ey_ckA_g {w : Nat} (h1 : 1 ≤ w) (h2 : w ≤ 1000) (post : Int32 → Prop) (hp : post 0) : wpY_badAmount post (rp, sl, ql, hl, ct, yk, yo, yg, ya, yt, kn, ln, tn, wa, wt, mk, mf, mt, mi, mn) (nI w) := es_goodA h1 h2 hp
/-! views -/
def es_vw (rep slt : Nat) (mk : Nat → Int32) (v : Nat) : Prop := v = 16 ∨ v < rep ∨ ∃ s, s < slt ∧ v = 4 + s ∧ ¬ mk s = 0
theorem es_vw17 {rep slt v : Nat} (h4 : rep ≤ 4) (hs : slt ≤ 12) (hv : es_vw rep slt mk v) : v < 17 := by
  rcases hv with a | a | ⟨s, a, b, _⟩ <;> omega
theorem es_ckV (rep slt : Nat) (mk : Nat → Int32) (v1 : Int32) : (¬ ∃ v, es_vw rep slt mk v ∧ v1 = nI v) ∨ ∃ v, es_vw rep slt mk v ∧ v1 = nI v := (Classical.em _).symm
theorem ex_ckV_g {rep slt v : Nat} (h4 : rep ≤ 4) (hs : slt ≤ 12) (hv : es_vw rep slt mk v) (post : Int32 → Prop) (hp : post 0) : wpX_badView post (nI rep, nI slt, ql, hl, ct, gv, lt, ls, sp, sv, xa, xt, hd, ln, tn, mk, mf, mt, mi, mn) (nI v) := by
  unfold wpX_badView
  dsimp only
  by_cases e : v = 16
  · exact br_t (congrArg nI e) hp
  · have v17 := es_vw17 h4 hs hv
    refine br_f (fun z => e ((nI_eq (b := 16) (by omega) (by omega)).mp z)) ?_
    by_cases q : v < rep
    · exact br_f (nI_ge (b := 4) (by omega) (by omega)) (ex_ckR_g h4 q _ ⟨rfl, hp⟩)
    · obtain ⟨s, a, b, c⟩ : ∃ s, s < slt ∧ v = 4 + s ∧ ¬ mk s = 0 := by
        rcases hv with z | z | z
        · exact absurd z e
        · exact absurd z q
        · exact z
      refine br_t (nI_le (a := 4) (by omega) (by omega)) (nm_r (e' := nI s) ?_ (ex_ckS_g hs a _ (br_t rfl ⟨vp_in_nI (by omega) (by omega), ?_⟩)))
      · show nI v - nI 4 = nI s
        rw [pk_sub (by omega)]
        exact congrArg nI (by omega)
      · rw [nI_clamp (by omega)]
        exact br_f c hp
theorem ex_ckV_b {rep slt : Nat} {v1 : Int32} (h4 : rep ≤ 4) (hs : slt ≤ 12) (hv : ¬ ∃ v, es_vw rep slt mk v ∧ v1 = nI v) (post : Int32 → Prop) (hp : post 1) : wpX_badView post (nI rep, nI slt, ql, hl, ct, gv, lt, ls, sp, sv, xa, xt, hd, ln, tn, mk, mf, mt, mi, mn) v1 := by
  unfold wpX_badView
  dsimp only
  refine br_f (fun z => hv ⟨16, Or.inl rfl, z⟩) ?_
  by_cases q : 4 ≤ v1
  · refine br_t q ?_
    obtain ⟨j, hj, rfl⟩ := nI_of (x := v1) (Int32.not_lt.mpr (Int32.le_trans (by decide) q))
    have j4 : 4 ≤ j := (nI_leI (a := 4) (by omega) hj).mp q
    refine nm_r (e' := nI (j - 4)) (pk_sub (b := 4) (by omega)) ?_
    by_cases z : j - 4 < slt
    · refine ex_ckS_g hs z _ (br_t rfl ⟨vp_in_nI (by omega) (by omega), ?_⟩)
      rw [nI_clamp (by omega)]
      by_cases y : mk (j - 4) = 0
      · exact br_t y hp
      · exact absurd ⟨j, Or.inr (Or.inr ⟨j - 4, z, by omega, y⟩), rfl⟩ hv
    · exact ex_ckS_b (Or.inr (nI_le (by omega) (by omega))) _ (br_f (by decide) hp)
  · refine br_f q ?_
    rcases es_ck v1 (n := rep) (by omega) with z | ⟨j, hj, rfl⟩
    · exact ex_ckR_b z _ ⟨rfl, hp⟩
    · exact absurd ⟨j, Or.inr (Or.inl hj), rfl⟩ hv
theorem ey_ckV_32 {rep : Nat} {v1 : Int32} (h4 : rep ≤ 4) (q : Bool) (hq : q = true ↔ (v1 = 16 ∨ ∃ j, j < rep ∧ v1 = nI j)) (post : Int32 → Prop) (hp : post (es_b (!q))) : wY_badView_32 post v1 (nI rep) sl ql hl ct yk yo yg ya yt kn ln tn wa wt mk mf mt mi mn := by
  have qt : q = true → post 0 := fun z => by rw [z] at hp; exact hp
  have qf : ¬ q = true → post 1 := fun z => by
    have e : q = false := by cases y : q; rfl; exact absurd y z
    rw [e] at hp; exact hp
  unfold wY_badView_32
  by_cases e : v1 = 16
  · exact br_t e (qt (hq.mpr (Or.inl e)))
  · refine br_f e ?_
    rcases es_ck v1 (n := rep) (by omega) with z | ⟨j, hj, rfl⟩
    · refine es_bad z (qf fun y => ?_)
      rcases hq.mp y with x | ⟨j, hj, rfl⟩
      · exact e x
      · rcases z with z | z
        · exact nI_pos (by omega) z
        · exact nI_ge hj (by omega) z
    · exact es_good hj (by omega) (qt (hq.mpr (Or.inr ⟨j, hj, rfl⟩)))
theorem ey_ckV_g {rep slt v : Nat} (h4 : rep ≤ 4) (hs : slt ≤ 12) (hv : es_vw rep slt mk v) (post : Int32 → Prop) (hp : post 0) : wpY_badView post (nI rep, nI slt, ql, hl, ct, yk, yo, yg, ya, yt, kn, ln, tn, wa, wt, mk, mf, mt, mi, mn) (nI v) := by
  have v17 := es_vw17 h4 hs hv
  unfold wpY_badView
  dsimp only
  by_cases q : v < 4
  · refine br_t (nI_lt (b := 4) q (by omega)) (ey_ckV_32 h4 true ⟨fun _ => ?_, fun _ => rfl⟩ post hp)
    rcases hv with z | z | ⟨s, a, b, c⟩
    · omega
    · exact Or.inr ⟨v, z, rfl⟩
    · omega
  · refine br_f (nI_nlt (b := 4) (by omega) (by omega)) ?_
    rw [es_4p]
    by_cases z : 4 + slt ≤ v
    · refine br_t (nI_le z (by omega)) (ey_ckV_32 h4 true ⟨fun _ => ?_, fun _ => rfl⟩ post hp)
      rcases hv with z | z | ⟨s, a, b, c⟩
      · exact Or.inl (congrArg nI z)
      · omega
      · omega
    · refine br_f (nI_ge (by omega) (by omega)) ?_
      have e : nI v - 4 = nI (v - 4) := pk_sub (b := 4) (by omega)
      rw [e, nI_clamp (by omega)]
      refine ⟨vp_in_nI (by omega) (by omega), br_f ?_ hp⟩
      rcases hv with z | z | ⟨s, a, b, c⟩
      · omega
      · omega
      · subst b
        rw [show 4 + s - 4 = s by omega]
        exact c
theorem ey_ckV_b {rep slt : Nat} {v1 : Int32} (h4 : rep ≤ 4) (hs : slt ≤ 12) (hv : ¬ ∃ v, es_vw rep slt mk v ∧ v1 = nI v) (post : Int32 → Prop) (hp : post 1) : wpY_badView post (nI rep, nI slt, ql, hl, ct, yk, yo, yg, ya, yt, kn, ln, tn, wa, wt, mk, mf, mt, mi, mn) v1 := by
  have no : false = true ↔ (v1 = 16 ∨ ∃ j, j < rep ∧ v1 = nI j) := by
    refine ⟨fun z => Bool.noConfusion z, fun z => ?_⟩
    rcases z with z | ⟨j, hj, z⟩
    · exact absurd ⟨16, Or.inl rfl, z⟩ hv
    · exact absurd ⟨j, Or.inr (Or.inl hj), z⟩ hv
  unfold wpY_badView
  dsimp only
  by_cases q : v1 < 4
  · exact br_t q (ey_ckV_32 h4 false no post hp)
  · refine br_f q ?_
    obtain ⟨j, hj, rfl⟩ := nI_of (x := v1) (fun z => q (Int32.lt_trans z (by decide)))
    have j4 : 4 ≤ j := Nat.le_of_not_lt fun z => q (nI_lt (b := 4) z (by omega))
    rw [es_4p]
    by_cases z : 4 + slt ≤ j
    · exact br_t (nI_le z (by omega)) (ey_ckV_32 h4 false no post hp)
    · refine br_f (nI_ge (by omega) (by omega)) ?_
      have e : nI j - 4 = nI (j - 4) := pk_sub (b := 4) (by omega)
      rw [e, nI_clamp (by omega)]
      refine ⟨vp_in_nI (by omega) (by omega), br_t ?_ hp⟩
      apply Classical.byContradiction
      intro y
      exact hv ⟨j, Or.inr (Or.inr ⟨j - 4, by omega, by omega, y⟩), rfl⟩
end
end
section
theorem es_T_diag {rep : Nat} {h : es_H} (W : es_W1 rep h) (v a : Nat) : es_T h v a a = 0 ∧ es_L h v a a = 0 := by
  have t : es_T h v a a = 0 := by
    rcases es_mx_att (es_P h v a a) (es_tk h) (es_c h) with z | ⟨j, h1, h2, h3⟩
    · exact z
    · rw [es_P_iff] at h2
      have q := ((W j h1).2.2.2.2.1 (h2.2.2.trans h2.2.1.symm)).2
      show es_mx _ _ _ = 0
      rw [← h3, q]
  refine ⟨t, ?_⟩
  unfold es_L es_ls
  exact if_pos t
section
variable {rep slt qlm hlm : Nat} {h : es_H} {gv lt ls sp sv xa xt hd ln tn mk mf mt mi mn yk yo yg ya yt kn wa wt : Nat → Int32} {k : Nat}
theorem ex_value_14 {v : Nat} (X : es_XR h gv lt ls sp sv) (h4 : rep ≤ 4) (hv : v < 17) (post : Int32 → Prop)
    (hp : post (es_i ((es_sg (fun s => es_S h v s s) rep : Int) - es_sg (fun s => es_S h v s 4) rep))) :
    ∀ d o, o + d = rep → wX_value_14 post (nI v) (nI rep) (nI slt) (nI qlm) (nI hlm) (nI (es_c h)) gv lt ls sp sv xa xt hd ln tn mk mf mt mi mn (d + 1) (es_i ((es_sg (fun s => es_S h v s s) o : Int) - es_sg (fun s => es_S h v s 4) o)) (nI o) := by
  intro d
  induction d with
  | zero =>
    intro o e
    have e' : o = rep := e
    subst e'
    exact br_t (nI_le (Nat.le_refl _) (by omega)) hp
  | succ d ih =>
    intro o e
    refine br_f (nI_ge (by omega) (by omega)) ?_
    rw [ex_cell]
    refine ⟨es_vp272 hv (by omega) (by omega), es_vp68 hv (by omega), nm_r (e' := es_i ((es_sg (fun s => es_S h v s s) (o + 1) : Int) - es_sg (fun s => es_S h v s 4) (o + 1))) ?_ (nm_r (nI_1 o) (ih (o + 1) (by omega)))⟩
    rw [es_cl272 hv (by omega) (by omega), es_cl68 hv (by omega), (es_XRg X hv (by omega) (by omega)).1, (X.2 v o hv (by omega)).1, es_i_acc]
    refine congrArg es_i ?_
    simp only [es_sg]
    omega
theorem es_m_value (R : es_Rel k rep slt qlm hlm h gv lt ls sp sv xa xt hd ln tn mk mf mt mi yk yo yg ya yt kn wa wt) (v1 : Int32) : ∃ r : Int32, (∀ post : Int32 → Prop, post r → wpX_value post (nI rep, nI slt, nI qlm, nI hlm, nI (es_c h), gv, lt, ls, sp, sv, xa, xt, hd, ln, tn, mk, mf, mt, mi, mn) v1) ∧ (∀ post : Int32 → Prop, post r → wpY_value post (nI rep, nI slt, nI qlm, nI hlm, nI (es_c h), yk, yo, yg, ya, yt, kn, ln, tn, wa, wt, mk, mf, mt, mi, mn) v1) := by
  obtain ⟨⟨r1, r2, r3, r4⟩, H, X, Y, Q, M⟩ := R
  have h4 := H.1
  rcases es_ckV rep slt mk v1 with hb | ⟨v, hv, rfl⟩
  · refine ⟨-1, fun post hp => ?_, fun post hp => ?_⟩
    · unfold wpX_value
      dsimp only
      exact ex_ckV_b h4 r2 hb _ (br_f (by decide) hp)
    · unfold wpY_value
      dsimp only
      exact ey_ckV_b h4 r2 hb _ (br_f (by decide) hp)
  · have v17 := es_vw17 h4 r2 hv
    refine ⟨es_i ((es_sg (fun s => es_S h v s s) rep : Int) - es_sg (fun s => es_S h v s 4) rep), fun post hp => ?_, fun post hp => ?_⟩
    · unfold wpX_value
      dsimp only
      exact ex_ckV_g h4 r2 hv _ (br_t rfl ⟨rep + 1, ex_value_14 X h4 v17 post hp rep 0 (by omega)⟩)
    · unfold wpY_value
      dsimp only
      refine ey_ckV_g h4 r2 hv _ (br_t rfl ?_)
      refine ey_sum Y H v17 (es_q_incs Y H v) _ (ey_sum Y H v17 (es_q_decs Y H v) _ ?_)
      rw [← es_inc_sm H.2.2.1, ← es_dec_sm H.2.2.1, ← es_i_nat, ← es_i_nat, es_i_sub]
      exact hp
theorem es_ck2 (v3 : Int32) {n : Nat} (hn : n < 2 ^ 31) : (v3 < 0 ∨ ¬ v3 ≤ nI n) ∨ ∃ j : Nat, j ≤ n ∧ v3 = nI j := by
  by_cases a : v3 < 0
  · exact Or.inl (Or.inl a)
  · obtain ⟨j, hj, rfl⟩ := nI_of a
    by_cases b : j ≤ n
    · exact Or.inr ⟨j, b, rfl⟩
    · exact Or.inl (Or.inr (nI_ge (by omega) hj))
theorem es_bad2 {v3 x : Int32} {P Q : Prop} (hb : v3 < 0 ∨ ¬ v3 ≤ x) (hp : P) : (v3 < 0 → P) ∧ (¬ v3 < 0 → ((v3 ≤ x → Q) ∧ (¬ v3 ≤ x → P))) := by
  by_cases e : v3 < 0
  · exact br_t e hp
  · exact br_f e (br_f (hb.resolve_left e) hp)
theorem es_good2 {j n : Nat} {P Q : Prop} (hj : j ≤ n) (hn : n < 2 ^ 31) (hp : P) : (nI j < 0 → Q) ∧ (¬ nI j < 0 → ((nI j ≤ nI n → P) ∧ (¬ nI j ≤ nI n → Q))) :=
  br_f (nI_pos (by omega)) (br_t (nI_le hj hn) hp)
theorem es_m_tally (R : es_Rel k rep slt qlm hlm h gv lt ls sp sv xa xt hd ln tn mk mf mt mi yk yo yg ya yt kn wa wt) (v1 v2 v3 : Int32) : ∃ r : Int32, (∀ post : Int32 → Prop, post r → wpX_tally post (nI rep, nI slt, nI qlm, nI hlm, nI (es_c h), gv, lt, ls, sp, sv, xa, xt, hd, ln, tn, mk, mf, mt, mi, mn) v1 v2 v3) ∧ (∀ post : Int32 → Prop, post r → wpY_tally post (nI rep, nI slt, nI qlm, nI hlm, nI (es_c h), yk, yo, yg, ya, yt, kn, ln, tn, wa, wt, mk, mf, mt, mi, mn) v1 v2 v3) := by
  obtain ⟨⟨r1, r2, r3, r4⟩, H, X, Y, Q, M⟩ := R
  have h4 := H.1
  rcases es_ckV rep slt mk v1 with hb | ⟨v, hv, rfl⟩
  · refine ⟨-1, fun post hp => ?_, fun post hp => ?_⟩
    · unfold wpX_tally
      dsimp only
      exact ex_ckV_b h4 r2 hb _ (br_f (by decide) hp)
    · unfold wpY_tally
      dsimp only
      exact ey_ckV_b h4 r2 hb _ (br_f (by decide) hp)
  have v17 := es_vw17 h4 r2 hv
  rcases es_ck v2 (n := rep) (by omega) with hb | ⟨s, hs, rfl⟩
  · refine ⟨-1, fun post hp => ?_, fun post hp => ?_⟩
    · unfold wpX_tally
      dsimp only
      exact ex_ckV_g h4 r2 hv _ (br_t rfl (ex_ckR_b hb _ (br_f (by decide) hp)))
    · unfold wpY_tally
      dsimp only
      exact ey_ckV_g h4 r2 hv _ (br_t rfl (ey_ckR_b hb _ (br_f (by decide) hp)))
  rcases es_ck2 v3 (n := 2) (by omega) with hb | ⟨j, hj, rfl⟩
  · refine ⟨-1, fun post hp => ?_, fun post hp => ?_⟩
    · unfold wpX_tally
      dsimp only
      exact ex_ckV_g h4 r2 hv _ (br_t rfl (ex_ckR_g h4 hs _ (br_t rfl (es_bad2 hb hp))))
    · unfold wpY_tally
      dsimp only
      exact ey_ckV_g h4 r2 hv _ (br_t rfl (ey_ckR_g h4 hs _ (br_t rfl (es_bad2 hb hp))))
  refine ⟨if j = 0 then es_i (es_R h rep v s) else if j = 1 then nI (es_S h v s 4) else nI (es_T h v s 4), fun post hp => ?_, fun post hp => ?_⟩
  · unfold wpX_tally
    dsimp only
    refine ex_ckV_g h4 r2 hv _ (br_t rfl (ex_ckR_g h4 hs _ (br_t rfl (es_good2 (n := 2) hj (by omega) ?_))))
    by_cases j0 : j = 0
    · rw [if_pos j0] at hp
      exact br_t (congrArg nI j0) (ex_rights X h4 v17 hs _ hp)
    · rw [if_neg j0] at hp
      refine br_f (nI_ne0 (by omega) (by omega)) (nm_r (es_ix4 v s) ?_)
      rw [nI_clamp (by omega), (X.2 v s v17 (by omega)).1, (X.2 v s v17 (by omega)).2]
      by_cases j1 : j = 1
      · rw [if_pos j1] at hp
        exact br_t (congrArg nI j1) ⟨vp_in_nI (by omega) (by omega), hp⟩
      · rw [if_neg j1] at hp
        exact br_f (fun z => j1 ((nI_eq (b := 1) (by omega) (by omega)).mp z)) ⟨vp_in_nI (by omega) (by omega), hp⟩
  · unfold wpY_tally
    dsimp only
    refine ey_ckV_g h4 r2 hv _ (br_t rfl (ey_ckR_g h4 hs _ (br_t rfl (es_good2 (n := 2) hj (by omega) ?_))))
    by_cases j0 : j = 0
    · rw [if_pos j0] at hp
      exact br_t (congrArg nI j0) (ey_rights Y H v17 hs _ hp)
    · rw [if_neg j0] at hp
      refine br_f (nI_ne0 (by omega) (by omega)) ?_
      by_cases j1 : j = 1
      · rw [if_pos j1] at hp
        exact br_t (congrArg nI j1) (ey_sum Y H v17 (es_q_dec Y H v (by omega)) _ hp)
      · rw [if_neg j1] at hp
        exact br_f (fun z => j1 ((nI_eq (b := 1) (by omega) (by omega)).mp z)) (ey_gt Y H v17 (es_q_dec Y H v (by omega)) _ hp)
theorem es_m_account (R : es_Rel k rep slt qlm hlm h gv lt ls sp sv xa xt hd ln tn mk mf mt mi yk yo yg ya yt kn wa wt) (v1 v2 v3 v4 : Int32) : ∃ r : Int32, (∀ post : Int32 → Prop, post r → wpX_account post (nI rep, nI slt, nI qlm, nI hlm, nI (es_c h), gv, lt, ls, sp, sv, xa, xt, hd, ln, tn, mk, mf, mt, mi, mn) v1 v2 v3 v4) ∧ (∀ post : Int32 → Prop, post r → wpY_account post (nI rep, nI slt, nI qlm, nI hlm, nI (es_c h), yk, yo, yg, ya, yt, kn, ln, tn, wa, wt, mk, mf, mt, mi, mn) v1 v2 v3 v4) := by
  obtain ⟨⟨r1, r2, r3, r4⟩, H, X, Y, Q, M⟩ := R
  have h4 := H.1
  rcases es_ckV rep slt mk v1 with hb | ⟨v, hv, rfl⟩
  · refine ⟨-1, fun post hp => ?_, fun post hp => ?_⟩
    · unfold wpX_account
      dsimp only
      exact ex_ckV_b h4 r2 hb _ (br_f (by decide) hp)
    · unfold wpY_account
      dsimp only
      exact ey_ckV_b h4 r2 hb _ (br_f (by decide) hp)
  have v17 := es_vw17 h4 r2 hv
  rcases es_ck v2 (n := rep) (by omega) with hb | ⟨a, ha, rfl⟩
  · refine ⟨-1, fun post hp => ?_, fun post hp => ?_⟩
    · unfold wpX_account
      dsimp only
      exact ex_ckV_g h4 r2 hv _ (br_t rfl (ex_ckR_b hb _ (br_f (by decide) hp)))
    · unfold wpY_account
      dsimp only
      exact ey_ckV_g h4 r2 hv _ (br_t rfl (ey_ckR_b hb _ (br_f (by decide) hp)))
  rcases es_ck v3 (n := rep) (by omega) with hb | ⟨b, hbb, rfl⟩
  · refine ⟨-1, fun post hp => ?_, fun post hp => ?_⟩
    · unfold wpX_account
      dsimp only
      exact ex_ckV_g h4 r2 hv _ (br_t rfl (ex_ckR_g h4 ha _ (br_t rfl (ex_ckR_b hb _ (br_f (by decide) hp)))))
    · unfold wpY_account
      dsimp only
      exact ey_ckV_g h4 r2 hv _ (br_t rfl (ey_ckR_g h4 ha _ (br_t rfl (ey_ckR_b hb _ (br_f (by decide) hp)))))
  rcases es_ck2 v4 (n := 2) (by omega) with hb | ⟨j, hj, rfl⟩
  · refine ⟨-1, fun post hp => ?_, fun post hp => ?_⟩
    · unfold wpX_account
      dsimp only
      exact ex_ckV_g h4 r2 hv _ (br_t rfl (ex_ckR_g h4 ha _ (br_t rfl (ex_ckR_g h4 hbb _ (br_t rfl (es_bad2 hb hp))))))
    · unfold wpY_account
      dsimp only
      exact ey_ckV_g h4 r2 hv _ (br_t rfl (ey_ckR_g h4 ha _ (br_t rfl (ey_ckR_g h4 hbb _ (br_t rfl (es_bad2 hb hp))))))
  have dg := es_T_diag H.2.2.1 v a
  refine ⟨if j = 0 then nI (es_S h v a b) else if j = 1 then nI (es_T h v a b) else nI (es_L h v a b), fun post hp => ?_, fun post hp => ?_⟩
  · unfold wpX_account
    dsimp only
    refine ex_ckV_g h4 r2 hv _ (br_t rfl (ex_ckR_g h4 ha _ (br_t rfl (ex_ckR_g h4 hbb _ (br_t rfl (es_good2 (n := 2) hj (by omega) ?_))))))
    obtain ⟨x1, x2, x3⟩ := es_XRg X v17 (a := a) (b := b) (by omega) (by omega)
    have vi := es_vp272 v17 (a := a) (b := b) (by omega) (by omega)
    rw [ex_cell, es_cl272 v17 (by omega) (by omega), x1, x2, x3]
    by_cases j0 : j = 0
    · rw [if_pos j0] at hp
      exact br_t (congrArg nI j0) ⟨vi, hp⟩
    · rw [if_neg j0] at hp
      refine br_f (nI_ne0 (by omega) (by omega)) ?_
      by_cases j1 : j = 1
      · rw [if_pos j1] at hp
        exact br_t (congrArg nI j1) ⟨vi, hp⟩
      · rw [if_neg j1] at hp
        exact br_f (fun z => j1 ((nI_eq (b := 1) (by omega) (by omega)).mp z)) ⟨vi, hp⟩
  · unfold wpY_account
    dsimp only
    refine ey_ckV_g h4 r2 hv _ (br_t rfl (ey_ckR_g h4 ha _ (br_t rfl (ey_ckR_g h4 hbb _ (br_t rfl (es_good2 (n := 2) hj (by omega) ?_))))))
    by_cases j0 : j = 0
    · rw [if_pos j0] at hp
      refine br_t (congrArg nI j0) ?_
      by_cases e : a = b
      · subst e
        exact br_t rfl (ey_sum Y H v17 (es_q_inc Y H v (by omega)) _ hp)
      · exact br_f (fun z => e ((nI_eq (by omega) (by omega)).mp z)) (ey_sum Y H v17 (es_q_mv Y H v (by omega) (by omega) e) _ hp)
    · rw [if_neg j0] at hp
      refine br_f (nI_ne0 (by omega) (by omega)) ?_
      by_cases e : a = b
      · subst e
        rw [dg.1, dg.2] at hp
        refine br_t rfl ?_
        by_cases j1 : j = 1
        · rw [if_pos j1] at hp; exact hp
        · rw [if_neg j1] at hp; exact hp
      · refine br_f (fun z => e ((nI_eq (by omega) (by omega)).mp z)) ?_
        by_cases j1 : j = 1
        · rw [if_pos j1] at hp
          exact br_t (congrArg nI j1) (ey_gt Y H v17 (es_q_mv Y H v (by omega) (by omega) e) _ hp)
        · rw [if_neg j1] at hp
          exact br_f (fun z => j1 ((nI_eq (b := 1) (by omega) (by omega)).mp z)) (ey_loanSum Y H v17 (by omega) (by omega) e _ hp)
theorem es_m_compare (R : es_Rel k rep slt qlm hlm h gv lt ls sp sv xa xt hd ln tn mk mf mt mi yk yo yg ya yt kn wa wt) (v1 v2 : Int32) : ∃ r : Int32, (∀ post : Int32 → Prop, post r → wpX_compare post (nI rep, nI slt, nI qlm, nI hlm, nI (es_c h), gv, lt, ls, sp, sv, xa, xt, hd, ln, tn, mk, mf, mt, mi, mn) v1 v2) ∧ (∀ post : Int32 → Prop, post r → wpY_compare post (nI rep, nI slt, nI qlm, nI hlm, nI (es_c h), yk, yo, yg, ya, yt, kn, ln, tn, wa, wt, mk, mf, mt, mi, mn) v1 v2) := by
  obtain ⟨⟨r1, r2, r3, r4⟩, H, X, Y, Q, M⟩ := R
  have h4 := H.1
  rcases es_ckV rep slt mk v1 with hb | ⟨v, hv, rfl⟩
  · refine ⟨-1, fun post hp => ?_, fun post hp => ?_⟩
    · unfold wpX_compare
      dsimp only
      exact ex_ckV_b h4 r2 hb _ (br_f (by decide) hp)
    · unfold wpY_compare
      dsimp only
      exact ey_ckV_b h4 r2 hb _ (br_f (by decide) hp)
  have v17 := es_vw17 h4 r2 hv
  rcases es_ckV rep slt mk v2 with hb | ⟨u, hu, rfl⟩
  · refine ⟨-1, fun post hp => ?_, fun post hp => ?_⟩
    · unfold wpX_compare
      dsimp only
      exact ex_ckV_g h4 r2 hv _ (br_t rfl (ex_ckV_b h4 r2 hb _ (br_f (by decide) hp)))
    · unfold wpY_compare
      dsimp only
      exact ey_ckV_g h4 r2 hv _ (br_t rfl (ey_ckV_b h4 r2 hb _ (br_f (by decide) hp)))
  have u17 := es_vw17 h4 r2 hu
  refine ⟨es_cmp (es_nw h v u (es_c h)) (es_nw h u v (es_c h)), fun post hp => ?_, fun post hp => ?_⟩
  · unfold wpX_compare
    dsimp only
    refine ex_ckV_g h4 r2 hv _ (br_t rfl (ex_ckV_g h4 r2 hu _ (br_t rfl (ex_within H X v17 u17 _ (ex_within H X u17 v17 _ ?_)))))
    unfold wX_compare_44
    cases k1 : es_nw h v u (es_c h) <;> cases k2 : es_nw h u v (es_c h) <;> rw [k1, k2] at hp
    · exact br_f (by decide) (br_f (by decide) hp)
    · exact br_f (by decide) (br_t rfl (br_f (by decide) hp))
    · exact br_t rfl (br_t rfl (br_f (by decide) hp))
    · exact br_t rfl (br_t rfl (br_t rfl hp))
  · unfold wpY_compare
    dsimp only
    exact ey_ckV_g h4 r2 hv _ (br_t rfl (ey_ckV_g h4 r2 hu _ (br_t rfl ⟨es_c h + 1, ey_cmp_26 Y H v17 u17 post hp (es_c h) 0 (by omega)⟩)))
theorem es_m_waiting (R : es_Rel k rep slt qlm hlm h gv lt ls sp sv xa xt hd ln tn mk mf mt mi yk yo yg ya yt kn wa wt) (v1 v2 v3 : Int32) : ∃ r : Int32, (∀ post : Int32 → Prop, post r → wpX_waiting post (nI rep, nI slt, nI qlm, nI hlm, nI (es_c h), gv, lt, ls, sp, sv, xa, xt, hd, ln, tn, mk, mf, mt, mi, mn) v1 v2 v3) ∧ (∀ post : Int32 → Prop, post r → wpY_waiting post (nI rep, nI slt, nI qlm, nI hlm, nI (es_c h), yk, yo, yg, ya, yt, kn, ln, tn, wa, wt, mk, mf, mt, mi, mn) v1 v2 v3) := by
  obtain ⟨⟨r1, r2, r3, r4⟩, H, X, Y, Q, M⟩ := R
  have h4 := H.1
  rcases es_ck v1 (n := rep) (by omega) with hb | ⟨r, hr, rfl⟩
  · refine ⟨-1, fun post hp => ?_, fun post hp => ?_⟩
    · unfold wpX_waiting
      dsimp only
      exact ex_ckR_b hb _ (br_f (by decide) hp)
    · unfold wpY_waiting
      dsimp only
      exact ey_ckR_b hb _ (br_f (by decide) hp)
  rcases es_ck2 v3 (n := 1) (by omega) with hb | ⟨j, hj, rfl⟩
  · refine ⟨-1, fun post hp => ?_, fun post hp => ?_⟩
    · unfold wpX_waiting
      dsimp only
      exact ex_ckR_g h4 hr _ (br_t rfl (es_bad2 hb hp))
    · unfold wpY_waiting
      dsimp only
      exact ey_ckR_g h4 hr _ (br_t rfl (es_bad2 hb hp))
  obtain ⟨hh, l, g, a1, a2, a3, a4, a5, a6, a7⟩ := Q r (by omega)
  have vr : vp_in (nI r) 4 := vp_in_nI (by omega) (by omega)
  rcases es_ck v2 (n := l) (by omega) with hb | ⟨p, hp', rfl⟩
  · refine ⟨-3, fun post hp => ?_, fun post hp => ?_⟩
    · unfold wpX_waiting
      dsimp only
      refine ex_ckR_g h4 hr _ (br_t rfl (es_good2 (n := 1) hj (by omega) ?_))
      rw [nI_clamp (by omega), a5]
      by_cases e : v2 < 0
      · exact br_t e hp
      · exact br_f e ⟨vr, br_f (Int32.not_lt.mpr (hb.resolve_left e)) hp⟩
    · unfold wpY_waiting
      dsimp only
      refine ey_ckR_g h4 hr _ (br_t rfl (es_good2 (n := 1) hj (by omega) ?_))
      rw [nI_clamp (by omega), a5]
      by_cases e : v2 < 0
      · exact br_t e hp
      · exact br_f e ⟨vr, br_f (Int32.not_lt.mpr (hb.resolve_left e)) hp⟩
  obtain ⟨b1, b2, b3⟩ := a7 p hp'
  refine ⟨if j = 0 then wa (r * 8 + p) else wt (r * 8 + p), fun post hp => ?_, fun post hp => ?_⟩
  · unfold wpX_waiting
    dsimp only
    refine ex_ckR_g h4 hr _ (br_t rfl (es_good2 (n := 1) hj (by omega) ?_))
    rw [nI_clamp (by omega), a5]
    refine br_f (nI_pos (by omega)) ⟨vr, br_t (nI_lt hp' (by omega)) (ex_ring (by omega) a4 a1 (by omega) _ ?_)⟩
    rw [nI_clamp (by omega), b1, b2]
    have v : vp_in (nI (r * 8 + (hh + p) % 8)) 32 := vp_in_nI (by omega) (by omega)
    by_cases j0 : j = 0
    · rw [if_pos j0] at hp
      exact br_t (congrArg nI j0) ⟨v, hp⟩
    · rw [if_neg j0] at hp
      exact br_f (nI_ne0 (by omega) (by omega)) ⟨v, hp⟩
  · unfold wpY_waiting
    dsimp only
    refine ey_ckR_g h4 hr _ (br_t rfl (es_good2 (n := 1) hj (by omega) ?_))
    rw [nI_clamp (by omega), a5, es_ix8, nI_clamp (by omega)]
    refine br_f (nI_pos (by omega)) ⟨vr, br_t (nI_lt hp' (by omega)) ?_⟩
    have v : vp_in (nI (r * 8 + p)) 32 := vp_in_nI (by omega) (by omega)
    by_cases j0 : j = 0
    · rw [if_pos j0] at hp
      exact br_t (congrArg nI j0) ⟨v, hp⟩
    · rw [if_neg j0] at hp
      exact br_f (nI_ne0 (by omega) (by omega)) ⟨v, hp⟩
theorem es_m_issued (R : es_Rel k rep slt qlm hlm h gv lt ls sp sv xa xt hd ln tn mk mf mt mi yk yo yg ya yt kn wa wt) (v1 : Int32) : ∃ r : Int32, (∀ post : Int32 → Prop, post r → wpX_issued post (nI rep, nI slt, nI qlm, nI hlm, nI (es_c h), gv, lt, ls, sp, sv, xa, xt, hd, ln, tn, mk, mf, mt, mi, mn) v1) ∧ (∀ post : Int32 → Prop, post r → wpY_issued post (nI rep, nI slt, nI qlm, nI hlm, nI (es_c h), yk, yo, yg, ya, yt, kn, ln, tn, wa, wt, mk, mf, mt, mi, mn) v1) := by
  obtain ⟨⟨r1, r2, r3, r4⟩, H, X, Y, Q, M⟩ := R
  have h4 := H.1
  rcases es_ck v1 (n := rep) (by omega) with hb | ⟨r, hr, rfl⟩
  · refine ⟨-1, fun post hp => ?_, fun post hp => ?_⟩
    · unfold wpX_issued
      dsimp only
      exact ex_ckR_b hb _ (br_f (by decide) hp)
    · unfold wpY_issued
      dsimp only
      exact ey_ckR_b hb _ (br_f (by decide) hp)
  refine ⟨tn (nI r).toNatClampNeg, fun post hp => ?_, fun post hp => ?_⟩
  · unfold wpX_issued
    dsimp only
    exact ex_ckR_g h4 hr _ (br_t rfl ⟨vp_in_nI (by omega) (by omega), hp⟩)
  · unfold wpY_issued
    dsimp only
    exact ey_ckR_g h4 hr _ (br_t rfl ⟨vp_in_nI (by omega) (by omega), hp⟩)
theorem es_m_message (R : es_Rel k rep slt qlm hlm h gv lt ls sp sv xa xt hd ln tn mk mf mt mi yk yo yg ya yt kn wa wt) (v1 v2 : Int32) : ∃ r : Int32, (∀ post : Int32 → Prop, post r → wpX_message post (nI rep, nI slt, nI qlm, nI hlm, nI (es_c h), gv, lt, ls, sp, sv, xa, xt, hd, ln, tn, mk, mf, mt, mi, mn) v1 v2) ∧ (∀ post : Int32 → Prop, post r → wpY_message post (nI rep, nI slt, nI qlm, nI hlm, nI (es_c h), yk, yo, yg, ya, yt, kn, ln, tn, wa, wt, mk, mf, mt, mi, mn) v1 v2) := by
  obtain ⟨⟨r1, r2, r3, r4⟩, H, X, Y, Q, M⟩ := R
  rcases es_ck v1 (n := slt) (by omega) with hb | ⟨s, hs, rfl⟩
  · refine ⟨-1, fun post hp => ?_, fun post hp => ?_⟩
    · unfold wpX_message
      dsimp only
      exact ex_ckS_b hb _ (br_f (by decide) hp)
    · unfold wpY_message
      dsimp only
      exact ey_ckS_b hb _ (br_f (by decide) hp)
  rcases es_ck2 v2 (n := 4) (by omega) with hb | ⟨j, hj, rfl⟩
  · refine ⟨-1, fun post hp => ?_, fun post hp => ?_⟩
    · unfold wpX_message
      dsimp only
      exact ex_ckS_g r2 hs _ (br_t rfl (es_bad2 hb hp))
    · unfold wpY_message
      dsimp only
      exact ey_ckS_g r2 hs _ (br_t rfl (es_bad2 hb hp))
  have v : vp_in (nI s) 12 := vp_in_nI (by omega) (by omega)
  by_cases m0 : mk s = 0
  · refine ⟨-3, fun post hp => ?_, fun post hp => ?_⟩
    · unfold wpX_message
      dsimp only
      rw [nI_clamp (by omega)]
      exact ex_ckS_g r2 hs _ (br_t rfl (es_good2 (n := 4) hj (by omega) ⟨v, br_t m0 hp⟩))
    · unfold wpY_message
      dsimp only
      rw [nI_clamp (by omega)]
      exact ey_ckS_g r2 hs _ (br_t rfl (es_good2 (n := 4) hj (by omega) ⟨v, br_t m0 hp⟩))
  refine ⟨if j = 0 then mk s else if j = 1 then mf s else if j = 2 then mt s else if j = 3 then mi s else mn s, fun post hp => ?_, fun post hp => ?_⟩
  · unfold wpX_message
    dsimp only
    rw [nI_clamp (by omega)]
    refine ex_ckS_g r2 hs _ (br_t rfl (es_good2 (n := 4) hj (by omega) ⟨v, br_f m0 (br_f (nI_pos (by omega)) ?_)⟩))
    have cs : j = 0 ∨ j = 1 ∨ j = 2 ∨ j = 3 ∨ j = 4 := by omega
    rcases cs with rfl | rfl | rfl | rfl | rfl
    · exact br_f (by decide) (br_t rfl ⟨v, hp⟩)
    · exact br_f (by decide) (br_f (by decide) (br_t rfl ⟨v, hp⟩))
    · exact br_f (by decide) (br_f (by decide) (br_f (by decide) (br_t rfl ⟨v, hp⟩)))
    · exact br_f (by decide) (br_f (by decide) (br_f (by decide) (br_f (by decide) (br_t rfl ⟨v, hp⟩))))
    · exact br_t (by decide) ⟨v, hp⟩
  · unfold wpY_message
    dsimp only
    rw [nI_clamp (by omega)]
    refine ey_ckS_g r2 hs _ (br_t rfl (es_good2 (n := 4) hj (by omega) ⟨v, br_f m0 ?_⟩))
    have cs : j = 0 ∨ j = 1 ∨ j = 2 ∨ j = 3 ∨ j = 4 := by omega
    rcases cs with rfl | rfl | rfl | rfl | rfl
    · exact br_t rfl ⟨v, hp⟩
    · exact br_f (by decide) (br_t rfl ⟨v, hp⟩)
    · exact br_f (by decide) (br_f (by decide) (br_t rfl ⟨v, hp⟩))
    · exact br_f (by decide) (br_f (by decide) (br_f (by decide) (br_t rfl ⟨v, hp⟩)))
    · exact br_f (by decide) (br_f (by decide) (br_f (by decide) (br_f (by decide) ⟨v, hp⟩)))
end
end
section
section
variable {rep slt qlm hlm : Nat} {h : es_H} {gv lt ls sp sv xa xt hd ln tn mk mf mt mi mn yk yo yg ya yt kn wa wt : Nat → Int32} {k : Nat}
theorem es_stay (R : es_Rel k rep slt qlm hlm h gv lt ls sp sv xa xt hd ln tn mk mf mt mi yk yo yg ya yt kn wa wt) : i_Rel (k + 5) (nI rep, nI slt, nI qlm, nI hlm, nI (es_c h), gv, lt, ls, sp, sv, xa, xt, hd, ln, tn, mk, mf, mt, mi, mn) (nI rep, nI slt, nI qlm, nI hlm, nI (es_c h), yk, yo, yg, ya, yt, kn, ln, tn, wa, wt, mk, mf, mt, mi, mn) := es_intro (es_Rel_up (by omega) R)
theorem es_m_increment (R : es_Rel k rep slt qlm hlm h gv lt ls sp sv xa xt hd ln tn mk mf mt mi yk yo yg ya yt kn wa wt) (v1 v2 : Int32) : ∃ (r : Int32) (u : SX) (v : SY), i_Rel (k + 5) u v ∧
    (∀ post : Int32 → SX → Prop, post r u → wpX_increment post (nI rep, nI slt, nI qlm, nI hlm, nI (es_c h), gv, lt, ls, sp, sv, xa, xt, hd, ln, tn, mk, mf, mt, mi, mn) v1 v2) ∧ (∀ post : Int32 → SY → Prop, post r v → wpY_increment post (nI rep, nI slt, nI qlm, nI hlm, nI (es_c h), yk, yo, yg, ya, yt, kn, ln, tn, wa, wt, mk, mf, mt, mi, mn) v1 v2) := by
  have R0 := R
  obtain ⟨⟨r1, r2, r3, r4⟩, H, X, Y, Q, M⟩ := R
  have h4 := H.1
  have hc := H.2.1
  rcases es_ck v1 (n := rep) (by omega) with hb | ⟨r, hr, rfl⟩
  · refine ⟨-1, _, _, es_stay (mn := mn) R0, fun post hp => ?_, fun post hp => ?_⟩
    · unfold wpX_increment
      dsimp only
      exact ex_ckR_b hb _ (br_f (by decide) hp)
    · unfold wpY_increment
      dsimp only
      exact ey_ckR_b hb _ (br_f (by decide) hp)
  rcases es_ckA v2 with hb | ⟨w, w1, w2, rfl⟩
  · refine ⟨-1, _, _, es_stay (mn := mn) R0, fun post hp => ?_, fun post hp => ?_⟩
    · unfold wpX_increment
      dsimp only
      exact ex_ckR_g h4 hr _ (br_t rfl (ex_ckA_b hb _ (br_f (by decide) hp)))
    · unfold wpY_increment
      dsimp only
      exact ey_ckR_g h4 hr _ (br_t rfl (ey_ckA_b hb _ (br_f (by decide) hp)))
  by_cases f : hlm ≤ es_c h
  · refine ⟨-2, _, _, es_stay (mn := mn) R0, fun post hp => ?_, fun post hp => ?_⟩
    · unfold wpX_increment
      dsimp only
      refine ex_ckR_g h4 hr _ (br_t rfl (ex_ckA_g w1 w2 _ (br_t rfl (ex_full (by omega) (by omega) _ ?_))))
      rw [decide_eq_true f]
      exact br_f (by decide) hp
    · unfold wpY_increment
      dsimp only
      refine ey_ckR_g h4 hr _ (br_t rfl (ey_ckA_g w1 w2 _ (br_t rfl (ey_full (by omega) (by omega) _ ?_))))
      rw [decide_eq_true f]
      exact br_f (by decide) hp
  obtain ⟨gv1, lt1, ls1, yk1, yo1, yg1, ya1, yt1, kn1, d1, d2, d3⟩ := es_both_gift (mn := mn) R0 (o := r) (b := r) (w := w) (t := 0) (by omega) hr hr w1 (by omega) (fun _ => ⟨w2, rfl⟩) (by omega) (fun z => absurd rfl z) 1 (-1) ((es_kd1 r r).mpr ⟨by omega, rfl⟩) (if_pos (Or.inr rfl))
  obtain ⟨n, h2, sp2, sv2, hd2, ln2, yk2, yo2, yg2, ya2, yt2, kn2, wa2, wt2, f1, f2, f3, f4⟩ := es_serve0 (mn := mn) hr d1
  refine ⟨0, _, _, es_stay (mn := mn) f2, fun post hp => ?_, fun post hp => ?_⟩
  · unfold wpX_increment
    dsimp only
    refine ex_ckR_g h4 hr _ (br_t rfl (ex_ckA_g w1 w2 _ (br_t rfl (ex_full (by omega) (by omega) _ ?_))))
    rw [decide_eq_false f]
    refine br_t rfl (d2 _ ?_)
    exact f3 _ hp
  · unfold wpY_increment
    dsimp only
    refine ey_ckR_g h4 hr _ (br_t rfl (ey_ckA_g w1 w2 _ (br_t rfl (ey_full (by omega) (by omega) _ ?_))))
    rw [decide_eq_false f]
    refine br_t rfl (d3 _ ?_)
    exact f4 _ hp
theorem es_m_decrement (R : es_Rel k rep slt qlm hlm h gv lt ls sp sv xa xt hd ln tn mk mf mt mi yk yo yg ya yt kn wa wt) (hk : k + 5 ≤ 2564) (v1 v2 : Int32) : ∃ (r : Int32) (u : SX) (v : SY), i_Rel (k + 5) u v ∧
    (∀ post : Int32 → SX → Prop, post r u → wpX_decrement post (nI rep, nI slt, nI qlm, nI hlm, nI (es_c h), gv, lt, ls, sp, sv, xa, xt, hd, ln, tn, mk, mf, mt, mi, mn) v1 v2) ∧ (∀ post : Int32 → SY → Prop, post r v → wpY_decrement post (nI rep, nI slt, nI qlm, nI hlm, nI (es_c h), yk, yo, yg, ya, yt, kn, ln, tn, wa, wt, mk, mf, mt, mi, mn) v1 v2) := by
  have R0 := R
  obtain ⟨⟨r1, r2, r3, r4⟩, H, X, Y, Q, M⟩ := R
  have h4 := H.1
  have hc := H.2.1
  rcases es_ck v1 (n := rep) (by omega) with hb | ⟨r, hr, rfl⟩
  · refine ⟨-1, _, _, es_stay (mn := mn) R0, fun post hp => ?_, fun post hp => ?_⟩
    · unfold wpX_decrement
      dsimp only
      exact ex_ckR_b hb _ (br_f (by decide) hp)
    · unfold wpY_decrement
      dsimp only
      exact ey_ckR_b hb _ (br_f (by decide) hp)
  rcases es_ckA v2 with hb | ⟨w, w1, w2, rfl⟩
  · refine ⟨-1, _, _, es_stay (mn := mn) R0, fun post hp => ?_, fun post hp => ?_⟩
    · unfold wpX_decrement
      dsimp only
      exact ex_ckR_g h4 hr _ (br_t rfl (ex_ckA_b hb _ (br_f (by decide) hp)))
    · unfold wpY_decrement
      dsimp only
      exact ey_ckR_g h4 hr _ (br_t rfl (ey_ckA_b hb _ (br_f (by decide) hp)))
  by_cases f : hlm ≤ es_c h
  · refine ⟨-2, _, _, es_stay (mn := mn) R0, fun post hp => ?_, fun post hp => ?_⟩
    · unfold wpX_decrement
      dsimp only
      refine ex_ckR_g h4 hr _ (br_t rfl (ex_ckA_g w1 w2 _ (br_t rfl (ex_full (by omega) (by omega) _ ?_))))
      rw [decide_eq_true f]
      exact br_f (by decide) hp
    · unfold wpY_decrement
      dsimp only
      refine ey_ckR_g h4 hr _ (br_t rfl (ey_ckA_g w1 w2 _ (br_t rfl (ey_full (by omega) (by omega) _ ?_))))
      rw [decide_eq_true f]
      exact br_f (by decide) hp
  obtain ⟨hh, l, g, a1, a2, a3, a4, a5, a6, a7⟩ := Q r (by omega)
  have vr : vp_in (nI r) 4 := vp_in_nI (by omega) (by omega)
  have rg := es_R_rng H r r
  have cmp : es_i (es_R h rep r r) < nI w ↔ es_R h rep r r < (w : Int) := by
    rw [← es_i_nat]
    exact es_i_lt (by omega) (by omega) (by omega) (by omega)
  by_cases dq : l = 0 ∧ (w : Int) ≤ es_R h rep r r
  · obtain ⟨sp1, sv1, yk1, yo1, yg1, ya1, yt1, kn1, d1, d2, d3⟩ := es_both_dec (mn := mn) R0 (o := r) (w := w) (t := 0) (by omega) hr w1 (by omega) (by omega) dq.2 hd ln
    refine ⟨0, _, _, es_stay (mn := mn) d1, fun post hp => ?_, fun post hp => ?_⟩
    · unfold wpX_decrement
      dsimp only
      refine ex_ckR_g h4 hr _ (br_t rfl (ex_ckA_g w1 w2 _ (br_t rfl (ex_full (by omega) (by omega) _ ?_))))
      rw [decide_eq_false f, nI_clamp (by omega), a5]
      refine br_t rfl ⟨vr, br_t (congrArg nI dq.1) (ex_rights X h4 (by omega) hr _ (br_f (fun z => absurd (cmp.mp z) (by omega)) (d2 _ ?_)))⟩
      exact hp
    · unfold wpY_decrement
      dsimp only
      refine ey_ckR_g h4 hr _ (br_t rfl (ey_ckA_g w1 w2 _ (br_t rfl (ey_full (by omega) (by omega) _ ?_))))
      rw [decide_eq_false f, nI_clamp (by omega), a5]
      refine br_t rfl ⟨vr, br_t (congrArg nI dq.1) (ey_rights Y H (by omega) hr _ (br_f (fun z => absurd (cmp.mp z) (by omega)) (d3 _ ?_)))⟩
      exact hp
  have jx : ∀ post : Int32 → SX → Prop, wX_decrement_56 post (nI r) (nI w) (nI rep) (nI slt) (nI qlm) (nI hlm) (nI (es_c h)) gv lt ls sp sv xa xt hd ln tn mk mf mt mi mn → wpX_decrement post (nI rep, nI slt, nI qlm, nI hlm, nI (es_c h), gv, lt, ls, sp, sv, xa, xt, hd, ln, tn, mk, mf, mt, mi, mn) (nI r) (nI w) := by
    intro post hp
    unfold wpX_decrement
    dsimp only
    refine ex_ckR_g h4 hr _ (br_t rfl (ex_ckA_g w1 w2 _ (br_t rfl (ex_full (by omega) (by omega) _ ?_))))
    rw [decide_eq_false f, nI_clamp (by omega), a5]
    refine br_t rfl ⟨vr, ?_⟩
    by_cases l0 : l = 0
    · exact br_t (congrArg nI l0) (ex_rights X h4 (by omega) hr _ (br_t (cmp.mpr (by omega)) hp))
    · exact br_f (nI_ne0 (by omega) (by omega)) hp
  have jy : ∀ post : Int32 → SY → Prop, wY_decrement_58 post (nI r) (nI w) (nI rep) (nI slt) (nI qlm) (nI hlm) (nI (es_c h)) yk yo yg ya yt kn ln tn wa wt mk mf mt mi mn → wpY_decrement post (nI rep, nI slt, nI qlm, nI hlm, nI (es_c h), yk, yo, yg, ya, yt, kn, ln, tn, wa, wt, mk, mf, mt, mi, mn) (nI r) (nI w) := by
    intro post hp
    unfold wpY_decrement
    dsimp only
    refine ey_ckR_g h4 hr _ (br_t rfl (ey_ckA_g w1 w2 _ (br_t rfl (ey_full (by omega) (by omega) _ ?_))))
    rw [decide_eq_false f, nI_clamp (by omega), a5]
    refine br_t rfl ⟨vr, ?_⟩
    by_cases l0 : l = 0
    · exact br_t (congrArg nI l0) (ey_rights Y H (by omega) hr _ (br_t (cmp.mpr (by omega)) hp))
    · exact br_f (nI_ne0 (by omega) (by omega)) hp
  by_cases lq : l < qlm
  · have Q2 := es_QR_en Q r3 hk (by omega) a4 a1 a5 lq a6 a3 w1 w2
    refine ⟨1, _, _, es_intro (mn := mn) (h := h) ⟨⟨r1, r2, r3, r4⟩, H, X, Y, Q2, M⟩, fun post hp => jx post ?_, fun post hp => jy post ?_⟩
    · unfold wX_decrement_56 wpX_enqueue
      dsimp only
      rw [nI_clamp (by omega), a5, a6, nI_1, nI_1]
      refine ⟨vr, br_t (nI_lt lq (by omega)) ⟨vr, ex_ring (by omega) a4 a1 (by omega) _ ?_⟩⟩
      rw [nI_clamp (by omega)]
      have v : vp_in (nI (r * 8 + (hh + l) % 8)) 32 := vp_in_nI (by omega) (by omega)
      refine ⟨vr, vr, nm_e ?_⟩
      rw [pk_us]
      exact ⟨v, nm_e ⟨vr, v, nm_e ⟨vr, vr, nm_e hp⟩⟩⟩
    · unfold wY_decrement_58
      rw [nI_clamp (by omega), a5, a6, nI_1, nI_1, es_ix8, nI_clamp (by omega)]
      have v : vp_in (nI (r * 8 + l)) 32 := vp_in_nI (by omega) (by omega)
      refine ⟨vr, br_t (nI_lt lq (by omega)) ⟨vr, vr, nm_e ?_⟩⟩
      rw [pk_us]
      exact ⟨vr, v, nm_e ⟨vr, vr, v, nm_e ⟨vr, vr, nm_e hp⟩⟩⟩
  · refine ⟨-5, _, _, es_stay (mn := mn) R0, fun post hp => jx post ?_, fun post hp => jy post ?_⟩
    · unfold wX_decrement_56
      rw [nI_clamp (by omega), a5]
      exact ⟨vr, br_f (nI_nlt (by omega) (by omega)) hp⟩
    · unfold wY_decrement_58
      rw [nI_clamp (by omega), a5]
      exact ⟨vr, br_f (nI_nlt (by omega) (by omega)) hp⟩
/-! two replicas -/
theorem ex_pair_g {r t : Nat} (h4 : rep ≤ 4) (hr : r < rep) (ht : t < rep) (hrt : ¬ r = t) (post : Int32 → Prop) (hp : post 0) : wpX_badPair post (nI rep, nI slt, nI qlm, nI hlm, nI (es_c h), gv, lt, ls, sp, sv, xa, xt, hd, ln, tn, mk, mf, mt, mi, mn) (nI r) (nI t) := by
  unfold wpX_badPair
  dsimp only
  exact ex_ckR_g h4 hr _ (br_t rfl (ex_ckR_g h4 ht _ (br_t rfl (br_f (fun z => hrt ((nI_eq (by omega) (by omega)).mp z)) hp))))
theorem ex_pair_b1 {v1 : Int32} (hb : v1 < 0 ∨ nI rep ≤ v1) (v2 : Int32) (post : Int32 → Prop) (hp : post 1) : wpX_badPair post (nI rep, nI slt, nI qlm, nI hlm, nI (es_c h), gv, lt, ls, sp, sv, xa, xt, hd, ln, tn, mk, mf, mt, mi, mn) v1 v2 := by
  unfold wpX_badPair
  dsimp only
  exact ex_ckR_b hb _ (br_f (by decide) hp)
theorem ex_pair_b2 {r : Nat} {v2 : Int32} (h4 : rep ≤ 4) (hr : r < rep) (hb : v2 < 0 ∨ nI rep ≤ v2) (post : Int32 → Prop) (hp : post 1) : wpX_badPair post (nI rep, nI slt, nI qlm, nI hlm, nI (es_c h), gv, lt, ls, sp, sv, xa, xt, hd, ln, tn, mk, mf, mt, mi, mn) (nI r) v2 := by
  unfold wpX_badPair
  dsimp only
  exact ex_ckR_g h4 hr _ (br_t rfl (ex_ckR_b hb _ (br_f (by decide) hp)))
theorem ex_pair_b3 {r : Nat} (h4 : rep ≤ 4) (hr : r < rep) (post : Int32 → Prop) (hp : post 1) : wpX_badPair post (nI rep, nI slt, nI qlm, nI hlm, nI (es_c h), gv, lt, ls, sp, sv, xa, xt, hd, ln, tn, mk, mf, mt, mi, mn) (nI r) (nI r) := by
  unfold wpX_badPair
  dsimp only
  exact ex_ckR_g h4 hr _ (br_t rfl (ex_ckR_g h4 hr _ (br_t rfl (br_t rfl hp))))
theorem es_m_transfer (R : es_Rel k rep slt qlm hlm h gv lt ls sp sv xa xt hd ln tn mk mf mt mi yk yo yg ya yt kn wa wt) (v1 v2 v3 : Int32) : ∃ (r : Int32) (u : SX) (v : SY), i_Rel (k + 5) u v ∧
    (∀ post : Int32 → SX → Prop, post r u → wpX_transfer post (nI rep, nI slt, nI qlm, nI hlm, nI (es_c h), gv, lt, ls, sp, sv, xa, xt, hd, ln, tn, mk, mf, mt, mi, mn) v1 v2 v3) ∧ (∀ post : Int32 → SY → Prop, post r v → wpY_transfer post (nI rep, nI slt, nI qlm, nI hlm, nI (es_c h), yk, yo, yg, ya, yt, kn, ln, tn, wa, wt, mk, mf, mt, mi, mn) v1 v2 v3) := by
  have R0 := R
  obtain ⟨⟨r1, r2, r3, r4⟩, H, X, Y, Q, M⟩ := R
  have h4 := H.1
  have hc := H.2.1
  rcases es_ck v1 (n := rep) (by omega) with hb | ⟨r, hr, rfl⟩
  · refine ⟨-1, _, _, es_stay (mn := mn) R0, fun post hp => ?_, fun post hp => ?_⟩
    · unfold wpX_transfer
      dsimp only
      exact ex_pair_b1 hb v2 _ (br_f (by decide) hp)
    · unfold wpY_transfer
      dsimp only
      exact ey_ckR_b hb _ (br_f (by decide) hp)
  rcases es_ck v2 (n := rep) (by omega) with hb | ⟨t, ht, rfl⟩
  · refine ⟨-1, _, _, es_stay (mn := mn) R0, fun post hp => ?_, fun post hp => ?_⟩
    · unfold wpX_transfer
      dsimp only
      exact ex_pair_b2 h4 hr hb _ (br_f (by decide) hp)
    · unfold wpY_transfer
      dsimp only
      exact ey_ckR_g h4 hr _ (br_t rfl (ey_ckR_b hb _ (br_f (by decide) hp)))
  by_cases rt : r = t
  · subst rt
    refine ⟨-1, _, _, es_stay (mn := mn) R0, fun post hp => ?_, fun post hp => ?_⟩
    · unfold wpX_transfer
      dsimp only
      exact ex_pair_b3 h4 hr _ (br_f (by decide) hp)
    · unfold wpY_transfer
      dsimp only
      exact ey_ckR_g h4 hr _ (br_t rfl (ey_ckR_g h4 hr _ (br_t rfl (br_t rfl hp))))
  have ne : ¬ nI r = nI t := fun z => rt ((nI_eq (by omega) (by omega)).mp z)
  rcases es_ckA v3 with hb | ⟨w, w1, w2, rfl⟩
  · refine ⟨-1, _, _, es_stay (mn := mn) R0, fun post hp => ?_, fun post hp => ?_⟩
    · unfold wpX_transfer
      dsimp only
      exact ex_pair_g h4 hr ht rt _ (br_t rfl (ex_ckA_b hb _ (br_f (by decide) hp)))
    · unfold wpY_transfer
      dsimp only
      exact ey_ckR_g h4 hr _ (br_t rfl (ey_ckR_g h4 ht _ (br_t rfl (br_f ne (ey_ckA_b hb _ (br_f (by decide) hp))))))
  by_cases f : hlm ≤ es_c h
  · refine ⟨-2, _, _, es_stay (mn := mn) R0, fun post hp => ?_, fun post hp => ?_⟩
    · unfold wpX_transfer
      dsimp only
      refine ex_pair_g h4 hr ht rt _ (br_t rfl (ex_ckA_g w1 w2 _ (br_t rfl (ex_full (by omega) (by omega) _ ?_))))
      rw [decide_eq_true f]
      exact br_f (by decide) hp
    · unfold wpY_transfer
      dsimp only
      refine ey_ckR_g h4 hr _ (br_t rfl (ey_ckR_g h4 ht _ (br_t rfl (br_f ne (ey_ckA_g w1 w2 _ (br_t rfl (ey_full (by omega) (by omega) _ ?_)))))))
      rw [decide_eq_true f]
      exact br_f (by decide) hp
  have rg := es_R_rng H r r
  have cmp : nI w ≤ es_i (es_R h rep r r) ↔ (w : Int) ≤ es_R h rep r r := by
    rw [← es_i_nat]
    exact es_i_le (by omega) (by omega) (by omega) (by omega)
  have jx : ∀ post : Int32 → SX → Prop, ((nI w ≤ es_i (es_R h rep r r) → wpX_recordGift (post 0) (nI rep, nI slt, nI qlm, nI hlm, nI (es_c h), gv, lt, ls, sp, sv, xa, xt, hd, ln, tn, mk, mf, mt, mi, mn) (nI r) (nI t) (nI w) 0) ∧ (¬ nI w ≤ es_i (es_R h rep r r) → post (-4) (nI rep, nI slt, nI qlm, nI hlm, nI (es_c h), gv, lt, ls, sp, sv, xa, xt, hd, ln, tn, mk, mf, mt, mi, mn))) → wpX_transfer post (nI rep, nI slt, nI qlm, nI hlm, nI (es_c h), gv, lt, ls, sp, sv, xa, xt, hd, ln, tn, mk, mf, mt, mi, mn) (nI r) (nI t) (nI w) := by
    intro post hp
    unfold wpX_transfer
    dsimp only
    refine ex_pair_g h4 hr ht rt _ (br_t rfl (ex_ckA_g w1 w2 _ (br_t rfl (ex_full (by omega) (by omega) _ ?_))))
    rw [decide_eq_false f]
    exact br_t rfl (ex_rights X h4 (by omega) hr _ hp)
  have jy : ∀ post : Int32 → SY → Prop, ((nI w ≤ es_i (es_R h rep r r) → wpY_addUpdate (post 0) (nI rep, nI slt, nI qlm, nI hlm, nI (es_c h), yk, yo, yg, ya, yt, kn, ln, tn, wa, wt, mk, mf, mt, mi, mn) 3 (nI r) (nI t) (nI w) 0) ∧ (¬ nI w ≤ es_i (es_R h rep r r) → post (-4) (nI rep, nI slt, nI qlm, nI hlm, nI (es_c h), yk, yo, yg, ya, yt, kn, ln, tn, wa, wt, mk, mf, mt, mi, mn))) → wpY_transfer post (nI rep, nI slt, nI qlm, nI hlm, nI (es_c h), yk, yo, yg, ya, yt, kn, ln, tn, wa, wt, mk, mf, mt, mi, mn) (nI r) (nI t) (nI w) := by
    intro post hp
    unfold wpY_transfer
    dsimp only
    refine ey_ckR_g h4 hr _ (br_t rfl (ey_ckR_g h4 ht _ (br_t rfl (br_f ne (ey_ckA_g w1 w2 _ (br_t rfl (ey_full (by omega) (by omega) _ ?_)))))))
    rw [decide_eq_false f]
    exact br_t rfl (ey_rights Y H (by omega) hr _ hp)
  by_cases le : (w : Int) ≤ es_R h rep r r
  · obtain ⟨gv1, lt1, ls1, yk1, yo1, yg1, ya1, yt1, kn1, d1, d2, d3⟩ := es_both_gift (mn := mn) R0 (o := r) (b := t) (w := w) (t := 0) (by omega) hr ht w1 (by omega) (fun z => absurd z.symm rt) (by omega) (fun _ => le) 3 (nI t) ((es_kd3 r t).mpr ⟨by omega, fun z => rt z.symm⟩) ((es_tI_eq (by omega) (by omega)).mpr ⟨by omega, rfl⟩)
    exact ⟨0, _, _, es_stay (mn := mn) d1, fun post hp => jx post (br_t (cmp.mpr le) (d2 _ hp)), fun post hp => jy post (br_t (cmp.mpr le) (d3 _ hp))⟩
  · exact ⟨-4, _, _, es_stay (mn := mn) R0, fun post hp => jx post (br_f (fun z => le (cmp.mp z)) hp), fun post hp => jy post (br_f (fun z => le (cmp.mp z)) hp)⟩
theorem es_m_abandon (R : es_Rel k rep slt qlm hlm h gv lt ls sp sv xa xt hd ln tn mk mf mt mi yk yo yg ya yt kn wa wt) (v1 : Int32) : ∃ (r : Int32) (u : SX) (v : SY), i_Rel (k + 5) u v ∧
    (∀ post : Int32 → SX → Prop, post r u → wpX_abandon post (nI rep, nI slt, nI qlm, nI hlm, nI (es_c h), gv, lt, ls, sp, sv, xa, xt, hd, ln, tn, mk, mf, mt, mi, mn) v1) ∧ (∀ post : Int32 → SY → Prop, post r v → wpY_abandon post (nI rep, nI slt, nI qlm, nI hlm, nI (es_c h), yk, yo, yg, ya, yt, kn, ln, tn, wa, wt, mk, mf, mt, mi, mn) v1) := by
  have R0 := R
  obtain ⟨⟨r1, r2, r3, r4⟩, H, X, Y, Q, M⟩ := R
  have h4 := H.1
  rcases es_ck v1 (n := rep) (by omega) with hb | ⟨r, hr, rfl⟩
  · refine ⟨-1, _, _, es_stay (mn := mn) R0, fun post hp => ?_, fun post hp => ?_⟩
    · unfold wpX_abandon
      dsimp only
      exact ex_ckR_b hb _ (br_f (by decide) hp)
    · unfold wpY_abandon
      dsimp only
      exact ey_ckR_b hb _ (br_f (by decide) hp)
  have vr : vp_in (nI r) 4 := vp_in_nI (by omega) (by omega)
  have cr : (nI r).toNatClampNeg = r := nI_clamp (by omega)
  by_cases l0 : ln r = 0
  · refine ⟨-3, _, _, es_stay (mn := mn) R0, fun post hp => ?_, fun post hp => ?_⟩
    · unfold wpX_abandon
      dsimp only
      rw [cr]
      exact ex_ckR_g h4 hr _ (br_t rfl ⟨vr, br_t l0 hp⟩)
    · unfold wpY_abandon
      dsimp only
      rw [cr]
      exact ey_ckR_g h4 hr _ (br_t rfl ⟨vr, br_t l0 hp⟩)
  have Q2 := es_QR_rm Q r3 (r := r) (by omega) l0
  obtain ⟨n, h2, sp2, sv2, hd2, ln2, yk2, yo2, yg2, ya2, yt2, kn2, wa2, wt2, f1, f2, f3, f4⟩ := es_serve0 (mn := mn) (k := k) (h := h) (mk := mk) (mf := mf) (mt := mt) (mi := mi) hr ⟨⟨r1, r2, r3, r4⟩, H, X, Y, Q2, M⟩
  refine ⟨0, _, _, es_stay (mn := mn) f2, fun post hp => ?_, fun post hp => ?_⟩
  · unfold wpX_abandon
    dsimp only
    rw [cr]
    refine ex_ckR_g h4 hr _ (br_t rfl ⟨vr, br_f l0 (ex_rm (by omega) _ ?_)⟩)
    exact f3 _ hp
  · unfold wpY_abandon
    dsimp only
    rw [cr]
    refine ey_ckR_g h4 hr _ (br_t rfl ⟨vr, br_f l0 (ey_rm (by omega) _ ?_)⟩)
    exact f4 _ hp
theorem es_m_send (R : es_Rel k rep slt qlm hlm h gv lt ls sp sv xa xt hd ln tn mk mf mt mi yk yo yg ya yt kn wa wt) (v1 v2 : Int32) : ∃ (r : Int32) (u : SX) (v : SY), i_Rel (k + 5) u v ∧
    (∀ post : Int32 → SX → Prop, post r u → wpX_send post (nI rep, nI slt, nI qlm, nI hlm, nI (es_c h), gv, lt, ls, sp, sv, xa, xt, hd, ln, tn, mk, mf, mt, mi, mn) v1 v2) ∧ (∀ post : Int32 → SY → Prop, post r v → wpY_send post (nI rep, nI slt, nI qlm, nI hlm, nI (es_c h), yk, yo, yg, ya, yt, kn, ln, tn, wa, wt, mk, mf, mt, mi, mn) v1 v2) := by
  have R0 := R
  obtain ⟨⟨r1, r2, r3, r4⟩, H, X, Y, Q, M⟩ := R
  have h4 := H.1
  rcases es_ck v1 (n := rep) (by omega) with hb | ⟨r, hr, rfl⟩
  · refine ⟨-1, _, _, es_stay (mn := mn) R0, fun post hp => ?_, fun post hp => ?_⟩
    · unfold wpX_send
      dsimp only
      exact ex_pair_b1 hb v2 _ (br_f (by decide) hp)
    · unfold wpY_send
      dsimp only
      exact ey_ckR_b hb _ (br_f (by decide) hp)
  rcases es_ck v2 (n := rep) (by omega) with hb | ⟨t, ht, rfl⟩
  · refine ⟨-1, _, _, es_stay (mn := mn) R0, fun post hp => ?_, fun post hp => ?_⟩
    · unfold wpX_send
      dsimp only
      exact ex_pair_b2 h4 hr hb _ (br_f (by decide) hp)
    · unfold wpY_send
      dsimp only
      exact ey_ckR_g h4 hr _ (br_t rfl (ey_ckR_b hb _ (br_f (by decide) hp)))
  by_cases rt : r = t
  · subst rt
    refine ⟨-1, _, _, es_stay (mn := mn) R0, fun post hp => ?_, fun post hp => ?_⟩
    · unfold wpX_send
      dsimp only
      exact ex_pair_b3 h4 hr _ (br_f (by decide) hp)
    · unfold wpY_send
      dsimp only
      exact ey_ckR_g h4 hr _ (br_t rfl (ey_ckR_g h4 hr _ (br_t rfl (br_t rfl hp))))
  have ne : ¬ nI r = nI t := fun z => rt ((nI_eq (by omega) (by omega)).mp z)
  obtain ⟨a, h2, gv2, lt2, ls2, sp2, sv2, mk2, mf2, mt2, mi2, mn2, kn2, e1, e2, e3⟩ := es_both_post (mn := mn) R0 (s := r) (a := r) (b := t) (t := 0) (by omega) (fun f hf hz => by omega) 1 0 hr ht rt (by omega)
  refine ⟨a, _, _, es_stay (mn := mn2) e1, fun post hp => ?_, fun post hp => ?_⟩
  · unfold wpX_send
    dsimp only
    exact ex_pair_g h4 hr ht rt _ (br_t rfl (e2 _ hp))
  · unfold wpY_send
    dsimp only
    exact ey_ckR_g h4 hr _ (br_t rfl (ey_ckR_g h4 ht _ (br_t rfl (br_f ne (e3 _ hp)))))
theorem es_m_duplicate (R : es_Rel k rep slt qlm hlm h gv lt ls sp sv xa xt hd ln tn mk mf mt mi yk yo yg ya yt kn wa wt) (v1 : Int32) : ∃ (r : Int32) (u : SX) (v : SY), i_Rel (k + 5) u v ∧
    (∀ post : Int32 → SX → Prop, post r u → wpX_duplicate post (nI rep, nI slt, nI qlm, nI hlm, nI (es_c h), gv, lt, ls, sp, sv, xa, xt, hd, ln, tn, mk, mf, mt, mi, mn) v1) ∧ (∀ post : Int32 → SY → Prop, post r v → wpY_duplicate post (nI rep, nI slt, nI qlm, nI hlm, nI (es_c h), yk, yo, yg, ya, yt, kn, ln, tn, wa, wt, mk, mf, mt, mi, mn) v1) := by
  have R0 := R
  obtain ⟨⟨r1, r2, r3, r4⟩, H, X, Y, Q, M⟩ := R
  rcases es_ck v1 (n := slt) (by omega) with hb | ⟨s, hs, rfl⟩
  · refine ⟨-1, _, _, es_stay (mn := mn) R0, fun post hp => ?_, fun post hp => ?_⟩
    · unfold wpX_duplicate
      dsimp only
      exact ex_ckS_b hb _ (br_f (by decide) hp)
    · unfold wpY_duplicate
      dsimp only
      exact ey_ckS_b hb _ (br_f (by decide) hp)
  have v : vp_in (nI s) 12 := vp_in_nI (by omega) (by omega)
  have cs : (nI s).toNatClampNeg = s := nI_clamp (by omega)
  by_cases m0 : mk s = 0
  · refine ⟨-3, _, _, es_stay (mn := mn) R0, fun post hp => ?_, fun post hp => ?_⟩
    · unfold wpX_duplicate
      dsimp only
      rw [cs]
      exact ex_ckS_g r2 hs _ (br_t rfl ⟨v, br_t m0 hp⟩)
    · unfold wpY_duplicate
      dsimp only
      rw [cs]
      exact ey_ckS_g r2 hs _ (br_t rfl ⟨v, br_t m0 hp⟩)
  obtain ⟨a, b, t, q1, q2, q3, q4, q5, q6, q7⟩ := M s hs m0
  obtain ⟨z, h2, gv2, lt2, ls2, sp2, sv2, mk2, mf2, mt2, mi2, mn2, kn2, e1, e2, e3⟩ := es_both_post (mn := mn) R0 (s := 4 + s) (a := a) (b := b) (t := t) (by omega) (fun f hf hz he => m0 (by rw [show s = f by omega]; exact hz)) (mk s) (mn s) q4 q5 q6 q7
  refine ⟨z, _, _, es_stay (mn := mn2) e1, fun post hp => ?_, fun post hp => ?_⟩
  · unfold wpX_duplicate
    dsimp only
    rw [cs, es_4p, q1, q2, q3]
    exact ex_ckS_g r2 hs _ (br_t rfl ⟨v, br_f m0 ⟨v, v, v, v, v, e2 _ hp⟩⟩)
  · unfold wpY_duplicate
    dsimp only
    rw [cs, es_4p, q1, q2, q3]
    exact ey_ckS_g r2 hs _ (br_t rfl ⟨v, br_f m0 ⟨v, v, v, v, v, e3 _ hp⟩⟩)
theorem es_MR_0 (M : es_MR rep slt mk mf mt mi) (s : Nat) : es_MR rep slt (upd mk s 0) mf mt mi := by
  intro q hq hk
  by_cases e : q = s
  · subst e
    exact absurd pk_us hk
  · rw [pk_un e] at hk
    exact M q hq hk
theorem es_m_drop (R : es_Rel k rep slt qlm hlm h gv lt ls sp sv xa xt hd ln tn mk mf mt mi yk yo yg ya yt kn wa wt) (v1 : Int32) : ∃ (r : Int32) (u : SX) (v : SY), i_Rel (k + 5) u v ∧
    (∀ post : Int32 → SX → Prop, post r u → wpX_drop post (nI rep, nI slt, nI qlm, nI hlm, nI (es_c h), gv, lt, ls, sp, sv, xa, xt, hd, ln, tn, mk, mf, mt, mi, mn) v1) ∧ (∀ post : Int32 → SY → Prop, post r v → wpY_drop post (nI rep, nI slt, nI qlm, nI hlm, nI (es_c h), yk, yo, yg, ya, yt, kn, ln, tn, wa, wt, mk, mf, mt, mi, mn) v1) := by
  have R0 := R
  obtain ⟨⟨r1, r2, r3, r4⟩, H, X, Y, Q, M⟩ := R
  rcases es_ck v1 (n := slt) (by omega) with hb | ⟨s, hs, rfl⟩
  · refine ⟨-1, _, _, es_stay (mn := mn) R0, fun post hp => ?_, fun post hp => ?_⟩
    · unfold wpX_drop
      dsimp only
      exact ex_ckS_b hb _ (br_f (by decide) hp)
    · unfold wpY_drop
      dsimp only
      exact ey_ckS_b hb _ (br_f (by decide) hp)
  have v : vp_in (nI s) 12 := vp_in_nI (by omega) (by omega)
  have cs : (nI s).toNatClampNeg = s := nI_clamp (by omega)
  by_cases m0 : mk s = 0
  · refine ⟨-3, _, _, es_stay (mn := mn) R0, fun post hp => ?_, fun post hp => ?_⟩
    · unfold wpX_drop
      dsimp only
      rw [cs]
      exact ex_ckS_g r2 hs _ (br_t rfl ⟨v, br_t m0 hp⟩)
    · unfold wpY_drop
      dsimp only
      rw [cs]
      exact ey_ckS_g r2 hs _ (br_t rfl ⟨v, br_t m0 hp⟩)
  refine ⟨0, _, _, es_stay (mn := mn) (k := k) (h := h) ⟨⟨r1, r2, r3, r4⟩, H, X, Y, Q, es_MR_0 M s⟩, fun post hp => ?_, fun post hp => ?_⟩
  · unfold wpX_drop
    dsimp only
    rw [cs]
    exact ex_ckS_g r2 hs _ (br_t rfl ⟨v, br_f m0 ⟨v, nm_e hp⟩⟩)
  · unfold wpY_drop
    dsimp only
    rw [cs]
    exact ey_ckS_g r2 hs _ (br_t rfl ⟨v, br_f m0 ⟨v, nm_e hp⟩⟩)
end
end
section
/-! the richest other -/
def es_bst (F : Nat → Int) (r b0 : Nat) : Nat → Nat
  | 0 => b0
  | n + 1 => if n = r then es_bst F r b0 n else if F n ≤ F (es_bst F r b0 n) then es_bst F r b0 n else n
theorem es_bst_lt {F : Nat → Int} {r b0 rep : Nat} (hb : b0 < rep) (hn : ¬ b0 = r) : ∀ n, n ≤ rep → es_bst F r b0 n < rep ∧ ¬ es_bst F r b0 n = r := by
  intro n
  induction n with
  | zero => intro _; exact ⟨hb, hn⟩
  | succ n ih =>
    intro h
    have a := ih (by omega)
    simp only [es_bst]
    by_cases e : n = r
    · rw [if_pos e]; exact a
    · rw [if_neg e]
      by_cases q : F n ≤ F (es_bst F r b0 n)
      · rw [if_pos q]; exact a
      · rw [if_neg q]; exact ⟨by omega, e⟩
theorem es_bst_b0 (F : Nat → Int) (r : Nat) : es_bst F r (if r = 0 then 1 else 0) ((if r = 0 then 1 else 0) + 1) = (if r = 0 then 1 else 0) := by
  by_cases e : r = 0
  · rw [if_pos e]
    subst e
    have a : es_bst F 0 1 1 = 1 := by
      show (if 0 = 0 then es_bst F 0 1 0 else _) = 1
      rw [if_pos rfl]
      rfl
    show (if 1 = 0 then es_bst F 0 1 1 else if F 1 ≤ F (es_bst F 0 1 1) then es_bst F 0 1 1 else 1) = 1
    rw [a, if_neg (by decide), if_pos (Int.le_refl _)]
  · rw [if_neg e]
    show (if 0 = r then es_bst F r 0 0 else if F 0 ≤ F (es_bst F r 0 0) then es_bst F r 0 0 else 0) = 0
    have a : es_bst F r 0 0 = 0 := rfl
    rw [a, if_neg (fun z => e z.symm), if_pos (Int.le_refl _)]
section
variable {rep slt qlm hlm : Nat} {h : es_H} {gv lt ls sp sv xa xt hd ln tn mk mf mt mi mn yk yo yg ya yt kn wa wt : Nat → Int32} {k : Nat}
theorem ex_rich_22 {r b0 : Nat} (H : es_WF rep h) (X : es_XR h gv lt ls sp sv) (hr : r < rep) (hb : b0 < rep) (hn : ¬ b0 = r) (post : Int32 → Prop)
    (hp : post (nI (es_bst (es_R h rep r) r b0 rep))) :
    ∀ d i, i + d = rep → wX_richestOther_22 post (nI r) (nI rep) (nI slt) (nI qlm) (nI hlm) (nI (es_c h)) gv lt ls sp sv xa xt hd ln tn mk mf mt mi mn (d + 1) (nI (es_bst (es_R h rep r) r b0 i)) (es_i (es_R h rep r (es_bst (es_R h rep r) r b0 i))) (nI i) := by
  have h4 := H.1
  intro d
  induction d with
  | zero =>
    intro i e
    have e' : i = rep := e
    subst e'
    exact br_t (nI_le (Nat.le_refl _) (by omega)) hp
  | succ d ih =>
    intro i e
    have z := ih (i + 1) (by omega)
    simp only [es_bst] at z
    refine br_f (nI_ge (by omega) (by omega)) (ex_rights X h4 (by omega) (by omega) _ ?_)
    by_cases q : i = r
    · rw [if_pos q] at z
      exact br_t (congrArg nI q) (nm_r (nI_1 i) z)
    · rw [if_neg q] at z
      refine br_f (fun y => q ((nI_eq (by omega) (by omega)).mp y)) ?_
      have g1 := es_R_rng H r i
      have g2 := es_R_rng H r (es_bst (es_R h rep r) r b0 i)
      rw [es_i_le (by omega) (by omega) (by omega) (by omega)]
      by_cases y : es_R h rep r i ≤ es_R h rep r (es_bst (es_R h rep r) r b0 i)
      · rw [if_pos y] at z
        exact br_t y (nm_r (nI_1 i) z)
      · rw [if_neg y] at z
        exact br_f y (nm_r (nI_1 i) z)
theorem ex_rich {r : Nat} (H : es_WF rep h) (X : es_XR h gv lt ls sp sv) (hr2 : 2 ≤ rep) (hr : r < rep) (post : Int32 → Prop)
    (hp : post (nI (es_bst (es_R h rep r) r (if r = 0 then 1 else 0) rep))) : wpX_richestOther post (nI rep, nI slt, nI qlm, nI hlm, nI (es_c h), gv, lt, ls, sp, sv, xa, xt, hd, ln, tn, mk, mf, mt, mi, mn) (nI r) := by
  have h4 := H.1
  have K : ∀ b0 : Nat, b0 = (if r = 0 then 1 else 0) → wX_richestOther_9 post (nI r) (nI b0) (nI rep) (nI slt) (nI qlm) (nI hlm) (nI (es_c h)) gv lt ls sp sv xa xt hd ln tn mk mf mt mi mn := by
    intro b0 hb0
    have e := es_bst_b0 (es_R h rep r) r
    rw [← hb0] at e hp
    have b2 : b0 < 2 ∧ ¬ b0 = r := by
      by_cases q : r = 0
      · rw [if_pos q] at hb0; omega
      · rw [if_neg q] at hb0; omega
    unfold wX_richestOther_9
    refine ex_rights X h4 (by omega) (by omega) _ (nm_r (nI_1 b0) ⟨rep - (b0 + 1) + 1, ?_⟩)
    have z := ex_rich_22 (slt := slt) (qlm := qlm) (hlm := hlm) (xa := xa) (xt := xt) (hd := hd) (ln := ln) (tn := tn) (mk := mk) (mf := mf) (mt := mt) (mi := mi) (mn := mn) H X hr (b0 := b0) (by omega) b2.2 post hp (rep - (b0 + 1)) (b0 + 1) (by omega)
    rw [e] at z
    exact z
  unfold wpX_richestOther
  dsimp only
  by_cases q : r = 0
  · exact br_t (congrArg nI q) (K 1 (if_pos q).symm)
  · exact br_f (nI_ne0 (by omega) (by omega)) (K 0 (if_neg q).symm)
theorem ey_rich {r b0 : Nat} (H : es_WF rep h) (Y : es_YR h yk yo yg ya yt kn) (hr : r < rep) (hb : b0 < rep) (hn : ¬ b0 = r) (post : Int32 → SY → Prop)
    (hp : wY_borrow_44 post (nI r) (nI rep) (nI slt) (nI qlm) (nI hlm) (nI (es_c h)) yk yo yg ya yt kn ln tn wa wt mk mf mt mi mn 1 (nI (es_bst (es_R h rep r) r b0 rep)) (nI rep)) :
    ∀ d i, i + d = rep → wY_borrow_44 post (nI r) (nI rep) (nI slt) (nI qlm) (nI hlm) (nI (es_c h)) yk yo yg ya yt kn ln tn wa wt mk mf mt mi mn (d + 1) (nI (es_bst (es_R h rep r) r b0 i)) (nI i) := by
  have h4 := H.1
  intro d
  induction d with
  | zero =>
    intro i e
    have e' : i = rep := e
    subst e'
    exact hp
  | succ d ih =>
    intro i e
    have z := ih (i + 1) (by omega)
    simp only [es_bst] at z
    refine br_f (nI_ge (by omega) (by omega)) ?_
    by_cases q : i = r
    · rw [if_pos q] at z
      exact br_t (congrArg nI q) (nm_r (nI_1 i) z)
    · rw [if_neg q] at z
      have bl := es_bst_lt (F := es_R h rep r) hb hn i (by omega)
      refine br_f (fun y => q ((nI_eq (by omega) (by omega)).mp y)) (ey_rights Y H (by omega) (by omega) _ (ey_rights Y H (by omega) bl.1 _ ?_))
      have g1 := es_R_rng H r i
      have g2 := es_R_rng H r (es_bst (es_R h rep r) r b0 i)
      rw [es_i_le (by omega) (by omega) (by omega) (by omega)]
      by_cases y : es_R h rep r i ≤ es_R h rep r (es_bst (es_R h rep r) r b0 i)
      · rw [if_pos y] at z
        exact br_t y (nm_r (nI_1 i) z)
      · rw [if_neg y] at z
        exact br_f y (nm_r (nI_1 i) z)
theorem es_m_borrow (R : es_Rel k rep slt qlm hlm h gv lt ls sp sv xa xt hd ln tn mk mf mt mi yk yo yg ya yt kn wa wt) (v1 : Int32) : ∃ (r : Int32) (u : SX) (v : SY), i_Rel (k + 5) u v ∧
    (∀ post : Int32 → SX → Prop, post r u → wpX_borrow post (nI rep, nI slt, nI qlm, nI hlm, nI (es_c h), gv, lt, ls, sp, sv, xa, xt, hd, ln, tn, mk, mf, mt, mi, mn) v1) ∧ (∀ post : Int32 → SY → Prop, post r v → wpY_borrow post (nI rep, nI slt, nI qlm, nI hlm, nI (es_c h), yk, yo, yg, ya, yt, kn, ln, tn, wa, wt, mk, mf, mt, mi, mn) v1) := by
  have R0 := R
  obtain ⟨⟨r1, r2, r3, r4⟩, H, X, Y, Q, M⟩ := R
  have h4 := H.1
  have hc := H.2.1
  rcases es_ck v1 (n := rep) (by omega) with hb | ⟨r, hr, rfl⟩
  · refine ⟨-1, _, _, es_stay (mn := mn) R0, fun post hp => ?_, fun post hp => ?_⟩
    · unfold wpX_borrow
      dsimp only
      exact ex_ckR_b hb _ (br_f (by decide) hp)
    · unfold wpY_borrow
      dsimp only
      exact ey_ckR_b hb _ (br_f (by decide) hp)
  by_cases f : hlm ≤ es_c h
  · refine ⟨-2, _, _, es_stay (mn := mn) R0, fun post hp => ?_, fun post hp => ?_⟩
    · unfold wpX_borrow
      dsimp only
      refine ex_ckR_g h4 hr _ (br_t rfl (ex_full (by omega) (by omega) _ ?_))
      rw [decide_eq_true f]
      exact br_f (by decide) hp
    · unfold wpY_borrow
      dsimp only
      refine ey_ckR_g h4 hr _ (br_t rfl (ey_full (by omega) (by omega) _ ?_))
      rw [decide_eq_true f]
      exact br_f (by decide) hp
  obtain ⟨hh, l, g, a1, a2, a3, a4, a5, a6, a7⟩ := Q r (by omega)
  have vr : vp_in (nI r) 4 := vp_in_nI (by omega) (by omega)
  have cr : (nI r).toNatClampNeg = r := nI_clamp (by omega)
  by_cases l0 : l = 0
  · refine ⟨-3, _, _, es_stay (mn := mn) R0, fun post hp => ?_, fun post hp => ?_⟩
    · unfold wpX_borrow
      dsimp only
      refine ex_ckR_g h4 hr _ (br_t rfl (ex_full (by omega) (by omega) _ ?_))
      rw [decide_eq_false f, cr, a5]
      exact br_t rfl ⟨vr, br_t (congrArg nI l0) hp⟩
    · unfold wpY_borrow
      dsimp only
      refine ey_ckR_g h4 hr _ (br_t rfl (ey_full (by omega) (by omega) _ ?_))
      rw [decide_eq_false f, cr, a5]
      exact br_t rfl ⟨vr, br_t (congrArg nI l0) hp⟩
  obtain ⟨c1, c2, w, t, c3, c4, c5, c6, c7⟩ := a7 0 (by omega)
  obtain ⟨b0, hb0⟩ : ∃ b0 : Nat, b0 = (if r = 0 then 1 else 0) := ⟨_, rfl⟩
  have b2 : b0 < 2 ∧ ¬ b0 = r := by
    by_cases q : r = 0
    · rw [if_pos q] at hb0; omega
    · rw [if_neg q] at hb0; omega
  obtain ⟨d, hd0⟩ : ∃ d : Nat, d = es_bst (es_R h rep r) r b0 rep := ⟨_, rfl⟩
  have dl := es_bst_lt (F := es_R h rep r) (r := r) (b0 := b0) (rep := rep) (by omega) b2.2 rep (Nat.le_refl _)
  rw [← hd0] at dl
  obtain ⟨z, h2, gv2, lt2, ls2, sp2, sv2, mk2, mf2, mt2, mi2, mn2, kn2, e1, e2, e3⟩ := es_both_post (mn := mn) R0 (s := r) (a := r) (b := d) (t := t) (by omega) (fun f hf hz => by omega) 2
    (nI w - es_i (es_R h rep r r) + nI (if es_T h r d r = t then es_L h r d r else 0)) hr dl.1 (fun y => dl.2 y.symm) c5
  refine ⟨z, _, _, es_stay (mn := mn2) e1, fun post hp => ?_, fun post hp => ?_⟩
  · unfold wpX_borrow
    dsimp only
    refine ex_ckR_g h4 hr _ (br_t rfl (ex_full (by omega) (by omega) _ ?_))
    rw [decide_eq_false f, cr, a5]
    refine br_t rfl ⟨vr, br_f (nI_ne0 (by omega) (by omega)) (ex_rich H X r1 hr _ ?_)⟩
    rw [← hb0, ← hd0]
    refine ex_ring (p := 0) (by omega) a4 a1 (by omega) _ ?_
    have v : vp_in (nI (r * 8 + (hh + 0) % 8)) 32 := vp_in_nI (by omega) (by omega)
    rw [nI_clamp (by omega), c1, c2, c6, c7]
    exact ⟨v, nm_e ⟨v, ex_rights X h4 (by omega) hr _ (nm_e (ex_lentFor X H.2.2.1 (by omega) (by omega) (by omega) c5 _ (nm_e (e2 _ hp))))⟩⟩
  · have v8 : vp_in (nI (r * 8)) 32 := vp_in_nI (by omega) (by omega)
    have fin : wY_borrow_44 post (nI r) (nI rep) (nI slt) (nI qlm) (nI hlm) (nI (es_c h)) yk yo yg ya yt kn ln tn wa wt mk mf mt mi mn 1 (nI (es_bst (es_R h rep r) r b0 rep)) (nI rep) := by
      refine br_t (nI_le (Nat.le_refl _) (by omega)) ?_
      have c6' : wa (r * 8) = nI w := c6
      have c7' : wt (r * 8) = nI t := c7
      rw [es_ix8', nI_clamp (by omega), c6', c7', ← hd0]
      exact ⟨v8, nm_e ⟨v8, ey_rights Y H (by omega) hr _ (ey_lent Y H (by omega) (by omega) (by omega) dl.2 c5 _ (nm_e (e3 _ hp)))⟩⟩
    have lp := ey_rich H Y hr (b0 := b0) (by omega) b2.2 post fin rep 0 (by omega)
    unfold wpY_borrow
    dsimp only
    refine ey_ckR_g h4 hr _ (br_t rfl (ey_full (by omega) (by omega) _ ?_))
    rw [decide_eq_false f, cr, a5]
    refine br_t rfl ⟨vr, br_f (nI_ne0 (by omega) (by omega)) ?_⟩
    by_cases q : r = 0
    · have b1 : b0 = 1 := by rw [hb0, if_pos q]
      subst b1
      exact br_t (congrArg nI q) ⟨rep + 1, lp⟩
    · have b1 : b0 = 0 := by rw [hb0, if_neg q]
      subst b1
      exact br_f (nI_ne0 (by omega) (by omega)) ⟨rep + 1, lp⟩
/-! delivering -/
theorem es_m_deliver (R : es_Rel k rep slt qlm hlm h gv lt ls sp sv xa xt hd ln tn mk mf mt mi yk yo yg ya yt kn wa wt) (v1 : Int32) : ∃ (r : Int32) (u : SX) (v : SY), i_Rel (k + 5) u v ∧
    (∀ post : Int32 → SX → Prop, post r u → wpX_deliver post (nI rep, nI slt, nI qlm, nI hlm, nI (es_c h), gv, lt, ls, sp, sv, xa, xt, hd, ln, tn, mk, mf, mt, mi, mn) v1) ∧ (∀ post : Int32 → SY → Prop, post r v → wpY_deliver post (nI rep, nI slt, nI qlm, nI hlm, nI (es_c h), yk, yo, yg, ya, yt, kn, ln, tn, wa, wt, mk, mf, mt, mi, mn) v1) := by
  have R0 := R
  obtain ⟨⟨r1, r2, r3, r4⟩, H, X, Y, Q, M⟩ := R
  have h4 := H.1
  have hc := H.2.1
  rcases es_ck v1 (n := slt) (by omega) with hb | ⟨s, hs, rfl⟩
  · refine ⟨-1, _, _, es_stay (mn := mn) R0, fun post hp => ?_, fun post hp => ?_⟩
    · unfold wpX_deliver
      dsimp only
      exact ex_ckS_b hb _ (br_f (by decide) hp)
    · unfold wpY_deliver
      dsimp only
      exact ey_ckS_b hb _ (br_f (by decide) hp)
  have v : vp_in (nI s) 12 := vp_in_nI (by omega) (by omega)
  have cs : (nI s).toNatClampNeg = s := nI_clamp (by omega)
  by_cases m0 : mk s = 0
  · refine ⟨-3, _, _, es_stay (mn := mn) R0, fun post hp => ?_, fun post hp => ?_⟩
    · unfold wpX_deliver
      dsimp only
      rw [cs]
      exact ex_ckS_g r2 hs _ (br_t rfl ⟨v, nm_e (br_t m0 hp)⟩)
    · unfold wpY_deliver
      dsimp only
      rw [cs]
      exact ey_ckS_g r2 hs _ (br_t rfl ⟨v, br_t m0 hp⟩)
  obtain ⟨b, p, t, q1, q2, q3, q4, q5, q6, q7⟩ := M s hs m0
  obtain ⟨gv1, lt1, ls1, sp1, sv1, x1, x2⟩ := ex_merge (rp := nI rep) (sl := nI slt) (ql := nI qlm) (hl := nI hlm) (ct := nI (es_c h)) (xa := xa) (xt := xt) (hd := hd) (ln := ln) (tn := tn) (mk := upd mk s 0) (mf := mf) (mt := mt) (mi := mi) (mn := mn)
    H X (p := p) (s := 4 + s) (by omega) (by omega) (by omega)
  have y1 := es_YR_mrg Y H (p := p) (s := 4 + s) (by omega) (by omega)
  have R1 : es_Rel k rep slt qlm hlm (es_mrg h p (4 + s)) gv1 lt1 ls1 sp1 sv1 xa xt hd ln tn (upd mk s 0) mf mt mi yk yo yg ya yt (es_kn h kn p (4 + s) (es_c h)) wa wt :=
    ⟨⟨r1, r2, r3, r4⟩, es_WF_mrg H (by omega) (by omega), x1, y1, Q, es_MR_0 M s⟩
  obtain ⟨n, h2, sp2, sv2, hd2, ln2, yk2, yo2, yg2, ya2, yt2, kn2, wa2, wt2, f1, f2, f3, f4⟩ := es_serve0 (mn := mn) (r := p) q5 R1
  by_cases kd : mk s = 1
  · refine ⟨if n = 0 then (if es_nw h (4 + s) p (es_c h) = true then 11 else 10) else 12, _, _, es_stay (mn := mn) f2, fun post hp => ?_, fun post hp => ?_⟩
    · unfold wpX_deliver
      dsimp only
      rw [cs, es_4p, q1, q2, q3]
      refine ex_ckS_g r2 hs _ (br_t rfl ⟨v, nm_e (br_f m0 ⟨v, nm_e ⟨v, nm_e ⟨v, nm_e ⟨v, nm_e ⟨v, nm_e (x2 _ ?_)⟩⟩⟩⟩⟩)⟩)
      refine f3 _ ?_
      refine br_t kd ?_
      unfold wpX_stateAnswer
      dsimp only
      by_cases n0 : n = 0
      · rw [if_pos n0] at hp
        refine br_t (nI_le (b := 0) (by omega) (by omega)) ?_
        cases w : es_nw h (4 + s) p (es_c h)
        · rw [w, if_neg (by decide)] at hp
          exact br_t rfl hp
        · rw [w, if_pos rfl] at hp
          exact br_f (by decide) hp
      · rw [if_neg n0] at hp
        exact br_f (nI_nle (by omega) (by omega)) hp
    · have z := ey_dl (rp := nI rep) (sl := nI slt) (ql := nI qlm) (hl := nI hlm) (ln := ln) (tn := tn) (wa := wa) (wt := wt) (mk := upd mk s 0) (mf := mf) (mt := mt) (mi := mi) (mn := mn)
        Y H (p := p) (f := s) (by omega) (by omega) (mk s) (nI b) (nI t) (mn s) post (br_t (nI_le (Nat.le_refl _) (by omega)) (f4 _ (br_t kd (by
          by_cases n0 : n = 0
          · rw [if_pos n0] at hp
            refine br_t (nI_le (b := 0) (by omega) (by omega)) ?_
            cases w : es_nw h (4 + s) p (es_c h)
            · rw [w, if_neg (by decide)] at hp
              exact br_t rfl hp
            · rw [w, if_pos rfl] at hp
              exact br_f (by decide) hp
          · rw [if_neg n0] at hp
            exact br_f (nI_nle (by omega) (by omega)) hp)))) (es_c h) 0 (by omega)
      rw [es_kn_0] at z
      unfold wpY_deliver
      dsimp only
      rw [cs, q1, q2, q3]
      exact ey_ckS_g r2 hs _ (br_t rfl ⟨v, br_f m0 ⟨v, nm_e ⟨v, nm_e ⟨v, nm_e ⟨v, nm_e ⟨v, nm_e ⟨v, nm_e ⟨es_c h + 1, z⟩⟩⟩⟩⟩⟩⟩⟩)
  · obtain ⟨ga, h3, gv3, lt3, ls3, yk3, yo3, yg3, ya3, yt3, kn3, g1, g2, g3⟩ := es_both_grant (mn := mn) f2 (p := p) (b := b) (t := t) q5 q4 (fun y => q6 y.symm) q7 (mn s)
    obtain ⟨zz, h5, gv5, lt5, ls5, sp5, sv5, mk5, mf5, mt5, mi5, mn5, kn5, e1, e2, e3⟩ := es_both_post (mn := mn) g1 (s := p) (a := p) (b := b) (t := 0) (by omega) (fun f hf hz => by omega) 1 0 q5 q4 (fun y => q6 y.symm) (by omega)
    refine ⟨ga, _, _, es_stay (mn := mn5) e1, fun post hp => ?_, fun post hp => ?_⟩
    · unfold wpX_deliver
      dsimp only
      rw [cs, es_4p, q1, q2, q3]
      refine ex_ckS_g r2 hs _ (br_t rfl ⟨v, nm_e (br_f m0 ⟨v, nm_e ⟨v, nm_e ⟨v, nm_e ⟨v, nm_e ⟨v, nm_e (x2 _ ?_)⟩⟩⟩⟩⟩)⟩)
      refine f3 _ ?_
      refine br_f kd ?_
      refine g2 _ ?_
      exact e2 _ hp
    · have z := ey_dl (rp := nI rep) (sl := nI slt) (ql := nI qlm) (hl := nI hlm) (ln := ln) (tn := tn) (wa := wa) (wt := wt) (mk := upd mk s 0) (mf := mf) (mt := mt) (mi := mi) (mn := mn)
        Y H (p := p) (f := s) (by omega) (by omega) (mk s) (nI b) (nI t) (mn s) post (br_t (nI_le (Nat.le_refl _) (by omega)) (f4 _ (br_f kd (g3 _ (e3 _ hp))))) (es_c h) 0 (by omega)
      rw [es_kn_0] at z
      unfold wpY_deliver
      dsimp only
      rw [cs, q1, q2, q3]
      exact ey_ckS_g r2 hs _ (br_t rfl ⟨v, br_f m0 ⟨v, nm_e ⟨v, nm_e ⟨v, nm_e ⟨v, nm_e ⟨v, nm_e ⟨v, nm_e ⟨es_c h + 1, z⟩⟩⟩⟩⟩⟩⟩⟩)
end
end
section
/-! the constructors -/
def es_h0 : es_H := (0, fun _ => 0, fun _ => 0, fun _ => 0, fun _ => 0, fun v _ => v == 16)
theorem es_clamp (p : Int32) (lo hi : Nat) (h : lo ≤ hi) (hh : hi < 2147483648) : ∃ n : Nat, lo ≤ n ∧ n ≤ hi ∧ ∀ P : Int32 → Prop, P (nI n) →
    ((nI lo ≤ p → ((p ≤ nI hi → P p) ∧ (¬ p ≤ nI hi → P (nI hi)))) ∧ (¬ nI lo ≤ p → P (nI lo))) := by
  by_cases a : nI lo ≤ p
  · by_cases b : p ≤ nI hi
    · obtain ⟨j, hj, rfl⟩ := nI_of (x := p) (Int32.not_lt.mpr (Int32.le_trans (nI_pos' (by omega)) a))
      exact ⟨j, (nI_leI (by omega) hj).mp a, (nI_leI hj (by omega)).mp b, fun P q => br_t a (br_t b q)⟩
    · exact ⟨hi, h, Nat.le_refl _, fun P q => br_t a (br_f b q)⟩
  · exact ⟨lo, Nat.le_refl _, h, fun P q => br_f a q⟩
theorem ex_clamp {rp sl ql hl ct : Int32} {gv lt ls sp sv xa xt hd ln tn mk mf mt mi mn : Nat → Int32} {p : Int32} {lo hi n : Nat}
    (c : ∀ P : Int32 → Prop, P (nI n) → ((nI lo ≤ p → ((p ≤ nI hi → P p) ∧ (¬ p ≤ nI hi → P (nI hi)))) ∧ (¬ nI lo ≤ p → P (nI lo)))) (post : Int32 → Prop) (hp : post (nI n)) :
    wpX_clamp post (rp, sl, ql, hl, ct, gv, lt, ls, sp, sv, xa, xt, hd, ln, tn, mk, mf, mt, mi, mn) p (nI lo) (nI hi) := c post hp
theorem es_rel0 {rep slt qlm hlm : Nat} (h1 : 2 ≤ rep) (h2 : rep ≤ 4) (h3 : slt ≤ 12) (h4 : qlm ≤ 8) (h5 : hlm ≤ 128) :
    i_Rel 4 (nI rep, nI slt, nI qlm, nI hlm, 0, (fun _ => 0), (fun _ => 0), (fun _ => 0), (fun _ => 0), (fun _ => 0), (fun _ => 0), (fun _ => 0), (fun _ => 0), (fun _ => 0), (fun _ => 0), (fun _ => 0), (fun _ => 0), (fun _ => 0), (fun _ => 0), (fun _ => 0)) (nI rep, nI slt, nI qlm, nI hlm, 0, (fun _ => 0), (fun _ => 0), (fun _ => 0), (fun _ => 0), (fun _ => 0), (fun _ => 0), (fun _ => 0), (fun _ => 0), (fun _ => 0), (fun _ => 0), (fun _ => 0), (fun _ => 0), (fun _ => 0), (fun _ => 0), (fun _ => 0)) := by
  refine es_intro (h := es_h0) ⟨⟨h1, h3, h4, h5⟩, ⟨h2, Nat.zero_le _, fun i hi => absurd hi (Nat.not_lt_zero i), ⟨fun i => rfl, fun v i j _ _ hj => absurd hj (Nat.not_lt_zero j), fun v i hv _ => ?_⟩, fun r hr => ?_⟩, ⟨fun v j _ _ => ⟨rfl, rfl, rfl⟩, fun v j _ _ => ⟨rfl, rfl⟩⟩, ⟨fun i hi => absurd hi (Nat.not_lt_zero i), fun v i hv _ => ?_⟩, fun r hr => ?_, fun s _ hz => absurd rfl hz⟩
  · show (v == 16) = false
    exact es_bf (by omega)
  · have s0 : ∀ v a b, es_S es_h0 v a b = 0 := fun _ _ _ => rfl
    have g0 : ∀ (F : Nat → Nat), (∀ i, F i = 0) → ∀ n, es_sg F n = 0 := by
      intro F hF n
      induction n with
      | zero => rfl
      | succ n ih =>
        simp only [es_sg]
        rw [ih, hF]
    unfold es_R es_in es_out
    rw [g0 _ (fun i => by rw [s0]; split <;> rfl), g0 _ (fun i => by rw [s0]; split <;> rfl), s0, s0]
    decide
  · show (0 : Int32) = es_b (v == 16)
    rw [es_bf (by omega)]
    rfl
  · exact ⟨0, 0, 0, by omega, by omega, by omega, rfl, rfl, rfl, fun p hp => absurd hp (Nat.not_lt_zero p)⟩
theorem i_vc0 (k0 : Int32) (k1 : Int32) (k2 : Int32) (k3 : Int32) : wpX_init (fun u => wpY_init (fun v => i_Rel 4 u v) k0 k1 k2 k3) k0 k1 k2 k3 := by
  obtain ⟨n0, a0, b0, c0⟩ := es_clamp k0 2 4 (by omega) (by omega)
  obtain ⟨n1, a1, b1, c1⟩ := es_clamp k1 2 12 (by omega) (by omega)
  obtain ⟨n2, a2, b2, c2⟩ := es_clamp k2 1 8 (by omega) (by omega)
  obtain ⟨n3, a3, b3, c3⟩ := es_clamp k3 8 128 (by omega) (by omega)
  have fin := es_rel0 (rep := n0) (slt := n1) (qlm := n2) (hlm := n3) a0 b0 b1 b2 b3
  unfold wpX_init
  refine ex_clamp (lo := 2) (hi := 4) c0 _ ?_
  refine ex_clamp (lo := 2) (hi := 12) c1 _ ?_
  refine ex_clamp (lo := 1) (hi := 8) c2 _ ?_
  refine ex_clamp (lo := 8) (hi := 128) c3 _ ?_
  unfold wpY_init
  refine c0 (fun z => wY_init_153 _ k1 k2 k3 z 0 0 0 0 0 (fun _ => 0) (fun _ => 0) (fun _ => 0) (fun _ => 0) (fun _ => 0) (fun _ => 0) (fun _ => 0) (fun _ => 0) (fun _ => 0) (fun _ => 0) (fun _ => 0) (fun _ => 0) (fun _ => 0) (fun _ => 0) (fun _ => 0)) ?_
  unfold wY_init_153
  refine c1 (fun z => wY_init_178 _ k2 k3 z (nI n0) 0 0 0 0 (fun _ => 0) (fun _ => 0) (fun _ => 0) (fun _ => 0) (fun _ => 0) (fun _ => 0) (fun _ => 0) (fun _ => 0) (fun _ => 0) (fun _ => 0) (fun _ => 0) (fun _ => 0) (fun _ => 0) (fun _ => 0) (fun _ => 0)) ?_
  unfold wY_init_178
  refine c2 (fun z => wY_init_203 _ k3 z (nI n0) (nI n1) 0 0 0 (fun _ => 0) (fun _ => 0) (fun _ => 0) (fun _ => 0) (fun _ => 0) (fun _ => 0) (fun _ => 0) (fun _ => 0) (fun _ => 0) (fun _ => 0) (fun _ => 0) (fun _ => 0) (fun _ => 0) (fun _ => 0) (fun _ => 0)) ?_
  unfold wY_init_203
  exact c3 (fun z => i_Rel 4 _ (nI n0, nI n1, nI n2, z, 0, (fun _ => 0), (fun _ => 0), (fun _ => 0), (fun _ => 0), (fun _ => 0), (fun _ => 0), (fun _ => 0), (fun _ => 0), (fun _ => 0), (fun _ => 0), (fun _ => 0), (fun _ => 0), (fun _ => 0), (fun _ => 0), (fun _ => 0))) fin
theorem i_vc_increment {k : Nat} {u : SX} {v : SY} (I : i_Rel k u v) (hk : k + 5 ≤ 2564) (v1 : Int32) (v2 : Int32) : wpX_increment (fun r u' => wpY_increment (fun r' v' => r' = r ∧ i_Rel (k + 5) u' v') v v1 v2) u v1 v2 := by
  have O := es_el (P := fun u v => ∃ (r : Int32) (u' : SX) (v' : SY), i_Rel (k + 5) u' v' ∧ (∀ post : Int32 → SX → Prop, post r u' → wpX_increment post u v1 v2) ∧ (∀ post : Int32 → SY → Prop, post r v' → wpY_increment post v v1 v2))
    (fun rep slt qlm hlm h gv lt ls sp sv xa xt hd ln tn mk mf mt mi mn yk yo yg ya yt kn wa wt R => es_m_increment R v1 v2) I
  obtain ⟨r, u', v', a, hx, hy⟩ := O
  exact hx _ (hy _ ⟨rfl, a⟩)
theorem i_vc_decrement {k : Nat} {u : SX} {v : SY} (I : i_Rel k u v) (hk : k + 5 ≤ 2564) (v1 : Int32) (v2 : Int32) : wpX_decrement (fun r u' => wpY_decrement (fun r' v' => r' = r ∧ i_Rel (k + 5) u' v') v v1 v2) u v1 v2 := by
  have O := es_el (P := fun u v => ∃ (r : Int32) (u' : SX) (v' : SY), i_Rel (k + 5) u' v' ∧ (∀ post : Int32 → SX → Prop, post r u' → wpX_decrement post u v1 v2) ∧ (∀ post : Int32 → SY → Prop, post r v' → wpY_decrement post v v1 v2))
    (fun rep slt qlm hlm h gv lt ls sp sv xa xt hd ln tn mk mf mt mi mn yk yo yg ya yt kn wa wt R => es_m_decrement R hk v1 v2) I
  obtain ⟨r, u', v', a, hx, hy⟩ := O
  exact hx _ (hy _ ⟨rfl, a⟩)
theorem i_vc_transfer {k : Nat} {u : SX} {v : SY} (I : i_Rel k u v) (hk : k + 5 ≤ 2564) (v1 : Int32) (v2 : Int32) (v3 : Int32) : wpX_transfer (fun r u' => wpY_transfer (fun r' v' => r' = r ∧ i_Rel (k + 5) u' v') v v1 v2 v3) u v1 v2 v3 := by
  have O := es_el (P := fun u v => ∃ (r : Int32) (u' : SX) (v' : SY), i_Rel (k + 5) u' v' ∧ (∀ post : Int32 → SX → Prop, post r u' → wpX_transfer post u v1 v2 v3) ∧ (∀ post : Int32 → SY → Prop, post r v' → wpY_transfer post v v1 v2 v3))
    (fun rep slt qlm hlm h gv lt ls sp sv xa xt hd ln tn mk mf mt mi mn yk yo yg ya yt kn wa wt R => es_m_transfer R v1 v2 v3) I
  obtain ⟨r, u', v', a, hx, hy⟩ := O
  exact hx _ (hy _ ⟨rfl, a⟩)
theorem i_vc_abandon {k : Nat} {u : SX} {v : SY} (I : i_Rel k u v) (hk : k + 5 ≤ 2564) (v1 : Int32) : wpX_abandon (fun r u' => wpY_abandon (fun r' v' => r' = r ∧ i_Rel (k + 5) u' v') v v1) u v1 := by
  have O := es_el (P := fun u v => ∃ (r : Int32) (u' : SX) (v' : SY), i_Rel (k + 5) u' v' ∧ (∀ post : Int32 → SX → Prop, post r u' → wpX_abandon post u v1) ∧ (∀ post : Int32 → SY → Prop, post r v' → wpY_abandon post v v1))
    (fun rep slt qlm hlm h gv lt ls sp sv xa xt hd ln tn mk mf mt mi mn yk yo yg ya yt kn wa wt R => es_m_abandon R v1) I
  obtain ⟨r, u', v', a, hx, hy⟩ := O
  exact hx _ (hy _ ⟨rfl, a⟩)
theorem i_vc_send {k : Nat} {u : SX} {v : SY} (I : i_Rel k u v) (hk : k + 5 ≤ 2564) (v1 : Int32) (v2 : Int32) : wpX_send (fun r u' => wpY_send (fun r' v' => r' = r ∧ i_Rel (k + 5) u' v') v v1 v2) u v1 v2 := by
  have O := es_el (P := fun u v => ∃ (r : Int32) (u' : SX) (v' : SY), i_Rel (k + 5) u' v' ∧ (∀ post : Int32 → SX → Prop, post r u' → wpX_send post u v1 v2) ∧ (∀ post : Int32 → SY → Prop, post r v' → wpY_send post v v1 v2))
    (fun rep slt qlm hlm h gv lt ls sp sv xa xt hd ln tn mk mf mt mi mn yk yo yg ya yt kn wa wt R => es_m_send R v1 v2) I
  obtain ⟨r, u', v', a, hx, hy⟩ := O
  exact hx _ (hy _ ⟨rfl, a⟩)
theorem i_vc_borrow {k : Nat} {u : SX} {v : SY} (I : i_Rel k u v) (hk : k + 5 ≤ 2564) (v1 : Int32) : wpX_borrow (fun r u' => wpY_borrow (fun r' v' => r' = r ∧ i_Rel (k + 5) u' v') v v1) u v1 := by
  have O := es_el (P := fun u v => ∃ (r : Int32) (u' : SX) (v' : SY), i_Rel (k + 5) u' v' ∧ (∀ post : Int32 → SX → Prop, post r u' → wpX_borrow post u v1) ∧ (∀ post : Int32 → SY → Prop, post r v' → wpY_borrow post v v1))
    (fun rep slt qlm hlm h gv lt ls sp sv xa xt hd ln tn mk mf mt mi mn yk yo yg ya yt kn wa wt R => es_m_borrow R v1) I
  obtain ⟨r, u', v', a, hx, hy⟩ := O
  exact hx _ (hy _ ⟨rfl, a⟩)
theorem i_vc_deliver {k : Nat} {u : SX} {v : SY} (I : i_Rel k u v) (hk : k + 5 ≤ 2564) (v1 : Int32) : wpX_deliver (fun r u' => wpY_deliver (fun r' v' => r' = r ∧ i_Rel (k + 5) u' v') v v1) u v1 := by
  have O := es_el (P := fun u v => ∃ (r : Int32) (u' : SX) (v' : SY), i_Rel (k + 5) u' v' ∧ (∀ post : Int32 → SX → Prop, post r u' → wpX_deliver post u v1) ∧ (∀ post : Int32 → SY → Prop, post r v' → wpY_deliver post v v1))
    (fun rep slt qlm hlm h gv lt ls sp sv xa xt hd ln tn mk mf mt mi mn yk yo yg ya yt kn wa wt R => es_m_deliver R v1) I
  obtain ⟨r, u', v', a, hx, hy⟩ := O
  exact hx _ (hy _ ⟨rfl, a⟩)
theorem i_vc_duplicate {k : Nat} {u : SX} {v : SY} (I : i_Rel k u v) (hk : k + 5 ≤ 2564) (v1 : Int32) : wpX_duplicate (fun r u' => wpY_duplicate (fun r' v' => r' = r ∧ i_Rel (k + 5) u' v') v v1) u v1 := by
  have O := es_el (P := fun u v => ∃ (r : Int32) (u' : SX) (v' : SY), i_Rel (k + 5) u' v' ∧ (∀ post : Int32 → SX → Prop, post r u' → wpX_duplicate post u v1) ∧ (∀ post : Int32 → SY → Prop, post r v' → wpY_duplicate post v v1))
    (fun rep slt qlm hlm h gv lt ls sp sv xa xt hd ln tn mk mf mt mi mn yk yo yg ya yt kn wa wt R => es_m_duplicate R v1) I
  obtain ⟨r, u', v', a, hx, hy⟩ := O
  exact hx _ (hy _ ⟨rfl, a⟩)
theorem i_vc_drop {k : Nat} {u : SX} {v : SY} (I : i_Rel k u v) (hk : k + 5 ≤ 2564) (v1 : Int32) : wpX_drop (fun r u' => wpY_drop (fun r' v' => r' = r ∧ i_Rel (k + 5) u' v') v v1) u v1 := by
  have O := es_el (P := fun u v => ∃ (r : Int32) (u' : SX) (v' : SY), i_Rel (k + 5) u' v' ∧ (∀ post : Int32 → SX → Prop, post r u' → wpX_drop post u v1) ∧ (∀ post : Int32 → SY → Prop, post r v' → wpY_drop post v v1))
    (fun rep slt qlm hlm h gv lt ls sp sv xa xt hd ln tn mk mf mt mi mn yk yo yg ya yt kn wa wt R => es_m_drop R v1) I
  obtain ⟨r, u', v', a, hx, hy⟩ := O
  exact hx _ (hy _ ⟨rfl, a⟩)
theorem i_vc_value {k : Nat} {u : SX} {v : SY} (I : i_Rel k u v) (hk : k + 5 ≤ 2564) (v1 : Int32) : wpX_value (fun r => wpY_value (fun r' => r' = r ∧ i_Rel (k + 5) u v) v v1) u v1 := by
  have O := es_el (P := fun u v => ∃ r : Int32, (∀ post : Int32 → Prop, post r → wpX_value post u v1) ∧ (∀ post : Int32 → Prop, post r → wpY_value post v v1))
    (fun rep slt qlm hlm h gv lt ls sp sv xa xt hd ln tn mk mf mt mi mn yk yo yg ya yt kn wa wt R => es_m_value R v1) I
  obtain ⟨r, hx, hy⟩ := O
  exact hx _ (hy _ ⟨rfl, i_up I⟩)
theorem i_vc_tally {k : Nat} {u : SX} {v : SY} (I : i_Rel k u v) (hk : k + 5 ≤ 2564) (v1 : Int32) (v2 : Int32) (v3 : Int32) : wpX_tally (fun r => wpY_tally (fun r' => r' = r ∧ i_Rel (k + 5) u v) v v1 v2 v3) u v1 v2 v3 := by
  have O := es_el (P := fun u v => ∃ r : Int32, (∀ post : Int32 → Prop, post r → wpX_tally post u v1 v2 v3) ∧ (∀ post : Int32 → Prop, post r → wpY_tally post v v1 v2 v3))
    (fun rep slt qlm hlm h gv lt ls sp sv xa xt hd ln tn mk mf mt mi mn yk yo yg ya yt kn wa wt R => es_m_tally R v1 v2 v3) I
  obtain ⟨r, hx, hy⟩ := O
  exact hx _ (hy _ ⟨rfl, i_up I⟩)
theorem i_vc_account {k : Nat} {u : SX} {v : SY} (I : i_Rel k u v) (hk : k + 5 ≤ 2564) (v1 : Int32) (v2 : Int32) (v3 : Int32) (v4 : Int32) : wpX_account (fun r => wpY_account (fun r' => r' = r ∧ i_Rel (k + 5) u v) v v1 v2 v3 v4) u v1 v2 v3 v4 := by
  have O := es_el (P := fun u v => ∃ r : Int32, (∀ post : Int32 → Prop, post r → wpX_account post u v1 v2 v3 v4) ∧ (∀ post : Int32 → Prop, post r → wpY_account post v v1 v2 v3 v4))
    (fun rep slt qlm hlm h gv lt ls sp sv xa xt hd ln tn mk mf mt mi mn yk yo yg ya yt kn wa wt R => es_m_account R v1 v2 v3 v4) I
  obtain ⟨r, hx, hy⟩ := O
  exact hx _ (hy _ ⟨rfl, i_up I⟩)
theorem i_vc_compare {k : Nat} {u : SX} {v : SY} (I : i_Rel k u v) (hk : k + 5 ≤ 2564) (v1 : Int32) (v2 : Int32) : wpX_compare (fun r => wpY_compare (fun r' => r' = r ∧ i_Rel (k + 5) u v) v v1 v2) u v1 v2 := by
  have O := es_el (P := fun u v => ∃ r : Int32, (∀ post : Int32 → Prop, post r → wpX_compare post u v1 v2) ∧ (∀ post : Int32 → Prop, post r → wpY_compare post v v1 v2))
    (fun rep slt qlm hlm h gv lt ls sp sv xa xt hd ln tn mk mf mt mi mn yk yo yg ya yt kn wa wt R => es_m_compare R v1 v2) I
  obtain ⟨r, hx, hy⟩ := O
  exact hx _ (hy _ ⟨rfl, i_up I⟩)
theorem i_vc_waiting {k : Nat} {u : SX} {v : SY} (I : i_Rel k u v) (hk : k + 5 ≤ 2564) (v1 : Int32) (v2 : Int32) (v3 : Int32) : wpX_waiting (fun r => wpY_waiting (fun r' => r' = r ∧ i_Rel (k + 5) u v) v v1 v2 v3) u v1 v2 v3 := by
  have O := es_el (P := fun u v => ∃ r : Int32, (∀ post : Int32 → Prop, post r → wpX_waiting post u v1 v2 v3) ∧ (∀ post : Int32 → Prop, post r → wpY_waiting post v v1 v2 v3))
    (fun rep slt qlm hlm h gv lt ls sp sv xa xt hd ln tn mk mf mt mi mn yk yo yg ya yt kn wa wt R => es_m_waiting R v1 v2 v3) I
  obtain ⟨r, hx, hy⟩ := O
  exact hx _ (hy _ ⟨rfl, i_up I⟩)
theorem i_vc_issued {k : Nat} {u : SX} {v : SY} (I : i_Rel k u v) (hk : k + 5 ≤ 2564) (v1 : Int32) : wpX_issued (fun r => wpY_issued (fun r' => r' = r ∧ i_Rel (k + 5) u v) v v1) u v1 := by
  have O := es_el (P := fun u v => ∃ r : Int32, (∀ post : Int32 → Prop, post r → wpX_issued post u v1) ∧ (∀ post : Int32 → Prop, post r → wpY_issued post v v1))
    (fun rep slt qlm hlm h gv lt ls sp sv xa xt hd ln tn mk mf mt mi mn yk yo yg ya yt kn wa wt R => es_m_issued R v1) I
  obtain ⟨r, hx, hy⟩ := O
  exact hx _ (hy _ ⟨rfl, i_up I⟩)
theorem i_vc_message {k : Nat} {u : SX} {v : SY} (I : i_Rel k u v) (hk : k + 5 ≤ 2564) (v1 : Int32) (v2 : Int32) : wpX_message (fun r => wpY_message (fun r' => r' = r ∧ i_Rel (k + 5) u v) v v1 v2) u v1 v2 := by
  have O := es_el (P := fun u v => ∃ r : Int32, (∀ post : Int32 → Prop, post r → wpX_message post u v1 v2) ∧ (∀ post : Int32 → Prop, post r → wpY_message post v v1 v2))
    (fun rep slt qlm hlm h gv lt ls sp sv xa xt hd ln tn mk mf mt mi mn yk yo yg ya yt kn wa wt R => es_m_message R v1 v2) I
  obtain ⟨r, hx, hy⟩ := O
  exact hx _ (hy _ ⟨rfl, i_up I⟩)
end
