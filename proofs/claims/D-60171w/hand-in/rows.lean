section
/-! NUMBERS 1: sums paid by three coins, the fewest coins. No program in sight. -/
def cd_Pay (a b c v n : Nat) : Prop := ∃ x y z : Nat, x * a + y * b + z * c = v ∧ x + y + z = n
def cd_Can (a b c v : Nat) : Prop := ∃ x y z : Nat, x * a + y * b + z * c = v
/-- r is the least number with S, as an int; -1 if there is none -/
def cd_Min (S : Nat → Prop) (r : Int32) : Prop := (r = -1 ∧ ∀ n, ¬ S n) ∨ (∃ n, r = nI n ∧ S n ∧ ∀ k, S k → n ≤ k)
theorem cd_Min.one {S : Nat → Prop} {r r' : Int32} (h : cd_Min S r) (h' : cd_Min S r') : r = r' := by
  rcases h with ⟨e, h⟩ | ⟨n, e, h, hl⟩ <;> rcases h' with ⟨e', h'⟩ | ⟨n', e', h', hl'⟩
  · rw [e, e']
  · exact absurd h' (h n')
  · exact absurd h (h' n)
  · have hn : n = n' := Nat.le_antisymm (hl n' h') (hl' n h)
    rw [e, e', hn]
theorem cd_Min.to {S T : Nat → Prop} {r : Int32} (h : cd_Min S r) (h1 : ∀ n, S n → T n) (h2 : ∀ n, T n → ∃ k, k ≤ n ∧ S k) : cd_Min T r := by
  rcases h with ⟨e, h⟩ | ⟨n, e, h, hl⟩
  · refine Or.inl ⟨e, fun n hn => ?_⟩
    obtain ⟨k, -, hk⟩ := h2 n hn
    exact h k hk
  · refine Or.inr ⟨n, e, h1 n h, fun k hk => ?_⟩
    obtain ⟨j, hj, hs⟩ := h2 k hk
    exact Nat.le_trans (hl j hs) hj
theorem cd_Min.by_iff {S T : Nat → Prop} {r : Int32} (h : cd_Min S r) (e : ∀ n, S n ↔ T n) : cd_Min T r :=
  h.to (fun n hn => (e n).mp hn) (fun n hn => ⟨n, Nat.le_refl n, (e n).mpr hn⟩)
theorem cd_neg1 : (-1 : Int32) < 0 := by decide
theorem cd_Min.neg {S : Nat → Prop} {r : Int32} (h : cd_Min S r) (hB : ∀ n, S n → n < 2 ^ 31) (hr : r < 0) : r = -1 ∧ ∀ n, ¬ S n := by
  rcases h with h | ⟨n, e, h, hl⟩
  · exact h
  · rw [e] at hr
    exact absurd hr (nI_pos (hB n h))
theorem cd_Min.nonneg {S : Nat → Prop} {r : Int32} (h : cd_Min S r) (hr : ¬ r < 0) : ∃ n, r = nI n ∧ S n ∧ ∀ k, S k → n ≤ k := by
  rcases h with ⟨e, -⟩ | h
  · rw [e] at hr
    exact absurd cd_neg1 hr
  · exact h
theorem cd_Min.keep {S : Nat → Prop} {n k : Nat} (hn : S n) (hl : ∀ j, S j → n ≤ j) (hk : n ≤ k) : cd_Min (fun j => S j ∨ j = k) (nI n) := by
  refine Or.inr ⟨n, rfl, Or.inl hn, fun j hj => ?_⟩
  rcases hj with hj | hj
  · exact hl j hj
  · omega
theorem cd_Min.fresh {S : Nat → Prop} {k : Nat} (hl : ∀ j, S j → k ≤ j) : cd_Min (fun j => S j ∨ j = k) (nI k) := by
  refine Or.inr ⟨k, rfl, Or.inr rfl, fun j hj => ?_⟩
  rcases hj with hj | hj
  · exact hl j hj
  · omega
theorem cd_Min.grow {S T : Nat → Prop} {j0 : Nat} {r : Int32} (h : cd_Min (fun n => S n ∨ n = j0 + 1) r) (hj : T j0) (hl : ∀ j, T j → j0 ≤ j) : cd_Min (fun n => S n ∨ ∃ j, n = j + 1 ∧ T j) r := by
  refine h.to ?_ ?_
  · intro n hn
    rcases hn with hn | hn
    · exact Or.inl hn
    · exact Or.inr ⟨j0, hn, hj⟩
  · intro n hn
    rcases hn with hn | ⟨j, e, hT⟩
    · exact ⟨n, Nat.le_refl n, Or.inl hn⟩
    · have := hl j hT
      exact ⟨j0 + 1, by omega, Or.inr rfl⟩
/-! the fewest coins by two counted kinds and the greatest one -/
def cd_T (p q g v x y n : Nat) : Prop := x * p + y * q ≤ v ∧ (v - x * p - y * q) % g = 0 ∧ n = x + y + (v - x * p - y * q) / g
theorem cd_mulmod (p g X Y : Nat) : (g * X + Y) * p = Y * p + (p * X) * g := by
  rw [Nat.add_mul, Nat.add_comm (g * X * p) (Y * p), Nat.mul_comm (g * X) p, Nat.mul_comm g X, ← Nat.mul_assoc p X g]
theorem cd_few_to {p q g v : Nat} {r : Int32} (hp : p ≤ g) (hq : q ≤ g) (hg : 0 < g) (h : cd_Min (fun n => ∃ x, x < g ∧ ∃ y, y < g ∧ cd_T p q g v x y n) r) : cd_Min (cd_Pay p q g v) r := by
  refine h.to ?_ ?_
  · rintro n ⟨x, -, y, -, h1, h2, rfl⟩
    refine ⟨x, y, (v - x * p - y * q) / g, ?_, rfl⟩
    have h3 := Nat.div_add_mod (v - x * p - y * q) g
    have h4 : (v - x * p - y * q) / g * g = g * ((v - x * p - y * q) / g) := Nat.mul_comm _ _
    generalize (v - x * p - y * q) / g * g = D at h4 ⊢
    omega
  · rintro n ⟨x, y, z, e, rfl⟩
    have hx := Nat.div_add_mod x g
    have hy := Nat.div_add_mod y g
    have lx := Nat.mod_lt x hg
    have ly := Nat.mod_lt y hg
    generalize x / g = X at hx
    generalize x % g = x' at hx lx
    generalize y / g = Y at hy
    generalize y % g = y' at hy ly
    subst hx
    subst hy
    have e1 := cd_mulmod p g X x'
    have e2 := cd_mulmod q g Y y'
    have e3 : (p * X + q * Y + z) * g = (p * X) * g + (q * Y) * g + z * g := by rw [Nat.add_mul, Nat.add_mul]
    have l1 : p * X ≤ g * X := Nat.mul_le_mul_right X hp
    have l2 : q * Y ≤ g * Y := Nat.mul_le_mul_right Y hq
    rw [e1, e2] at e
    generalize hZ : p * X + q * Y + z = Z at e3
    have e4 : v - x' * p - y' * q = Z * g := by
      rw [e3]
      generalize x' * p = A1 at e ⊢
      generalize y' * q = A2 at e ⊢
      generalize p * X * g = A3 at e ⊢
      generalize q * Y * g = A4 at e ⊢
      generalize z * g = A5 at e ⊢
      omega
    have e5 : x' * p + y' * q ≤ v := by
      generalize x' * p = A1 at e ⊢
      generalize y' * q = A2 at e ⊢
      omega
    refine ⟨x' + y' + Z, ?_, x', lx, y', ly, e5, ?_, ?_⟩
    · generalize p * X = B1 at l1 hZ
      generalize q * Y = B2 at l2 hZ
      generalize g * X = B3 at l1 ⊢
      generalize g * Y = B4 at l2 ⊢
      omega
    · rw [e4, Nat.mul_mod_left]
    · rw [e4, Nat.mul_div_cancel _ hg]
theorem cd_pay_bca {a b c v n : Nat} : cd_Pay b c a v n ↔ cd_Pay a b c v n :=
  ⟨fun ⟨x, y, z, e, h⟩ => ⟨z, x, y, by omega, by omega⟩, fun ⟨x, y, z, e, h⟩ => ⟨y, z, x, by omega, by omega⟩⟩
theorem cd_pay_acb {a b c v n : Nat} : cd_Pay a c b v n ↔ cd_Pay a b c v n :=
  ⟨fun ⟨x, y, z, e, h⟩ => ⟨x, z, y, by omega, by omega⟩, fun ⟨x, y, z, e, h⟩ => ⟨x, z, y, by omega, by omega⟩⟩
theorem cd_pay_le {a b c v n : Nat} (ha : 0 < a) (hb : 0 < b) (hc : 0 < c) (h : cd_Pay a b c v n) : n ≤ v := by
  obtain ⟨x, y, z, e, rfl⟩ := h
  have h1 : x ≤ x * a := Nat.le_mul_of_pos_right x ha
  have h2 : y ≤ y * b := Nat.le_mul_of_pos_right y hb
  have h3 : z ≤ z * c := Nat.le_mul_of_pos_right z hc
  omega
theorem cd_can_pay {a b c v : Nat} : cd_Can a b c v ↔ ∃ n, cd_Pay a b c v n :=
  ⟨fun ⟨x, y, z, e⟩ => ⟨x + y + z, x, y, z, e, rfl⟩, fun ⟨_, x, y, z, e, _⟩ => ⟨x, y, z, e⟩⟩
/-- what a cell of the table says: below 0 just where the sum cannot be paid -/
theorem cd_min_can {a b c v : Nat} {r : Int32} (ha : 0 < a) (hb : 0 < b) (hc : 0 < c) (hv : v < 2 ^ 31) (h : cd_Min (cd_Pay a b c v) r) : r < 0 ↔ ¬ cd_Can a b c v := by
  constructor
  · intro hr hC
    obtain ⟨n, hn⟩ := cd_can_pay.mp hC
    exact (h.neg (fun k hk => Nat.lt_of_le_of_lt (cd_pay_le ha hb hc hk) hv) hr).2 n hn
  · intro hC
    rcases h with ⟨e, -⟩ | ⟨n, -, h, -⟩
    · rw [e]; exact cd_neg1
    · exact absurd (cd_can_pay.mpr ⟨n, h⟩) hC
theorem cd_min_0 (a b c : Nat) : cd_Min (cd_Pay a b c 0) (nI 0) :=
  Or.inr ⟨0, rfl, ⟨0, 0, 0, by omega, by omega⟩, fun k _ => Nat.zero_le k⟩
/-! one more sum of the table out of those below it -/
def cd_cf (a b c : Nat) : Nat → Nat
  | 0 => a
  | 1 => b
  | _ => c
def cd_S (a b c v k n : Nat) : Prop := ∃ i, i < k ∧ cd_cf a b c i ≤ v ∧ ∃ j, n = j + 1 ∧ cd_Pay a b c (v - cd_cf a b c i) j
theorem cd_S_succ {a b c v k n : Nat} : cd_S a b c v (k + 1) n ↔ cd_S a b c v k n ∨ (cd_cf a b c k ≤ v ∧ ∃ j, n = j + 1 ∧ cd_Pay a b c (v - cd_cf a b c k) j) := by
  constructor
  · rintro ⟨i, hi, h⟩
    by_cases e : i = k
    · rw [e] at h
      exact Or.inr h
    · exact Or.inl ⟨i, by omega, h⟩
  · rintro (⟨i, hi, h⟩ | h)
    · exact ⟨i, by omega, h⟩
    · exact ⟨k, by omega, h⟩
theorem cd_S_0 {a b c v n : Nat} : ¬ cd_S a b c v 0 n := fun ⟨_, hi, _⟩ => absurd hi (Nat.not_lt_zero _)
theorem cd_S_3 {a b c v n : Nat} (hv : 0 < v) : cd_S a b c v 3 n ↔ cd_Pay a b c v n := by
  constructor
  · rintro ⟨i, hi, hle, j, rfl, x, y, z, e, rfl⟩
    rcases (show i = 0 ∨ i = 1 ∨ i = 2 by omega) with rfl | rfl | rfl
    · have hle : a ≤ v := hle
      have e : x * a + y * b + z * c = v - a := e
      exact ⟨x + 1, y, z, by rw [Nat.add_mul x 1 a, Nat.one_mul]; omega, by omega⟩
    · have hle : b ≤ v := hle
      have e : x * a + y * b + z * c = v - b := e
      exact ⟨x, y + 1, z, by rw [Nat.add_mul y 1 b, Nat.one_mul]; omega, by omega⟩
    · have hle : c ≤ v := hle
      have e : x * a + y * b + z * c = v - c := e
      exact ⟨x, y, z + 1, by rw [Nat.add_mul z 1 c, Nat.one_mul]; omega, by omega⟩
  · rintro ⟨x, y, z, e, rfl⟩
    by_cases hx : x = 0
    · by_cases hy : y = 0
      · by_cases hz : z = 0
        · rw [hx, hy, hz] at e
          omega
        · obtain ⟨w, rfl⟩ : ∃ w, z = w + 1 := ⟨z - 1, by omega⟩
          rw [Nat.add_mul w 1 c, Nat.one_mul] at e
          have h1 : c ≤ v := by omega
          have h2 : x * a + y * b + w * c = v - c := by omega
          exact ⟨2, by omega, h1, x + y + w, by omega, x, y, w, h2, rfl⟩
      · obtain ⟨w, rfl⟩ : ∃ w, y = w + 1 := ⟨y - 1, by omega⟩
        rw [Nat.add_mul w 1 b, Nat.one_mul] at e
        have h1 : b ≤ v := by omega
        have h2 : x * a + w * b + z * c = v - b := by omega
        exact ⟨1, by omega, h1, x + w + z, by omega, x, w, z, h2, rfl⟩
    · obtain ⟨w, rfl⟩ : ∃ w, x = w + 1 := ⟨x - 1, by omega⟩
      rw [Nat.add_mul w 1 a, Nat.one_mul] at e
      have h1 : a ≤ v := by omega
      have h2 : w * a + y * b + z * c = v - a := by omega
      exact ⟨0, by omega, h1, w + y + z, by omega, w, y, z, h2, rfl⟩
/-- the coin is too great -/
theorem cd_S_big {a b c v k : Nat} {r : Int32} (h : cd_Min (cd_S a b c v k) r) (hc : v < cd_cf a b c k) : cd_Min (cd_S a b c v (k + 1)) r :=
  h.by_iff (fun n => ⟨fun q => cd_S_succ.mpr (Or.inl q), fun q => by
    rcases cd_S_succ.mp q with q | q
    · exact q
    · exact absurd q.1 (by omega)⟩)
/-- what is left by the coin cannot be paid -/
theorem cd_S_none {a b c v k : Nat} {r : Int32} (h : cd_Min (cd_S a b c v k) r) (hn : ∀ n, ¬ cd_Pay a b c (v - cd_cf a b c k) n) : cd_Min (cd_S a b c v (k + 1)) r :=
  h.by_iff (fun n => ⟨fun q => cd_S_succ.mpr (Or.inl q), fun q => by
    rcases cd_S_succ.mp q with q | ⟨-, j, -, q⟩
    · exact q
    · exact absurd q (hn j)⟩)
theorem cd_S_some {a b c v k j0 : Nat} {r : Int32} (hc : cd_cf a b c k ≤ v) (hj : cd_Pay a b c (v - cd_cf a b c k) j0) (hl : ∀ j, cd_Pay a b c (v - cd_cf a b c k) j → j0 ≤ j) (h : cd_Min (fun n => cd_S a b c v k n ∨ n = j0 + 1) r) : cd_Min (cd_S a b c v (k + 1)) r :=
  (h.grow (T := cd_Pay a b c (v - cd_cf a b c k)) hj hl).by_iff (fun n => ⟨fun q => cd_S_succ.mpr (by
    rcases q with q | q
    · exact Or.inl q
    · exact Or.inr ⟨hc, q⟩), fun q => by
    rcases cd_S_succ.mp q with q | q
    · exact Or.inl q
    · exact Or.inr q.2⟩)
theorem cd_S_lt {a b c v k n : Nat} (ha : 0 < a) (hb : 0 < b) (hc : 0 < c) (hv : v < 2 ^ 30) (h : cd_S a b c v k n) : n < 2 ^ 31 := by
  obtain ⟨i, -, -, j, rfl, hp⟩ := h
  have := cd_pay_le ha hb hc hp
  omega
end
section
/-! NUMBERS 2: counts, sums over a range, the greatest number without a property -/
noncomputable def cd_cnt (P : Nat → Prop) : Nat → Nat
  | 0 => 0
  | n + 1 => cd_cnt P n + @ite Nat (P n) (Classical.propDecidable _) 1 0
theorem cd_cnt_yes {P : Nat → Prop} {n : Nat} (h : P n) : cd_cnt P (n + 1) = cd_cnt P n + 1 := by
  show cd_cnt P n + @ite Nat (P n) (Classical.propDecidable _) 1 0 = _
  rw [if_pos h]
theorem cd_cnt_no {P : Nat → Prop} {n : Nat} (h : ¬ P n) : cd_cnt P (n + 1) = cd_cnt P n := by
  show cd_cnt P n + @ite Nat (P n) (Classical.propDecidable _) 1 0 = _
  rw [if_neg h, Nat.add_zero]
theorem cd_cnt_cong {P Q : Nat → Prop} : ∀ {n : Nat}, (∀ k, k < n → (P k ↔ Q k)) → cd_cnt P n = cd_cnt Q n := by
  intro n
  induction n with
  | zero => intro _; rfl
  | succ n ih =>
    intro h
    have h1 := ih (fun k hk => h k (by omega))
    have h2 := h n (by omega)
    by_cases q : P n
    · rw [cd_cnt_yes q, cd_cnt_yes (h2.mp q), h1]
    · rw [cd_cnt_no q, cd_cnt_no (fun z => q (h2.mpr z)), h1]
theorem cd_cnt_le (P : Nat → Prop) : ∀ n, cd_cnt P n ≤ n := by
  intro n
  induction n with
  | zero => exact Nat.le_refl 0
  | succ n ih =>
    by_cases q : P n
    · rw [cd_cnt_yes q]; omega
    · rw [cd_cnt_no q]; omega
theorem cd_cnt_not (P : Nat → Prop) : ∀ n, cd_cnt P n + cd_cnt (fun k => ¬ P k) n = n := by
  intro n
  induction n with
  | zero => rfl
  | succ n ih =>
    by_cases q : P n
    · rw [cd_cnt_yes q, cd_cnt_no (P := fun k => ¬ P k) (fun z => z q)]; omega
    · rw [cd_cnt_no q, cd_cnt_yes (P := fun k => ¬ P k) q]; omega
theorem cd_cnt_split (P : Nat → Prop) (m : Nat) : ∀ n, cd_cnt P (m + n) = cd_cnt P m + cd_cnt (fun k => P (m + k)) n := by
  intro n
  induction n with
  | zero => rfl
  | succ n ih =>
    by_cases q : P (m + n)
    · rw [← Nat.add_assoc, cd_cnt_yes q, cd_cnt_yes (P := fun k => P (m + k)) q]; omega
    · rw [← Nat.add_assoc, cd_cnt_no q, cd_cnt_no (P := fun k => P (m + k)) q]; omega
theorem cd_cnt_flat {P : Nat → Prop} {m : Nat} : ∀ n, (∀ k, m ≤ k → ¬ P k) → cd_cnt P (m + n) = cd_cnt P m := by
  intro n h
  induction n with
  | zero => rfl
  | succ n ih => rw [← Nat.add_assoc, cd_cnt_no (h (m + n) (by omega)), ih]
theorem cd_cnt_rev (P : Nat → Prop) : ∀ n, cd_cnt (fun k => P (n - 1 - k)) n = cd_cnt P n := by
  intro n
  induction n with
  | zero => rfl
  | succ n ih =>
    have h1 := cd_cnt_split (fun k => P (n + 1 - 1 - k)) 1 n
    rw [Nat.add_comm 1 n] at h1
    rw [h1]
    have h2 : cd_cnt (fun k => (fun k => P (n + 1 - 1 - k)) (1 + k)) n = cd_cnt (fun k => P (n - 1 - k)) n :=
      cd_cnt_cong (fun k hk => by
        show P (n + 1 - 1 - (1 + k)) ↔ P (n - 1 - k)
        rw [show n + 1 - 1 - (1 + k) = n - 1 - k by omega])
    rw [h2, ih]
    by_cases q : P n
    · have h3 : cd_cnt (fun k => P (n + 1 - 1 - k)) (0 + 1) = cd_cnt (fun k => P (n + 1 - 1 - k)) 0 + 1 := cd_cnt_yes (P := fun k => P (n + 1 - 1 - k)) (by
        show P (n + 1 - 1 - 0)
        exact q)
      have h4 : cd_cnt (fun k => P (n + 1 - 1 - k)) 1 = 1 := h3
      rw [cd_cnt_yes q, h4]; omega
    · have h3 : cd_cnt (fun k => P (n + 1 - 1 - k)) (0 + 1) = cd_cnt (fun k => P (n + 1 - 1 - k)) 0 := cd_cnt_no (P := fun k => P (n + 1 - 1 - k)) (by
        show ¬ P (n + 1 - 1 - 0)
        exact q)
      have h4 : cd_cnt (fun k => P (n + 1 - 1 - k)) 1 = 0 := h3
      rw [cd_cnt_no q, h4]; omega
/-- of each pair k, n - 1 - k just one has the property: half of them have it -/
theorem cd_cnt_half {P : Nat → Prop} {n : Nat} (h : ∀ k, k < n → (P k ↔ ¬ P (n - 1 - k))) : cd_cnt P n = n / 2 := by
  have h1 := cd_cnt_not P n
  have h2 : cd_cnt P n = cd_cnt (fun k => (fun j => ¬ P j) (n - 1 - k)) n := cd_cnt_cong (fun k hk => h k hk)
  rw [cd_cnt_rev (fun j => ¬ P j) n] at h2
  omega
def cd_sum (f : Nat → Nat) : Nat → Nat
  | 0 => 0
  | n + 1 => cd_sum f n + f n
theorem cd_sum_cong {f g : Nat → Nat} : ∀ {n : Nat}, (∀ k, k < n → f k = g k) → cd_sum f n = cd_sum g n := by
  intro n
  induction n with
  | zero => intro _; rfl
  | succ n ih =>
    intro h
    show cd_sum f n + f n = cd_sum g n + g n
    rw [ih (fun k hk => h k (by omega)), h n (by omega)]
theorem cd_sum_le {f : Nat → Nat} {B : Nat} : ∀ n, (∀ k, k < n → f k ≤ B) → cd_sum f n ≤ n * B := by
  intro n
  induction n with
  | zero => intro _; exact Nat.zero_le _
  | succ n ih =>
    intro h
    show cd_sum f n + f n ≤ (n + 1) * B
    have h1 := ih (fun k hk => h k (by omega))
    have h2 := h n (by omega)
    rw [Nat.add_mul, Nat.one_mul]
    omega
theorem cd_sum_min (m : Nat → Nat) (K : Nat) : ∀ a, cd_sum (fun r => min (K + 1) (m r)) a = cd_sum (fun r => min K (m r)) a + cd_cnt (fun r => K < m r) a := by
  intro a
  induction a with
  | zero => rfl
  | succ a ih =>
    show cd_sum (fun r => min (K + 1) (m r)) a + min (K + 1) (m a) = cd_sum (fun r => min K (m r)) a + min K (m a) + cd_cnt (fun r => K < m r) (a + 1)
    by_cases q : K < m a
    · rw [cd_cnt_yes (P := fun r => K < m r) q, ih]; omega
    · rw [cd_cnt_no (P := fun r => K < m r) q, ih]; omega
theorem cd_gap_sum {a : Nat} {P : Nat → Prop} {m : Nat → Nat} (h : ∀ q r, r < a → (P (q * a + r) ↔ q < m r)) : ∀ K, cd_cnt P (K * a) = cd_sum (fun r => min K (m r)) a := by
  intro K
  induction K with
  | zero =>
    have h0 : ∀ n, cd_sum (fun r => min 0 (m r)) n = 0 := by
      intro n
      induction n with
      | zero => rfl
      | succ n ih =>
        show cd_sum (fun r => min 0 (m r)) n + min 0 (m n) = 0
        rw [ih]; omega
    rw [h0, Nat.zero_mul]; rfl
  | succ K ih =>
    rw [Nat.add_mul, Nat.one_mul, cd_cnt_split, ih, cd_sum_min]
    rw [cd_cnt_cong (P := fun k => P (K * a + k)) (Q := fun r => K < m r) (fun k hk => h K k hk)]
/-- r: the greatest number up to N, above 0, without C; -1 if there is none -/
def cd_Top (N : Nat) (C : Nat → Prop) (r : Int32) : Prop := (∃ v, r = nI v ∧ 0 < v ∧ v ≤ N ∧ ¬ C v ∧ ∀ w, v < w → w ≤ N → C w) ∨ (r = -1 ∧ ∀ w, 0 < w → w ≤ N → C w)
theorem cd_Top.one {N : Nat} {C : Nat → Prop} {r r' : Int32} (h : cd_Top N C r) (h' : cd_Top N C r') : r = r' := by
  rcases h with ⟨v, e, h0, hN, hC, hA⟩ | ⟨e, hA⟩ <;> rcases h' with ⟨v', e', h0', hN', hC', hA'⟩ | ⟨e', hA'⟩
  · have : v = v' := by
      rcases Nat.lt_trichotomy v v' with q | q | q
      · exact absurd (hA v' q hN') hC'
      · exact q
      · exact absurd (hA' v q hN) hC
    rw [e, e', this]
  · exact absurd (hA' v h0 hN) hC
  · exact absurd (hA v' h0' hN') hC'
  · rw [e, e']
/-- M r: the least sum that is paid and leaves r by a -/
def cd_Least (a b c : Nat) (M : Nat → Nat) : Prop := ∀ r, r < a → (cd_Can a b c (M r) ∧ M r % a = r) ∧ ∀ v, cd_Can a b c v → v % a = r → M r ≤ v
theorem cd_can_0 (a b c : Nat) : cd_Can a b c 0 := ⟨0, 0, 0, by omega⟩
theorem cd_can_up {a b c v : Nat} (h : cd_Can a b c v) (k : Nat) : cd_Can a b c (v + k * a) := by
  obtain ⟨x, y, z, e⟩ := h
  refine ⟨x + k, y, z, ?_⟩
  rw [Nat.add_mul]
  omega
/-- two numbers that leave the same by a, the one above the other: so many a between them -/
theorem cd_same {a u v : Nat} (ha : 0 < a) (h : u % a = v % a) (hle : u ≤ v) : v = u + (v - u) / a * a := by
  have h1 : (v - u) % a = 0 := Nat.sub_mod_eq_zero_of_mod_eq h.symm
  have h2 := Nat.div_add_mod (v - u) a
  rw [Nat.mul_comm a, h1] at h2
  generalize (v - u) / a * a = D at h2 ⊢
  omega
theorem cd_least_iff {a b c : Nat} {M : Nat → Nat} (ha : 0 < a) (hM : cd_Least a b c M) (v : Nat) : cd_Can a b c v ↔ M (v % a) ≤ v := by
  obtain ⟨⟨h1, h2⟩, h3⟩ := hM (v % a) (Nat.mod_lt v ha)
  constructor
  · intro h
    exact h3 v h rfl
  · intro h
    rw [cd_same ha h2 h]
    exact cd_can_up h1 _
theorem cd_gaps {a b c : Nat} {M : Nat → Nat} (ha : 0 < a) (hM : cd_Least a b c M) (hB : ∀ r, r < a → M r ≤ 1984) : cd_cnt (fun v => ¬ cd_Can a b c v) 2001 = cd_sum (fun r => M r / a) a := by
  have key : ∀ q r, r < a → (¬ cd_Can a b c (q * a + r) ↔ q < M r / a) := by
    intro q r hr
    have h1 : (q * a + r) % a = r := by
      rw [Nat.mul_comm, Nat.mul_add_mod, Nat.mod_eq_of_lt hr]
    rw [cd_least_iff ha hM, h1]
    have h2 := Nat.div_add_mod (M r) a
    rw [(hM r hr).1.2] at h2
    rw [Nat.not_le]
    constructor
    · intro h
      apply Nat.lt_of_not_le
      intro h3
      have h4 : a * (M r / a) ≤ a * q := Nat.mul_le_mul_left a h3
      rw [Nat.mul_comm a q] at h4
      omega
    · intro h
      have h4 : a * (M r / a) ≥ a * (q + 1) := Nat.mul_le_mul_left a h
      rw [Nat.mul_add, Nat.mul_one, Nat.mul_comm a q] at h4
      omega
  have h1 := cd_gap_sum (P := fun v => ¬ cd_Can a b c v) (m := fun r => M r / a) key 2001
  have h2 : cd_sum (fun r => min 2001 ((fun r => M r / a) r)) a = cd_sum (fun r => M r / a) a := cd_sum_cong (fun r hr => by
    show min 2001 (M r / a) = M r / a
    have h3 := hB r hr
    have h4 := Nat.div_le_self (M r) a
    omega)
  rw [h2] at h1
  rw [← h1]
  have h5 : 2001 * a = 2001 + 2001 * (a - 1) := by omega
  rw [h5]
  refine (cd_cnt_flat _ (fun k hk => ?_)).symm
  intro h
  apply h
  rw [cd_least_iff ha hM]
  have := hB (k % a) (Nat.mod_lt k ha)
  omega
theorem cd_top_least {a b c mx : Nat} {M : Nat → Nat} (ha : 0 < a) (hM : cd_Least a b c M) (hB : ∀ r, r < a → M r ≤ 1984) (hle : ∀ r, r < a → M r ≤ mx) (hmx : mx = 0 ∨ ∃ r, r < a ∧ mx = M r) : cd_Top 2000 (cd_Can a b c) (if a ≤ mx then nI (mx - a) else -1) := by
  have hall : ∀ w, mx < w + a → cd_Can a b c w := by
    intro w hw
    rw [cd_least_iff ha hM]
    apply Nat.le_of_not_lt
    intro h
    have h1 := hle (w % a) (Nat.mod_lt w ha)
    have h2 := (hM (w % a) (Nat.mod_lt w ha)).1.2
    have h3 := cd_same ha h2.symm (Nat.le_of_lt h)
    have h4 : 1 ≤ (M (w % a) - w) / a := by
      apply Nat.pos_of_ne_zero
      intro h5
      rw [h5] at h3
      omega
    have h5 : 1 * a ≤ (M (w % a) - w) / a * a := Nat.mul_le_mul_right a h4
    omega
  by_cases q : a ≤ mx
  · rw [if_pos q]
    obtain ⟨r, hr, e⟩ : ∃ r, r < a ∧ mx = M r := by
      rcases hmx with h | h
      · omega
      · exact h
    have h1 := hM r hr
    have h2 : mx % a = r := by rw [e]; exact h1.1.2
    have h0 : mx ≠ a := by
      intro h
      rw [h, Nat.mod_self] at h2
      have := h1.2 0 (cd_can_0 a b c) (by rw [Nat.zero_mod]; exact h2)
      omega
    refine Or.inl ⟨mx - a, rfl, by omega, ?_, ?_, ?_⟩
    · have := hB r hr
      omega
    · intro h
      have h3 : (mx - a) % a = r := by rw [← h2]; exact (Nat.mod_eq_sub_mod q).symm
      have := h1.2 _ h h3
      omega
    · intro w h _
      exact hall w (by omega)
  · rw [if_neg q]
    refine Or.inr ⟨rfl, fun w h _ => hall w (by omega)⟩
end
section
/-! NUMBERS 3: what leaves what by a number; sums paid by two coins. The first two rows are rows of kit/laws (drawers). -/
theorem fb_holes : ∀ (m n : Nat) (f : Nat → Nat), (∀ i, i < n → f i < m) → (∀ i j, i < j → j < n → f i ≠ f j) → n ≤ m := by
  intro m
  induction m with
  | zero =>
    intro n f h1 _
    rcases Nat.eq_zero_or_pos n with h | h
    · omega
    · exact absurd (h1 0 h) (Nat.not_lt_zero _)
  | succ m ih =>
    intro n f h1 h2
    by_cases hx : ∃ i, i < n ∧ f i = m
    · obtain ⟨a, ha, hfa⟩ := hx
      have hg := ih (n - 1) (fun i => if i < a then f i else f (i + 1)) (by
        intro i hi
        by_cases q : i < a
        · simp only [if_pos q]
          have b1 := h1 i (by omega)
          have b2 := h2 i a q ha
          omega
        · simp only [if_neg q]
          have b1 := h1 (i + 1) (by omega)
          have b2 := h2 a (i + 1) (by omega) (by omega)
          omega) (by
        intro i j hij hj
        by_cases q : i < a
        · by_cases r : j < a
          · simp only [if_pos q, if_pos r]
            exact h2 i j hij (by omega)
          · simp only [if_pos q, if_neg r]
            exact h2 i (j + 1) (by omega) (by omega)
        · have r : ¬ j < a := by omega
          simp only [if_neg q, if_neg r]
          exact h2 (i + 1) (j + 1) (by omega) (by omega))
      omega
    · have hg := ih n f (fun i hi => by
        have b1 := h1 i hi
        have b2 : f i ≠ m := fun e => hx ⟨i, hi, e⟩
        omega) h2
      omega
theorem fb_onto {n : Nat} {f : Nat → Nat} (h : ∀ i, i < n → f i < n) (h2 : ∀ i j, i < j → j < n → f i ≠ f j) {y : Nat} (hy : y < n) : ∃ i, i < n ∧ f i = y := by
  refine Classical.byContradiction fun hx => ?_
  have hne : ∀ i, i < n → f i ≠ y := fun i hi e => hx ⟨i, hi, e⟩
  have := fb_holes (n - 1) n (fun i => if f i < y then f i else f i - 1) (by
    intro i hi
    have b1 := h i hi
    have b2 := hne i hi
    by_cases q : f i < y
    · simp only [if_pos q]; omega
    · simp only [if_neg q]; omega) (by
    intro i j hij hj
    have b1 := hne i (by omega)
    have b2 := hne j hj
    have b3 := h2 i j hij hj
    by_cases q : f i < y
    · by_cases r : f j < y
      · simp only [if_pos q, if_pos r]; exact b3
      · simp only [if_pos q, if_neg r]; omega
    · by_cases r : f j < y
      · simp only [if_neg q, if_pos r]; omega
      · simp only [if_neg q, if_neg r]; omega)
  omega
/-- a number that has no part in common with n: its multiples leave all that can be left -/
theorem cd_inv {a n : Nat} (hn : 0 < n) (h : Nat.gcd a n = 1) (t : Nat) : ∃ x, x < n ∧ (x * a) % n = t % n := by
  have hc : Nat.Coprime n a := by
    show Nat.gcd n a = 1
    rw [Nat.gcd_comm]; exact h
  refine fb_onto (f := fun x => (x * a) % n) (fun i _ => Nat.mod_lt _ hn) (fun i j hij hj e => ?_) (Nat.mod_lt t hn)
  have e : (i * a) % n = (j * a) % n := e
  have h1 : (j * a - i * a) % n = 0 := Nat.sub_mod_eq_zero_of_mod_eq e.symm
  rw [← Nat.sub_mul] at h1
  have h2 : n ∣ j - i := hc.dvd_of_dvd_mul_right (Nat.dvd_of_mod_eq_zero h1)
  have h3 := Nat.le_of_dvd (by omega) h2
  omega
/-- round the rings of remainders: each remainder is met -/
theorem cd_ring {a q : Nat} (ha : 0 < a) {r : Nat} (hr : r < a) : ∃ j, j < a / Nat.gcd a q ∧ (r % Nat.gcd a q + j * q) % a = r := by
  have hg : 0 < Nat.gcd a q := Nat.gcd_pos_of_pos_left q ha
  have e1 : Nat.gcd a q * (a / Nat.gcd a q) = a := Nat.mul_div_cancel' (Nat.gcd_dvd_left a q)
  have e2 : Nat.gcd a q * (q / Nat.gcd a q) = q := Nat.mul_div_cancel' (Nat.gcd_dvd_right a q)
  have hco : Nat.gcd (a / Nat.gcd a q) (q / Nat.gcd a q) = 1 := Nat.coprime_div_gcd_div_gcd hg
  generalize Nat.gcd a q = g at hg e1 e2 hco ⊢
  generalize a / g = L at e1 hco ⊢
  generalize q / g = q' at e2 hco
  subst e2
  subst e1
  have hL : 0 < L := Nat.pos_of_ne_zero (fun h => by rw [h, Nat.mul_zero] at ha; omega)
  obtain ⟨j, hj, e⟩ := cd_inv (a := q') hL (by rw [Nat.gcd_comm]; exact hco) (r / g)
  refine ⟨j, hj, ?_⟩
  have h1 : r / g < L := Nat.div_lt_of_lt_mul hr
  rw [Nat.mod_eq_of_lt h1] at e
  have h2 := Nat.div_add_mod (j * q') L
  rw [e] at h2
  have h3 := Nat.div_add_mod r g
  have h4 : j * (g * q') = g * (j * q') := Nat.mul_left_comm j g q'
  have h5 : g * (j * q') = g * L * (j * q' / L) + g * (r / g) := by
    rw [Nat.mul_assoc, ← Nat.mul_add, h2]
  rw [h4, h5]
  have h6 : r % g + (g * L * (j * q' / L) + g * (r / g)) = g * L * (j * q' / L) + r := by
    generalize g * L * (j * q' / L) = Z
    omega
  rw [h6, Nat.mul_add_mod, Nat.mod_eq_of_lt hr]
/-! two coins -/
def cd_Two (a b v : Nat) : Prop := ∃ x, x * a ≤ v ∧ (v - x * a) % b = 0
theorem cd_two_of {a b v x y : Nat} (e : x * a + y * b = v) : cd_Two a b v := by
  refine ⟨x, by omega, ?_⟩
  rw [show v - x * a = y * b by omega, Nat.mul_mod_left]
theorem cd_two_to {a b v : Nat} (h : cd_Two a b v) : ∃ x y, x * a + y * b = v := by
  obtain ⟨x, h1, h2⟩ := h
  refine ⟨x, (v - x * a) / b, ?_⟩
  have h3 := Nat.div_add_mod (v - x * a) b
  rw [h2, Nat.mul_comm b] at h3
  omega
theorem cd_two_0 (a b : Nat) : cd_Two a b 0 := ⟨0, by omega, by rw [Nat.zero_mul, Nat.sub_zero, Nat.zero_mod]⟩
/-- a sum that two coins without a part in common don't pay: so many of the first are more by some of the second -/
theorem cd_two_or {a b : Nat} (hb : 0 < b) (hg : Nat.gcd a b = 1) (v : Nat) : cd_Two a b v ∨ ∃ x k, x < b ∧ x * a = v + (k + 1) * b := by
  obtain ⟨x, hx, e⟩ := cd_inv hb hg v
  by_cases h : x * a ≤ v
  · exact Or.inl ⟨x, h, Nat.sub_mod_eq_zero_of_mod_eq e.symm⟩
  · have h1 := cd_same hb e.symm (by omega)
    have h2 : (x * a - v) / b ≠ 0 := fun h3 => by
      rw [h3] at h1
      omega
    generalize (x * a - v) / b = D at h1 h2
    refine Or.inr ⟨x, D - 1, hx, ?_⟩
    rw [show D - 1 + 1 = D by omega]
    exact h1
theorem cd_two_all {a b v : Nat} (ha : 0 < a) (hb : 0 < b) (hg : Nat.gcd a b = 1) (hv : (a - 1) * (b - 1) ≤ v) : cd_Two a b v := by
  rcases cd_two_or hb hg v with h | ⟨x, k, hx, e⟩
  · exact h
  · exfalso
    obtain ⟨A, rfl⟩ : ∃ A, a = A + 1 := ⟨a - 1, by omega⟩
    obtain ⟨B, rfl⟩ : ∃ B, b = B + 1 := ⟨b - 1, by omega⟩
    rw [Nat.add_sub_cancel, Nat.add_sub_cancel] at hv
    have h1 : x * (A + 1) ≤ B * (A + 1) := Nat.mul_le_mul_right _ (by omega)
    have h2 : B * (A + 1) = A * B + B := by rw [Nat.mul_add, Nat.mul_one, Nat.mul_comm]
    have h3 : (k + 1) * (B + 1) = k * (B + 1) + (B + 1) := by rw [Nat.add_mul, Nat.one_mul]
    generalize x * (A + 1) = X at h1 e
    generalize B * (A + 1) = Y at h1 h2
    generalize k * (B + 1) = Z at h3
    generalize A * B = T at h2 hv
    omega
theorem cd_two_xor {a b v : Nat} (ha : 0 < a) (hb : 0 < b) (hg : Nat.gcd a b = 1) (hv : v < (a - 1) * (b - 1)) : cd_Two a b v ↔ ¬ cd_Two a b ((a - 1) * (b - 1) - 1 - v) := by
  constructor
  · intro h1 h2
    obtain ⟨x, y, e1⟩ := cd_two_to h1
    obtain ⟨x2, y2, e2⟩ := cd_two_to h2
    have e3 : (x + x2) * a + (y + y2) * b + 1 = (a - 1) * (b - 1) := by
      rw [Nat.add_mul, Nat.add_mul]
      omega
    generalize x + x2 = X at e3
    generalize y + y2 = Y at e3
    have e4 : a * b = (a - 1) * (b - 1) + a + b - 1 := by
      obtain ⟨A, rfl⟩ : ∃ A, a = A + 1 := ⟨a - 1, by omega⟩
      obtain ⟨B, rfl⟩ : ∃ B, b = B + 1 := ⟨b - 1, by omega⟩
      rw [Nat.add_sub_cancel, Nat.add_sub_cancel, Nat.mul_add, Nat.mul_one, Nat.add_mul, Nat.one_mul]
      omega
    have e5 : (Y + 1) * b = a * b - a * (X + 1) := by
      rw [Nat.add_mul Y 1 b, Nat.one_mul, Nat.mul_add a X 1, Nat.mul_one, Nat.mul_comm a X]
      generalize a * b = P at e4 ⊢
      generalize (a - 1) * (b - 1) = N at e3 e4
      generalize X * a = U at e3 ⊢
      generalize Y * b = V at e3 ⊢
      omega
    rw [← Nat.mul_sub] at e5
    have hc : Nat.Coprime a b := hg
    have h3 : a ∣ Y + 1 := hc.dvd_of_dvd_mul_right (n := b) (by rw [e5]; exact Nat.dvd_mul_right a _)
    have h4 := Nat.le_of_dvd (by omega) h3
    have h5 : a * b ≤ (Y + 1) * b := Nat.mul_le_mul_right b h4
    rw [Nat.add_mul Y 1 b, Nat.one_mul] at h5
    generalize a * b = P at e4 h5
    generalize (a - 1) * (b - 1) = N at e3 e4
    generalize X * a = U at e3
    generalize Y * b = V at e3 h5
    omega
  · intro h
    rcases cd_two_or hb hg v with h1 | ⟨x, k, hx, e⟩
    · exact h1
    · exfalso
      apply h
      refine cd_two_of (x := b - 1 - x) (y := k) ?_
      obtain ⟨A, rfl⟩ : ∃ A, a = A + 1 := ⟨a - 1, by omega⟩
      obtain ⟨B, rfl⟩ : ∃ B, b = B + 1 := ⟨b - 1, by omega⟩
      rw [Nat.add_sub_cancel, Nat.add_sub_cancel] at hv ⊢
      have h1 : (B - x) * (A + 1) = B * (A + 1) - x * (A + 1) := Nat.sub_mul B x (A + 1)
      have h2 : B * (A + 1) = A * B + B := by rw [Nat.mul_add, Nat.mul_one, Nat.mul_comm]
      have h3 : (k + 1) * (B + 1) = k * (B + 1) + (B + 1) := by rw [Nat.add_mul, Nat.one_mul]
      have h4 : x * (A + 1) ≤ B * (A + 1) := Nat.mul_le_mul_right _ (by omega)
      rw [h1]
      generalize x * (A + 1) = X at h4 e ⊢
      generalize B * (A + 1) = Y at h2 h4 ⊢
      generalize k * (B + 1) = Z at h3 ⊢
      generalize A * B = T at h2 hv ⊢
      generalize (k + 1) * (B + 1) = Z2 at h3 e
      omega
theorem cd_gaps_two {a b : Nat} (ha : 0 < a) (hb : 0 < b) (hg : Nat.gcd a b = 1) : cd_cnt (fun v => ¬ cd_Two a b v) (a * b + 1) = (a - 1) * (b - 1) / 2 := by
  have h1 : (a - 1) * (b - 1) ≤ a * b := Nat.mul_le_mul (Nat.sub_le a 1) (Nat.sub_le b 1)
  have h2 : a * b + 1 = (a - 1) * (b - 1) + (a * b + 1 - (a - 1) * (b - 1)) := by omega
  rw [h2, cd_cnt_flat _ (fun k hk q => q (cd_two_all ha hb hg hk))]
  refine cd_cnt_half (fun k hk => ?_)
  have h3 := cd_two_xor ha hb hg hk
  constructor
  · intro q1 q2
    exact q1 (h3.mpr q2)
  · intro q1 q2
    exact q1 (h3.mp q2)
theorem cd_top_two {a b : Nat} (ha : 0 < a) (hb : 0 < b) (hg : Nat.gcd a b = 1) : cd_Top (a * b) (cd_Two a b) (nI (a * b) - nI a - nI b) := by
  have e4 : a * b + 1 = (a - 1) * (b - 1) + a + b := by
    obtain ⟨A, rfl⟩ : ∃ A, a = A + 1 := ⟨a - 1, by omega⟩
    obtain ⟨B, rfl⟩ : ∃ B, b = B + 1 := ⟨b - 1, by omega⟩
    rw [Nat.add_sub_cancel, Nat.add_sub_cancel, Nat.mul_add, Nat.mul_one, Nat.add_mul, Nat.one_mul]
    omega
  have l1 : a ≤ a * b := Nat.le_mul_of_pos_right a hb
  have hN1 : (a - 1) * (b - 1) ≠ 1 := by
    intro h
    have := cd_two_xor (v := 0) ha hb hg (by omega)
    rw [h] at this
    exact (this.mp (cd_two_0 a b)) (cd_two_0 a b)
  by_cases h0 : (a - 1) * (b - 1) = 0
  · rw [h0] at e4
    have e5 : nI (a * b) - nI a - nI b = -1 := by
      rw [pk_sub l1, show a * b - a = b - 1 by omega]
      obtain ⟨B, rfl⟩ : ∃ B, b = B + 1 := ⟨b - 1, by omega⟩
      rw [Nat.add_sub_cancel, nI_succ]
      generalize nI B = t
      grind
    rw [e5]
    exact Or.inr ⟨rfl, fun w _ _ => cd_two_all ha hb hg (by omega)⟩
  · have l2 : b ≤ a * b - a := by omega
    rw [pk_sub l1, pk_sub l2]
    refine Or.inl ⟨a * b - a - b, rfl, by omega, by omega, ?_, fun w hw _ => cd_two_all ha hb hg (by omega)⟩
    have h1 := (cd_two_xor (v := 0) ha hb hg (by omega)).mp (cd_two_0 a b)
    rw [show (a - 1) * (b - 1) - 1 - 0 = a * b - a - b by omega] at h1
    exact h1
/-! the first way, the number of ways -/
def cd_First (a b s : Nat) (r : Int32) : Prop := (r = -1 ∧ ¬ cd_Two a b s) ∨ (∃ x, r = nI x ∧ x < b ∧ x * a ≤ s ∧ (s - x * a) % b = 0 ∧ ∀ y, y < x → (s - y * a) % b ≠ 0)
theorem cd_first_b {a b s : Nat} (hb : 0 < b) (h : ∀ y, y < b → (s - y * a) % b ≠ 0) : ¬ cd_Two a b s := by
  rintro ⟨x, hx, e⟩
  have h1 := Nat.div_add_mod x b
  have h2 := Nat.mod_lt x hb
  apply h (x % b) h2
  generalize x / b = X at h1
  generalize x % b = x' at h1 h2 ⊢
  subst h1
  have e1 := cd_mulmod a b X x'
  have e2 : s - x' * a = (s - (b * X + x') * a) + a * X * b := by omega
  rw [e2, Nat.add_mul_mod_self_right, e]
theorem cd_first_s {a b s x : Nat} (hx : s < x * a) (h : ∀ y, y < x → (s - y * a) % b ≠ 0) : ¬ cd_Two a b s := by
  rintro ⟨y, hy, e⟩
  apply h y _ e
  apply Nat.lt_of_not_le
  intro hle
  have := Nat.mul_le_mul_right a hle
  omega
/-- so many of a row of numbers with the same step -/
theorem cd_cnt_row {x0 d : Nat} (hd : 0 < d) : ∀ T, cd_cnt (fun x => ∃ t, t ≤ T ∧ x = x0 + t * d) (x0 + T * d + 1) = T + 1 := by
  intro T
  induction T with
  | zero =>
    have h1 : cd_cnt (fun x => ∃ t, t ≤ 0 ∧ x = x0 + t * d) (x0 + 0 * d) = cd_cnt (fun _ => False) (x0 + 0 * d) := cd_cnt_cong (fun k hk => ⟨fun ⟨t, ht, e⟩ => by
      have : t = 0 := by omega
      rw [this] at e
      omega, fun h => h.elim⟩)
    rw [cd_cnt_yes (P := fun x => ∃ t, t ≤ 0 ∧ x = x0 + t * d) ⟨0, Nat.le_refl 0, rfl⟩, h1]
    have h2 : ∀ n, cd_cnt (fun _ => False) n = 0 := by
      intro n
      induction n with
      | zero => rfl
      | succ n ih => rw [cd_cnt_no (P := fun _ => False) (fun h => h), ih]
    rw [h2]
  | succ T ih =>
    have e1 : x0 + (T + 1) * d = (x0 + T * d + 1) + (d - 1) := by
      rw [Nat.add_mul, Nat.one_mul]
      omega
    have h1 : cd_cnt (fun x => ∃ t, t ≤ T + 1 ∧ x = x0 + t * d) (x0 + (T + 1) * d) = cd_cnt (fun x => ∃ t, t ≤ T ∧ x = x0 + t * d) (x0 + (T + 1) * d) := cd_cnt_cong (fun k hk => ⟨fun ⟨t, ht, e⟩ => ⟨t, by
      apply Nat.le_of_not_lt
      intro h3
      have h4 : t = T + 1 := by omega
      rw [h4] at e
      omega, e⟩, fun ⟨t, ht, e⟩ => ⟨t, by omega, e⟩⟩)
    rw [cd_cnt_yes (P := fun x => ∃ t, t ≤ T + 1 ∧ x = x0 + t * d) ⟨T + 1, Nat.le_refl _, rfl⟩, h1, e1, cd_cnt_flat, ih]
    rintro k hk ⟨t, ht, e⟩
    have := Nat.mul_le_mul_right d ht
    omega
def cd_Way (a b s x : Nat) : Prop := x * a ≤ s ∧ (s - x * a) % b = 0
theorem cd_ways {a b s x0 : Nat} (ha : 0 < a) (hb : 0 < b) (hs : s < 1024) (h0 : x0 * a ≤ s) (h1 : (s - x0 * a) % b = 0) (h2 : ∀ y, y < x0 → (s - y * a) % b ≠ 0) : cd_cnt (cd_Way a b s) 1024 = 1 + (s - x0 * a) / (a * (b / Nat.gcd a b)) := by
  have hg : 0 < Nat.gcd a b := Nat.gcd_pos_of_pos_left b ha
  have e1 : Nat.gcd a b * (a / Nat.gcd a b) = a := Nat.mul_div_cancel' (Nat.gcd_dvd_left a b)
  have e2 : Nat.gcd a b * (b / Nat.gcd a b) = b := Nat.mul_div_cancel' (Nat.gcd_dvd_right a b)
  have hco : Nat.gcd (a / Nat.gcd a b) (b / Nat.gcd a b) = 1 := Nat.coprime_div_gcd_div_gcd hg
  generalize Nat.gcd a b = g at hg e1 e2 hco ⊢
  generalize a / g = a' at e1 hco
  generalize b / g = d at e2 hco ⊢
  have hd : 0 < d := Nat.pos_of_ne_zero (fun h => by rw [h, Nat.mul_zero] at e2; omega)
  have had : 0 < a * d := Nat.mul_pos ha hd
  have e3 : a * d = b * a' := by
    rw [← e1, ← e2, Nat.mul_assoc g a' d, Nat.mul_assoc g d a', Nat.mul_comm a' d]
  have key : ∀ x, cd_Way a b s x ↔ ∃ t, t ≤ (s - x0 * a) / (a * d) ∧ x = x0 + t * d := by
    intro x
    constructor
    · rintro ⟨hx, e⟩
      have hle : x0 ≤ x := Nat.le_of_not_lt (fun h => h2 x h e)
      obtain ⟨u, rfl⟩ : ∃ u, x = x0 + u := ⟨x - x0, by omega⟩
      rw [Nat.add_mul] at hx e
      have h3 : b ∣ u * a := by
        have h4 := Nat.dvd_sub (Nat.dvd_of_mod_eq_zero h1) (Nat.dvd_of_mod_eq_zero e)
        rw [show s - x0 * a - (s - (x0 * a + u * a)) = u * a by omega] at h4
        exact h4
      have h5 : d ∣ u := by
        rw [← e2, ← e1, Nat.mul_left_comm u g a'] at h3
        have h6 : d ∣ u * a' := Nat.dvd_of_mul_dvd_mul_left hg h3
        have hc : Nat.Coprime d a' := by
          show Nat.gcd d a' = 1
          rw [Nat.gcd_comm]; exact hco
        exact hc.dvd_of_dvd_mul_right h6
      obtain ⟨t, rfl⟩ := h5
      refine ⟨t, ?_, by rw [Nat.mul_comm d t]⟩
      rw [Nat.le_div_iff_mul_le had]
      have h7 : t * (a * d) = d * t * a := by rw [Nat.mul_comm a d, ← Nat.mul_assoc t d a, Nat.mul_comm t d]
      rw [h7]
      omega
    · rintro ⟨t, ht, rfl⟩
      rw [Nat.le_div_iff_mul_le had] at ht
      have h7 : t * (a * d) = t * d * a := by rw [Nat.mul_comm a d, ← Nat.mul_assoc t d a]
      have h8 : t * (a * d) = t * a' * b := by rw [e3, Nat.mul_comm b a', ← Nat.mul_assoc]
      refine ⟨by rw [Nat.add_mul]; omega, ?_⟩
      rw [Nat.add_mul, ← Nat.sub_sub, ← h7, h8]
      rw [h8] at ht
      have h9 := Nat.dvd_sub (Nat.dvd_of_mod_eq_zero h1) (Nat.dvd_mul_left b (t * a'))
      exact Nat.mod_eq_zero_of_dvd h9
  generalize (s - x0 * a) / (a * d) = T at key ⊢
  have h3 := cd_cnt_row (x0 := x0) hd T
  rw [cd_cnt_cong (fun k _ => key k)]
  have h4 : cd_Way a b s (x0 + T * d) := (key _).mpr ⟨T, Nat.le_refl T, rfl⟩
  have h5 : x0 + T * d ≤ (x0 + T * d) * a := Nat.le_mul_of_pos_right _ ha
  have h6 : x0 + T * d < 1024 := by
    have := h4.1
    omega
  rw [show 1024 = x0 + T * d + 1 + (1024 - (x0 + T * d + 1)) by omega, cd_cnt_flat, h3, Nat.add_comm]
  rintro k hk ⟨t, ht, e⟩
  have := Nat.mul_le_mul_right d ht
  omega
theorem cd_ways_no {a b s : Nat} (h : ¬ cd_Two a b s) : cd_cnt (cd_Way a b s) 1024 = 0 := by
  have h1 : ∀ x, ¬ cd_Way a b s x := fun x q => h ⟨x, q⟩
  have h2 : ∀ n, cd_cnt (cd_Way a b s) n = 0 := by
    intro n
    induction n with
    | zero => rfl
    | succ n ih => rw [cd_cnt_no (h1 n), ih]
  exact h2 1024
theorem cd_ways_end {a b s x : Nat} (hx : s < x * a) (hx2 : x ≤ 1024) : cd_cnt (cd_Way a b s) 1024 = cd_cnt (cd_Way a b s) x := by
  rw [show 1024 = x + (1024 - x) by omega, cd_cnt_flat]
  rintro k hk ⟨h, -⟩
  have := Nat.mul_le_mul_right a hk
  omega
end
section
/-! NUMBERS 4: the least sums by remainder, a ring gone round twice. 2147483647 stands for 'none'. -/
def cd_Snd (a q : Nat) (M N : Nat → Nat) : Prop := ∀ r, r < a → N r = 2147483647 ∨ ∃ s k, s < a ∧ M s ≠ 2147483647 ∧ N r = M s + k * q ∧ (s + k * q) % a = r
def cd_Cmp (a q o j : Nat) (M N : Nat → Nat) : Prop := ∀ i i', i ≤ i' → i' ≤ j → M ((o + i * q) % a) ≠ 2147483647 → N ((o + i' * q) % a) ≤ M ((o + i * q) % a) + (i' - i) * q
def cd_Bnd (a B : Nat) (N : Nat → Nat) : Prop := ∀ r, r < a → N r = 2147483647 ∨ N r ≤ B
/-- ring o of length L, j places on; M: the sums at the start, N: now -/
def cd_Inv (a q L o j B : Nat) (M N : Nat → Nat) : Prop := cd_Snd a q M N ∧ (∀ r, r < a → N r ≤ M r) ∧ (∀ t, t < o → cd_Cmp a q t (2 * L) M N) ∧ cd_Cmp a q o j M N ∧ cd_Bnd a (B + o * 2048 + j * 32) N
theorem cd_Cmp.mono {a q o j : Nat} {M N N' : Nat → Nat} (ha : 0 < a) (h : cd_Cmp a q o j M N) (hle : ∀ r, r < a → N' r ≤ N r) : cd_Cmp a q o j M N' :=
  fun i i' h1 h2 h3 => Nat.le_trans (hle _ (Nat.mod_lt _ ha)) (h i i' h1 h2 h3)
theorem cd_next (a q o j : Nat) : ((o + j * q) % a + q) % a = (o + (j + 1) * q) % a := by
  rw [Nat.mod_add_mod, Nat.add_mul, Nat.one_mul, Nat.add_assoc]
theorem cd_Inv.init {a q L B : Nat} {M : Nat → Nat} (ha : 0 < a) (hB : cd_Bnd a B M) : cd_Inv a q L 0 0 B M M := by
  refine ⟨fun r hr => ?_, fun r _ => Nat.le_refl _, fun t ht => absurd ht (Nat.not_lt_zero _), fun i i' h1 h2 _ => ?_, fun r hr => ?_⟩
  · by_cases h : M r = 2147483647
    · exact Or.inl h
    · exact Or.inr ⟨r, 0, hr, h, by omega, by rw [Nat.zero_mul, Nat.add_zero, Nat.mod_eq_of_lt hr]⟩
  · have e1 : i' = 0 := by omega
    have e2 : i = 0 := by omega
    rw [e1, e2]
    omega
  · have := hB r hr
    omega
theorem cd_Inv.no {a q L o j B : Nat} {M N : Nat → Nat} (ha : 0 < a) (hq : q ≤ 32) (hM : cd_Bnd a B M) (hb : B + o * 2048 + j * 32 < 2147483000) (h : cd_Inv a q L o j B M N) (hN : N ((o + j * q) % a) = 2147483647) : cd_Inv a q L o (j + 1) B M N := by
  obtain ⟨h1, h2, h3, h4, h5⟩ := h
  refine ⟨h1, h2, h3, fun i i' k1 k2 k3 => ?_, fun r hr => ?_⟩
  · by_cases e : i' ≤ j
    · exact h4 i i' k1 e k3
    · have e' : i' = j + 1 := by omega
      subst e'
      by_cases e2 : i ≤ j
      · exfalso
        have h6 := h4 i j e2 (Nat.le_refl j) k3
        rw [hN] at h6
        rcases hM _ (Nat.mod_lt (o + i * q) ha) with h7 | h7
        · exact k3 h7
        · have h8 : (j - i) * q ≤ j * 32 := Nat.mul_le_mul (Nat.sub_le j i) hq
          omega
      · have e3 : i = j + 1 := by omega
        rw [e3]
        have := h2 _ (Nat.mod_lt (o + (j + 1) * q) ha)
        omega
  · have := h5 r hr
    omega
theorem cd_Inv.yes {a q L o j B : Nat} {M N N' : Nat → Nat} (ha : 0 < a) (hq : q ≤ 32) (h : cd_Inv a q L o j B M N) (hN : N ((o + j * q) % a) ≠ 2147483647) (hb : B + o * 2048 + j * 32 < 2147483000)
    (h1' : ∀ r, r < a → r ≠ (o + (j + 1) * q) % a → N' r = N r) (h2' : N' ((o + (j + 1) * q) % a) = if N ((o + j * q) % a) + q < N ((o + (j + 1) * q) % a) then N ((o + j * q) % a) + q else N ((o + (j + 1) * q) % a)) : cd_Inv a q L o (j + 1) B M N' := by
  obtain ⟨h1, h2, h3, h4, h5⟩ := h
  have hat : (o + j * q) % a < a := Nat.mod_lt _ ha
  have hnx : (o + (j + 1) * q) % a < a := Nat.mod_lt _ ha
  have hle : ∀ r, r < a → N' r ≤ N r := by
    intro r hr
    by_cases e : r = (o + (j + 1) * q) % a
    · rw [e, h2']
      split <;> omega
    · exact Nat.le_of_eq (h1' r hr e)
  have hle2 : N' ((o + (j + 1) * q) % a) ≤ N ((o + j * q) % a) + q := by
    rw [h2']
    split <;> omega
  refine ⟨fun r hr => ?_, fun r hr => Nat.le_trans (hle r hr) (h2 r hr), fun t ht => (h3 t ht).mono ha hle, fun i i' k1 k2 k3 => ?_, fun r hr => ?_⟩
  · by_cases e : r = (o + (j + 1) * q) % a
    · rw [e, h2']
      by_cases c : N ((o + j * q) % a) + q < N ((o + (j + 1) * q) % a)
      · rw [if_pos c]
        rcases h1 _ hat with h6 | ⟨s, k, hs, hMs, e1, e2⟩
        · exact absurd h6 hN
        · refine Or.inr ⟨s, k + 1, hs, hMs, ?_, ?_⟩
          · rw [e1, Nat.add_mul, Nat.one_mul, Nat.add_assoc]
          · rw [Nat.add_mul, Nat.one_mul, ← Nat.add_assoc, ← Nat.mod_add_mod, e2, cd_next]
      · rw [if_neg c]
        exact h1 _ hnx
    · rw [h1' r hr e]
      exact h1 r hr
  · by_cases e : i' ≤ j
    · exact Nat.le_trans (hle _ (Nat.mod_lt _ ha)) (h4 i i' k1 e k3)
    · have e' : i' = j + 1 := by omega
      subst e'
      by_cases e2 : i ≤ j
      · have h6 := h4 i j e2 (Nat.le_refl j) k3
        have h7 : (j + 1 - i) * q = (j - i) * q + q := by
          rw [show j + 1 - i = (j - i) + 1 by omega, Nat.add_mul, Nat.one_mul]
        rw [h7]
        omega
      · have e3 : i = j + 1 := by omega
        rw [e3]
        have h6 := h2 _ hnx
        have h7 := hle _ hnx
        omega
  · by_cases e : r = (o + (j + 1) * q) % a
    · rw [e, h2']
      have h6 := h5 _ hat
      have h7 := h5 _ hnx
      split <;> omega
    · rw [h1' r hr e]
      have := h5 r hr
      omega
theorem cd_Inv.ring {a q L o B : Nat} {M N : Nat → Nat} (ha : 0 < a) (hL : L ≤ 32) (h : cd_Inv a q L o (2 * L) B M N) : cd_Inv a q L (o + 1) 0 B M N := by
  obtain ⟨h1, h2, h3, h4, h5⟩ := h
  refine ⟨h1, h2, fun t ht => ?_, fun i i' k1 k2 k3 => ?_, fun r hr => ?_⟩
  · by_cases e : t = o
    · rw [e]; exact h4
    · exact h3 t (by omega)
  · have e1 : i' = 0 := by omega
    have e2 : i = 0 := by omega
    rw [e1, e2]
    have := h2 _ (Nat.mod_lt (o + 1 + 0 * q) ha)
    omega
  · rcases h5 r hr with h6 | h6
    · exact Or.inl h6
    · refine Or.inr (Nat.le_trans h6 ?_)
      rw [Nat.add_mul o 1 2048]
      omega
/-- what a turn makes of the sums M -/
def cd_Turn (a q : Nat) (M N : Nat → Nat) : Prop := cd_Snd a q M N ∧ ∀ s k, s < a → M s ≠ 2147483647 → N ((s + k * q) % a) ≠ 2147483647 ∧ N ((s + k * q) % a) ≤ M s + k * q
theorem cd_Inv.done {a q B : Nat} {M N : Nat → Nat} (ha : 0 < a) (ha2 : a ≤ 32) (hq : q ≤ 32) (hM : cd_Bnd a B M) (hB : B < 2147480000) (h : cd_Inv a q (a / Nat.gcd a q) (Nat.gcd a q) 0 B M N) : cd_Turn a q M N := by
  obtain ⟨h1, -, h3, -, -⟩ := h
  refine ⟨h1, fun s k hs hMs => ?_⟩
  have hg : 0 < Nat.gcd a q := Nat.gcd_pos_of_pos_left q ha
  obtain ⟨j, hj, e⟩ := cd_ring (q := q) ha hs
  have e1 : Nat.gcd a q * (a / Nat.gcd a q) = a := Nat.mul_div_cancel' (Nat.gcd_dvd_left a q)
  have e2 : Nat.gcd a q * (q / Nat.gcd a q) = q := Nat.mul_div_cancel' (Nat.gcd_dvd_right a q)
  have h6 := h3 (s % Nat.gcd a q) (Nat.mod_lt s hg)
  have hL : a / Nat.gcd a q ≤ a := Nat.div_le_self a _
  generalize hgg : Nat.gcd a q = g at hg hj e e1 e2 h6 hL
  generalize a / g = L at hj e1 h6 hL
  have hLp : 0 < L := by omega
  have hk := Nat.div_add_mod k L
  have hk2 := Nat.mod_lt k hLp
  generalize k / L = K at hk
  generalize k % L = k' at hk hk2
  have h7 := h6 j (j + k') (by omega) (by omega) (by rw [e]; exact hMs)
  have e3 : (s % g + (j + k') * q) % a = (s + k' * q) % a := by
    rw [Nat.add_mul, ← Nat.add_assoc, ← Nat.mod_add_mod, e]
  have e4 : (s + k * q) % a = (s + k' * q) % a := by
    rw [← hk, Nat.add_mul, Nat.add_comm (L * K * q), ← Nat.add_assoc]
    have e5 : L * K * q = a * (K * (q / g)) := by
      have e6 : q = g * (q / g) := e2.symm
      rw [← e1]
      generalize q / g = q' at e6 ⊢
      rw [e6, Nat.mul_assoc L K, Nat.mul_left_comm K g q', ← Nat.mul_assoc L g, Nat.mul_comm L g]
    rw [e5, Nat.add_mul_mod_self_left]
  rw [e, e3, Nat.add_sub_cancel_left] at h7
  rw [e4]
  have h8 : k' * q ≤ k * q := Nat.mul_le_mul_right q (by
    have : 0 ≤ L * K := Nat.zero_le _
    omega)
  have h9 : k' * q ≤ 32 * 32 := Nat.mul_le_mul (by omega) hq
  have h10 := hM s hs
  constructor
  · intro h11
    rw [h11] at h7
    omega
  · omega
theorem cd_Inv.bnd {a q L o B : Nat} {M N : Nat → Nat} (h : cd_Inv a q L o 0 B M N) (ho : o ≤ 32) : cd_Bnd a (B + 65536) N := fun r hr => by
  have := h.2.2.2.2 r hr
  omega
/-! all the turns: the first sums, by b, by c -/
def cd_M0 (j : Nat) : Nat := if j = 0 then 0 else 2147483647
theorem cd_M0_bnd (a : Nat) : cd_Bnd a 0 cd_M0 := fun r _ => by
  unfold cd_M0
  split
  · exact Or.inr (Nat.le_refl 0)
  · exact Or.inl rfl
theorem cd_reach {a b c r : Nat} (ha : 0 < a) (ha2 : a ≤ 32) (hg : Nat.gcd (Nat.gcd a b) c = 1) (hr : r < a) : ∃ x y, x ≤ 31 ∧ y ≤ 31 ∧ (x * b + y * c) % a = r := by
  have hgp : 0 < Nat.gcd a b := Nat.gcd_pos_of_pos_left b ha
  have hga : Nat.gcd a b ∣ a := Nat.gcd_dvd_left a b
  have hgl := Nat.le_of_dvd ha hga
  obtain ⟨y, hy, e⟩ := cd_inv (a := c) hgp (by rw [Nat.gcd_comm]; exact hg) r
  have hle : y * c ≤ a * (y * c) := Nat.le_mul_of_pos_left (y * c) ha
  have h1 : (r + a * (y * c)) % Nat.gcd a b = (y * c) % Nat.gcd a b := by
    have h2 : (a * (y * c)) % Nat.gcd a b = 0 := Nat.mod_eq_zero_of_dvd (Nat.dvd_trans hga (Nat.dvd_mul_right a _))
    rw [Nat.add_mod, h2, Nat.add_zero, Nat.mod_mod, e]
  have h3 : (r + a * (y * c) - y * c) % Nat.gcd a b = 0 := Nat.sub_mod_eq_zero_of_mod_eq h1
  obtain ⟨j, hj, e2⟩ := cd_ring (q := b) ha (Nat.mod_lt (r + a * (y * c) - y * c) ha)
  rw [Nat.mod_mod_of_dvd _ hga, h3, Nat.zero_add] at e2
  have hl : a / Nat.gcd a b ≤ a := Nat.div_le_self a _
  refine ⟨j, y, by omega, by omega, ?_⟩
  rw [← Nat.mod_add_mod, e2, Nat.mod_add_mod, show r + a * (y * c) - y * c + y * c = r + a * (y * c) by omega, Nat.add_mul_mod_self_left, Nat.mod_eq_of_lt hr]
theorem cd_least {a b c : Nat} {M1 M2 : Nat → Nat} (ha : 0 < a) (ha2 : a ≤ 32) (hb : b ≤ 32) (hc : c ≤ 32) (hg : Nat.gcd (Nat.gcd a b) c = 1) (h1 : cd_Turn a b cd_M0 M1) (h2 : cd_Turn a c M1 M2) : cd_Least a b c M2 ∧ ∀ r, r < a → M2 r ≤ 1984 := by
  have m0 : cd_M0 0 = 0 := rfl
  have up : ∀ y z, M2 ((y * b + z * c) % a) ≠ 2147483647 ∧ M2 ((y * b + z * c) % a) ≤ y * b + z * c := by
    intro y z
    obtain ⟨u1, u2⟩ := h1.2 0 y ha (by rw [m0]; decide)
    simp only [m0, Nat.zero_add] at u1 u2
    obtain ⟨v1, v2⟩ := h2.2 _ z (Nat.mod_lt (y * b) ha) u1
    rw [Nat.mod_add_mod] at v1 v2
    exact ⟨v1, by omega⟩
  have fin : ∀ r, r < a → M2 r ≠ 2147483647 ∧ M2 r ≤ 1984 := by
    intro r hr
    obtain ⟨x, y, hx, hy, e⟩ := cd_reach ha ha2 hg hr
    obtain ⟨u1, u2⟩ := up x y
    rw [e] at u1 u2
    have l1 : x * b ≤ 31 * 32 := Nat.mul_le_mul hx hb
    have l2 : y * c ≤ 31 * 32 := Nat.mul_le_mul hy hc
    exact ⟨u1, by omega⟩
  refine ⟨fun r hr => ⟨?_, ?_⟩, fun r hr => (fin r hr).2⟩
  · rcases h2.1 r hr with h | ⟨s, k, hs, hMs, e1, e2⟩
    · exact absurd h (fin r hr).1
    · rcases h1.1 s hs with h | ⟨s', k', hs', hMs', e3, e4⟩
      · exact absurd h hMs
      · have e5 : s' = 0 := by
          apply Classical.byContradiction
          intro h
          apply hMs'
          unfold cd_M0
          rw [if_neg h]
        rw [e5, m0, Nat.zero_add] at e3
        rw [e5, Nat.zero_add] at e4
        refine ⟨⟨0, k', k, by rw [e1, e3]; omega⟩, ?_⟩
        rw [e1, e3, ← Nat.mod_add_mod, e4, e2]
  · rintro v ⟨x, y, z, e⟩ hv
    have h := (up y z).2
    have e2 : (y * b + z * c) % a = r := by
      rw [← hv, ← e, Nat.add_assoc, Nat.add_comm (x * a), Nat.add_mul_mod_self_right]
    rw [e2] at h
    omega
end
section
/-! NUMBERS 5: the sets that the loops go through; answers -/
def cd_F (p q g v x y n : Nat) : Prop := (∃ x', x' < x ∧ ∃ y', y' < g ∧ cd_T p q g v x' y' n) ∨ ∃ y', y' < y ∧ cd_T p q g v x y' n
theorem cd_F_0 {p q g v n : Nat} : ¬ cd_F p q g v 0 0 n := by
  rintro (⟨x, h, -⟩ | ⟨y, h, -⟩)
  · exact absurd h (Nat.not_lt_zero _)
  · exact absurd h (Nat.not_lt_zero _)
theorem cd_F_row {p q g v x y n : Nat} (h : y = g ∨ (v < x * p + y * q ∧ y ≤ g)) : cd_F p q g v x y n ↔ cd_F p q g v (x + 1) 0 n := by
  constructor
  · rintro (⟨x', h1, y', h2, h3⟩ | ⟨y', h1, h2⟩)
    · exact Or.inl ⟨x', by omega, y', h2, h3⟩
    · exact Or.inl ⟨x, by omega, y', by omega, h2⟩
  · rintro (⟨x', h1, y', h2, h3⟩ | ⟨y', h1, -⟩)
    · by_cases e : x' = x
      · subst e
        refine Or.inr ⟨y', ?_, h3⟩
        rcases h with h | ⟨h, -⟩
        · omega
        · apply Nat.lt_of_not_le
          intro h4
          have h5 := Nat.mul_le_mul_right q h4
          have h6 := h3.1
          omega
      · exact Or.inl ⟨x', by omega, y', h2, h3⟩
    · exact absurd h1 (Nat.not_lt_zero _)
theorem cd_F_end {p q g v x n : Nat} (h : x = g ∨ (v < x * p ∧ x ≤ g)) : cd_F p q g v x 0 n ↔ ∃ x', x' < g ∧ ∃ y', y' < g ∧ cd_T p q g v x' y' n := by
  constructor
  · rintro (⟨x', h1, h2⟩ | ⟨y', h1, -⟩)
    · exact ⟨x', by omega, h2⟩
    · exact absurd h1 (Nat.not_lt_zero _)
  · rintro ⟨x', h1, y', h2, h3⟩
    refine Or.inl ⟨x', ?_, y', h2, h3⟩
    rcases h with h | ⟨h, -⟩
    · omega
    · apply Nat.lt_of_not_le
      intro h4
      have h5 := Nat.mul_le_mul_right p h4
      have h6 := h3.1
      omega
theorem cd_F_succ {p q g v x y n : Nat} : cd_F p q g v x (y + 1) n ↔ cd_F p q g v x y n ∨ cd_T p q g v x y n := by
  constructor
  · rintro (h | ⟨y', h1, h2⟩)
    · exact Or.inl (Or.inl h)
    · by_cases e : y' = y
      · subst e
        exact Or.inr h2
      · exact Or.inl (Or.inr ⟨y', by omega, h2⟩)
  · rintro ((h | ⟨y', h1, h2⟩) | h)
    · exact Or.inl h
    · exact Or.inr ⟨y', by omega, h2⟩
    · exact Or.inr ⟨y, by omega, h⟩
theorem cd_T_le {p q g v x y n : Nat} (h : cd_T p q g v x y n) : n ≤ x + y + v := by
  obtain ⟨-, -, h⟩ := h
  have h1 := Nat.div_le_self (v - x * p - y * q) g
  omega
theorem cd_F_lt {p q g v x y n : Nat} (hx : x ≤ 32) (hy : y ≤ 32) (hg : g ≤ 32) (hv : v < 1024) (h : cd_F p q g v x y n) : n < 2 ^ 31 := by
  rcases h with ⟨x', h1, y', h2, h3⟩ | ⟨y', h1, h3⟩
  · have := cd_T_le h3
    omega
  · have := cd_T_le h3
    omega
theorem cd_F_no {p q g v x y : Nat} {r : Int32} (h : cd_Min (cd_F p q g v x y) r) (h0 : 0 < (v - x * p - y * q) % g) : cd_Min (cd_F p q g v x (y + 1)) r :=
  h.by_iff (fun n => ⟨fun k => cd_F_succ.mpr (Or.inl k), fun k => by
    rcases cd_F_succ.mp k with k | k
    · exact k
    · have := k.2.1
      omega⟩)
theorem cd_F_add {p q g v x y : Nat} {r : Int32} (h1 : x * p + y * q ≤ v) (h0 : (v - x * p - y * q) % g = 0) (h : cd_Min (fun n => cd_F p q g v x y n ∨ n = x + y + (v - x * p - y * q) / g) r) : cd_Min (cd_F p q g v x (y + 1)) r :=
  h.by_iff (fun n => ⟨fun k => cd_F_succ.mpr (by
    rcases k with k | k
    · exact Or.inl k
    · exact Or.inr ⟨h1, h0, k⟩), fun k => by
    rcases cd_F_succ.mp k with k | k
    · exact Or.inl k
    · exact Or.inr k.2.2⟩)
/-- a boolean answer -/
def cd_B (C : Prop) (r : Int32) : Prop := (r = nI 1 ∧ C) ∨ (r = nI 0 ∧ ¬ C)
theorem cd_B.one {C : Prop} {r r' : Int32} (h : cd_B C r) (h' : cd_B C r') : r = r' := by
  rcases h with ⟨e, h⟩ | ⟨e, h⟩ <;> rcases h' with ⟨e', h'⟩ | ⟨e', h'⟩
  · rw [e, e']
  · exact absurd h h'
  · exact absurd h' h
  · rw [e, e']
/-- -2 where there is a part in common -/
def cd_G (g : Nat) (P : Int32 → Prop) (r : Int32) : Prop := (g ≠ 1 ∧ r = -2) ∨ (g = 1 ∧ P r)
theorem cd_G.one {g : Nat} {P : Int32 → Prop} {r r' : Int32} (hP : ∀ x y, P x → P y → x = y) (h : cd_G g P r) (h' : cd_G g P r') : r = r' := by
  rcases h with ⟨h, e⟩ | ⟨h, e⟩ <;> rcases h' with ⟨h', e'⟩ | ⟨h', e'⟩
  · rw [e, e']
  · exact absurd h' h
  · exact absurd h h'
  · exact hP _ _ e e'
theorem cd_m1_neg : ¬ (0 : Int32) ≤ -1 := by decide
/-- the model's table -/
def cd_Tab (a b z : Nat) (f : Nat → Int32) : Prop := ∀ v, v ≤ 2000 → cd_Min (cd_Pay a b z v) (f v)
def cd_Kn (a b z : Nat) (kn : Int32) (f : Nat → Int32) : Prop := kn = 0 ∨ (kn = 1 ∧ cd_Tab a b z f)
theorem cd_gcd3_pos {a b z : Nat} (ha : 0 < a) : 0 < Nat.gcd (Nat.gcd a b) z := Nat.gcd_pos_of_pos_left z (Nat.gcd_pos_of_pos_left b ha)
theorem cd_gcd_le {a b : Nat} (ha : 0 < a) : Nat.gcd a b ≤ a := Nat.le_of_dvd ha (Nat.gcd_dvd_left a b)
theorem cd_gcd_step (u v : Nat) : Nat.gcd v (u % v) = Nat.gcd u v := by
  rw [Nat.gcd_comm v, ← Nat.gcd_rec v u, Nat.gcd_comm]
theorem cd_max {x y : Nat} (hx : x < 2 ^ 31) (hy : y < 2 ^ 31) : (if nI x < nI y then nI y else nI x) = nI (max x y) := by
  by_cases h : x < y
  · rw [if_pos ((nI_ltI hx hy).mpr h), Nat.max_eq_right (by omega)]
  · rw [if_neg (fun q => h ((nI_ltI hx hy).mp q)), Nat.max_eq_left (by omega)]
theorem cd_min {x y : Nat} (hx : x < 2 ^ 31) (hy : y < 2 ^ 31) : (if nI y < nI x then nI y else nI x) = nI (if y < x then y else x) := by
  by_cases h : y < x
  · rw [if_pos ((nI_ltI hy hx).mpr h), if_pos h]
  · rw [if_neg (fun q => h ((nI_ltI hy hx).mp q)), if_neg h]
end
section
-- ===== PART A: goes FIRST, ahead of the names: the tables' words, and 'selects' of the private methods out of them =====
/-- a private method of a class that the tables say can be made, by its rows of tables_1 -/
def lw_okq (q : MethodName × Nat) : Prop := (q.1.cls ≠ "java/lang/invoke/MethodHandle" ∧ q.1.cls ≠ "java/lang/invoke/VarHandle") ∧ Cond.instantiable q.1.cls q.2 ∈ tables_1 ∧ Cond.privateMethod q.1 ∈ tables_1 ∧ Cond.instanceMethod q.1 ∈ tables_1
set_option maxRecDepth 100000
theorem lw_p0 : lw_okq (⟨"ChangeDesk", "reckon", "()V"⟩, 4) := ⟨⟨by decide +kernel, by decide +kernel⟩, List.mem_of_getElem? (i := 6) rfl, List.mem_of_getElem? (i := 39) rfl, List.mem_of_getElem? (i := 40) rfl⟩
theorem lw_p1 : lw_okq (⟨"ChangeDesk", "turn", "(I)V"⟩, 4) := ⟨⟨by decide +kernel, by decide +kernel⟩, List.mem_of_getElem? (i := 6) rfl, List.mem_of_getElem? (i := 47) rfl, List.mem_of_getElem? (i := 48) rfl⟩
theorem lw_p2 : lw_okq (⟨"ChangeDesk", "first", "(I)I"⟩, 4) := ⟨⟨by decide +kernel, by decide +kernel⟩, List.mem_of_getElem? (i := 6) rfl, List.mem_of_getElem? (i := 69) rfl, List.mem_of_getElem? (i := 70) rfl⟩
theorem lw_p3 : lw_okq (⟨"ChangeDeskModel", "reckon", "()V"⟩, 5) := ⟨⟨by decide +kernel, by decide +kernel⟩, List.mem_of_getElem? (i := 85) rfl, List.mem_of_getElem? (i := 115) rfl, List.mem_of_getElem? (i := 116) rfl⟩
theorem lw_p4 : lw_okq (⟨"ChangeDeskModel", "pays", "(I)Z"⟩, 5) := ⟨⟨by decide +kernel, by decide +kernel⟩, List.mem_of_getElem? (i := 85) rfl, List.mem_of_getElem? (i := 142) rfl, List.mem_of_getElem? (i := 143) rfl⟩
def lw_privs_1 : List (MethodName × Nat) := [(⟨"ChangeDesk", "reckon", "()V"⟩, 4), (⟨"ChangeDesk", "turn", "(I)V"⟩, 4), (⟨"ChangeDesk", "first", "(I)I"⟩, 4), (⟨"ChangeDeskModel", "reckon", "()V"⟩, 5), (⟨"ChangeDeskModel", "pays", "(I)Z"⟩, 5)]
theorem lw_r1 : ∀ q ∈ lw_privs_1, lw_okq q := List.forall_mem_cons.mpr ⟨lw_p0, List.forall_mem_cons.mpr ⟨lw_p1, List.forall_mem_cons.mpr ⟨lw_p2, List.forall_mem_cons.mpr ⟨lw_p3, List.forall_mem_cons.mpr ⟨lw_p4, fun _ h => absurd h List.not_mem_nil⟩⟩⟩⟩⟩
def lw_privs : List (MethodName × Nat) := lw_privs_1
def lw_tbl : List Cond := k2_sels lw_privs ++ tables_1
theorem lw_privs_ok : ∀ q ∈ lw_privs, lw_okq q := lw_r1
-- ===== ONE list of words for every method: the tables' words that hold all through a run =====
def lw_all : List Cond := lw_tbl.filter goodWord
/-- a word of the tables by its place: claim/WORDS.tsv -/
theorem lw_w {w : Cond} (i : Nat) (h : lw_tbl[i]? = some w) (g : goodWord w = true) : w ∈ lw_all := List.mem_filter.mpr ⟨List.mem_of_getElem? h, g⟩
theorem lw_all_tbl {w : Cond} (h : w ∈ lw_all) : w ∈ lw_tbl := (List.mem_filter.mp h).1
theorem lw_self : GoodIn lw_all lw_all := fun w h => ⟨h, good_of_word (List.mem_filter.mp h).2⟩
/-- a class's field words, by their places -/
theorem lw_in (ws : List Cond) (ps : List Nat) (hp : ws = ps.filterMap (fun i => lw_tbl[i]?)) (hg : ws.all goodWord = true) : ∀ w ∈ ws, w ∈ lw_all := by
  intro w h
  have h1 := List.all_eq_true.mp hg w h
  rw [hp] at h
  obtain ⟨i, -, hi⟩ := List.mem_filterMap.mp h
  exact lw_w i hi h1
/-- the words of a contract for the method y with code b, L locals, answer r -/
abbrev ws_ (y : MethodName) (b : ByteArray) (L : Nat) (r : Option FieldType) : List Cond := Cond.code y b L r :: lw_all
theorem lw_meth {y : MethodName} {b : ByteArray} {L : Nat} {r : Option FieldType} (h : Cond.code y b L r ∈ lw_all) : GoodIn lw_all (ws_ y b L r) := by
  intro w hw
  rcases List.mem_cons.mp hw with e | e
  · rw [e]
    exact lw_self _ h
  · exact lw_self _ e
theorem lw_app {a c : List Cond} (ha : ∀ w ∈ a, w ∈ lw_all) (hc : GoodIn lw_all c) : GoodIn lw_all (a ++ c) := by
  intro w hw
  rcases List.mem_append.mp hw with e | e
  · exact lw_self w (ha w e)
  · exact hc w e
/-- what a call through an object asks: cwV n hts (lw_V ..) -/
theorem lw_V {own : String} {idx : Nat} {C : String} {y : MethodName} {b : ByteArray} {L : Nat} {r : Option FieldType} (h1 : Cond.methodLink own idx y ∈ lw_all) (h2 : Cond.instanceMethod y ∈ lw_all) (h3 : Cond.selects C y y ∈ lw_all) (h4 : Cond.initialized C ∈ lw_all) (h5 : Cond.code y b L r ∈ lw_all) : GoodIn lw_all (wsV own idx C y (ws_ y b L r)) := by
  refine lw_app ?_ (lw_meth h5)
  intro w hw
  simp only [List.mem_cons, List.not_mem_nil, or_false] at hw
  rcases hw with e | e | e | e
  · rw [e]; exact h1
  · rw [e]; exact h2
  · rw [e]; exact h3
  · rw [e]; exact h4
/-- what a static call asks: va_cwS n hts (lw_S ..) -/
theorem lw_S {own : String} {idx : Nat} {y : MethodName} {b : ByteArray} {L : Nat} {r : Option FieldType} (h1 : Cond.methodLink own idx y ∈ lw_all) (h2 : Cond.static y ∈ lw_all) (h3 : Cond.initialized y.cls ∈ lw_all) (h4 : Cond.code y b L r ∈ lw_all) : GoodIn lw_all (va_wsS own idx y (ws_ y b L r)) := by
  refine lw_app ?_ (lw_meth h4)
  intro w hw
  simp only [List.mem_cons, List.not_mem_nil, or_false] at hw
  rcases hw with e | e | e
  · rw [e]; exact h1
  · rw [e]; exact h2
  · rw [e]; exact h3
/-- the words of a contract for a method WITH HANDLERS (hh: its table) -/
abbrev wsW_ (y : MethodName) (b : ByteArray) (L : Nat) (r : Option FieldType) (hh : List (Nat × Nat × Nat × Nat)) : List Cond := Cond.codeWith y b L r hh :: lw_all
theorem lw_methW {y : MethodName} {b : ByteArray} {L : Nat} {r : Option FieldType} {hh : List (Nat × Nat × Nat × Nat)} (h : Cond.codeWith y b L r hh ∈ lw_all) : GoodIn lw_all (wsW_ y b L r hh) := by
  intro w hw
  rcases List.mem_cons.mp hw with e | e
  · rw [e]
    exact lw_self _ h
  · exact lw_self _ e
/-- any list of words by their places (lw_in), good -/
theorem lw_good {ws : List Cond} (h : ∀ w ∈ ws, w ∈ lw_all) : GoodIn lw_all ws := fun w hw => lw_self w (h w hw)
/-- what a call of a method with handlers asks: vx_cwVW n hts (lw_VW ..), vx_cwSW n hts (lw_SW ..) -/
theorem lw_VW {own : String} {idx : Nat} {C : String} {y : MethodName} {b : ByteArray} {L : Nat} {r : Option FieldType} {hh : List (Nat × Nat × Nat × Nat)} (h1 : Cond.methodLink own idx y ∈ lw_all) (h2 : Cond.instanceMethod y ∈ lw_all) (h3 : Cond.selects C y y ∈ lw_all) (h4 : Cond.initialized C ∈ lw_all) (h5 : Cond.codeWith y b L r hh ∈ lw_all) : GoodIn lw_all (wsV own idx C y (wsW_ y b L r hh)) := by
  refine lw_app ?_ (lw_methW h5)
  intro w hw
  simp only [List.mem_cons, List.not_mem_nil, or_false] at hw
  rcases hw with e | e | e | e
  · rw [e]; exact h1
  · rw [e]; exact h2
  · rw [e]; exact h3
  · rw [e]; exact h4
theorem lw_SW {own : String} {idx : Nat} {y : MethodName} {b : ByteArray} {L : Nat} {r : Option FieldType} {hh : List (Nat × Nat × Nat × Nat)} (h1 : Cond.methodLink own idx y ∈ lw_all) (h2 : Cond.static y ∈ lw_all) (h3 : Cond.initialized y.cls ∈ lw_all) (h4 : Cond.codeWith y b L r hh ∈ lw_all) : GoodIn lw_all (va_wsS own idx y (wsW_ y b L r hh)) := by
  refine lw_app ?_ (lw_methW h4)
  intro w hw
  simp only [List.mem_cons, List.not_mem_nil, or_false] at hw
  rcases hw with e | e | e
  · rw [e]; exact h1
  · rw [e]; exact h2
  · rw [e]; exact h3
/-- a word by its place in its run of the tables -/
theorem lw_at {r : List Cond} (hr : ∀ w ∈ r, w ∈ lw_tbl) {w : Cond} (i : Nat) (h : r[i]? = some w) : w ∈ lw_tbl := hr w (List.mem_of_getElem? h)
theorem lw_g {w : Cond} (h : w ∈ lw_tbl) (g : goodWord w = true) : w ∈ lw_all := List.mem_filter.mpr ⟨h, g⟩
theorem lw_ms : ∀ w ∈ k2_sels lw_privs, w ∈ lw_tbl := fun w h => show w ∈ k2_sels lw_privs ++ tables_1 from List.mem_append_left _ h
theorem lw_m0 : ∀ w ∈ tables_1, w ∈ lw_tbl := fun w h => show w ∈ k2_sels lw_privs ++ tables_1 from List.mem_append_right (k2_sels lw_privs) h
theorem qs0 : (Cond.selects "ChangeDesk" ⟨"ChangeDesk", "reckon", "()V"⟩ ⟨"ChangeDesk", "reckon", "()V"⟩) ∈ lw_all := lw_g (lw_at lw_ms 0 rfl) rfl
theorem qs1 : (Cond.selects "ChangeDesk" ⟨"ChangeDesk", "turn", "(I)V"⟩ ⟨"ChangeDesk", "turn", "(I)V"⟩) ∈ lw_all := lw_g (lw_at lw_ms 1 rfl) rfl
theorem qs2 : (Cond.selects "ChangeDesk" ⟨"ChangeDesk", "first", "(I)I"⟩ ⟨"ChangeDesk", "first", "(I)I"⟩) ∈ lw_all := lw_g (lw_at lw_ms 2 rfl) rfl
theorem qs3 : (Cond.selects "ChangeDeskModel" ⟨"ChangeDeskModel", "reckon", "()V"⟩ ⟨"ChangeDeskModel", "reckon", "()V"⟩) ∈ lw_all := lw_g (lw_at lw_ms 3 rfl) rfl
theorem qs4 : (Cond.selects "ChangeDeskModel" ⟨"ChangeDeskModel", "pays", "(I)Z"⟩ ⟨"ChangeDeskModel", "pays", "(I)Z"⟩) ∈ lw_all := lw_g (lw_at lw_ms 4 rfl) rfl
end
section
set_option maxRecDepth 100000
/-! java/lang/Math -/
def RJ0 : String := "java/lang/Math"
abbrev cJ0_min : ByteArray := prog_4_method_69_code
def yJ0_min : MethodName := ⟨RJ0, "min", "(II)I"⟩
theorem dJ0_min_0 : decode cJ0_min 0 = .ok (.iload_n 0, 1) := by decide +kernel
theorem dJ0_min_1 : decode cJ0_min 1 = .ok (.iload_n 1, 1) := by decide +kernel
theorem dJ0_min_2 : decode cJ0_min 2 = .ok (.if_icmp .gt 7, 3) := by decide +kernel
theorem dJ0_min_5 : decode cJ0_min 5 = .ok (.iload_n 0, 1) := by decide +kernel
theorem dJ0_min_6 : decode cJ0_min 6 = .ok (.goto 4, 3) := by decide +kernel
theorem dJ0_min_9 : decode cJ0_min 9 = .ok (.iload_n 1, 1) := by decide +kernel
theorem dJ0_min_10 : decode cJ0_min 10 = .ok (.ireturn, 1) := by decide +kernel
abbrev cJ0_max : ByteArray := prog_4_method_65_code
def yJ0_max : MethodName := ⟨RJ0, "max", "(II)I"⟩
theorem dJ0_max_0 : decode cJ0_max 0 = .ok (.iload_n 0, 1) := by decide +kernel
theorem dJ0_max_1 : decode cJ0_max 1 = .ok (.iload_n 1, 1) := by decide +kernel
theorem dJ0_max_2 : decode cJ0_max 2 = .ok (.if_icmp .lt 7, 3) := by decide +kernel
theorem dJ0_max_5 : decode cJ0_max 5 = .ok (.iload_n 0, 1) := by decide +kernel
theorem dJ0_max_6 : decode cJ0_max 6 = .ok (.goto 4, 3) := by decide +kernel
theorem dJ0_max_9 : decode cJ0_max 9 = .ok (.iload_n 1, 1) := by decide +kernel
theorem dJ0_max_10 : decode cJ0_max 10 = .ok (.ireturn, 1) := by decide +kernel
theorem q8 : (Jvm.Cond.initialized "java/lang/Math") ∈ lw_all := lw_g (lw_at lw_m0 3 rfl) rfl
theorem q56 : (Jvm.Cond.static ({ cls := "java/lang/Math", name := "min", desc := "(II)I" } : Jvm.MethodName)) ∈ lw_all := lw_g (lw_at lw_m0 51 rfl) rfl
theorem q57 : (Jvm.Cond.code ({ cls := "java/lang/Math", name := "min", desc := "(II)I" } : Jvm.MethodName) prog_4_method_69_code (2 : Nat) (Option.some Jvm.ClassFile.FieldType.int)) ∈ lw_all := lw_g (lw_at lw_m0 52 rfl) rfl
theorem q59 : (Jvm.Cond.static ({ cls := "java/lang/Math", name := "max", desc := "(II)I" } : Jvm.MethodName)) ∈ lw_all := lw_g (lw_at lw_m0 54 rfl) rfl
theorem q60 : (Jvm.Cond.code ({ cls := "java/lang/Math", name := "max", desc := "(II)I" } : Jvm.MethodName) prog_4_method_65_code (2 : Nat) (Option.some Jvm.ClassFile.FieldType.int)) ∈ lw_all := lw_g (lw_at lw_m0 55 rfl) rfl
/-! java/util/Arrays -/
def RJ1 : String := "java/util/Arrays"
abbrev cJ1_fill : ByteArray := prog_5_method_103_code
def yJ1_fill : MethodName := ⟨RJ1, "fill", "([II)V"⟩
theorem dJ1_fill_0 : decode cJ1_fill 0 = .ok (.iconst 0, 1) := by decide +kernel
theorem dJ1_fill_1 : decode cJ1_fill 1 = .ok (.istore_n 2, 1) := by decide +kernel
theorem dJ1_fill_2 : decode cJ1_fill 2 = .ok (.aload_n 0, 1) := by decide +kernel
theorem dJ1_fill_3 : decode cJ1_fill 3 = .ok (.arraylength, 1) := by decide +kernel
theorem dJ1_fill_4 : decode cJ1_fill 4 = .ok (.istore_n 3, 1) := by decide +kernel
theorem dJ1_fill_5 : decode cJ1_fill 5 = .ok (.iload_n 2, 1) := by decide +kernel
theorem dJ1_fill_6 : decode cJ1_fill 6 = .ok (.iload_n 3, 1) := by decide +kernel
theorem dJ1_fill_7 : decode cJ1_fill 7 = .ok (.if_icmp .ge 13, 3) := by decide +kernel
theorem dJ1_fill_10 : decode cJ1_fill 10 = .ok (.aload_n 0, 1) := by decide +kernel
theorem dJ1_fill_11 : decode cJ1_fill 11 = .ok (.iload_n 2, 1) := by decide +kernel
theorem dJ1_fill_12 : decode cJ1_fill 12 = .ok (.iload_n 1, 1) := by decide +kernel
theorem dJ1_fill_13 : decode cJ1_fill 13 = .ok (.iastore, 1) := by decide +kernel
theorem dJ1_fill_14 : decode cJ1_fill 14 = .ok (.iinc 2 1, 3) := by decide +kernel
theorem dJ1_fill_17 : decode cJ1_fill 17 = .ok (.goto (-12), 3) := by decide +kernel
theorem dJ1_fill_20 : decode cJ1_fill 20 = .ok (.return_, 1) := by decide +kernel
theorem q9 : (Jvm.Cond.initialized "java/util/Arrays") ∈ lw_all := lw_g (lw_at lw_m0 4 rfl) rfl
theorem q49 : (Jvm.Cond.static ({ cls := "java/util/Arrays", name := "fill", desc := "([II)V" } : Jvm.MethodName)) ∈ lw_all := lw_g (lw_at lw_m0 44 rfl) rfl
theorem q50 : (Jvm.Cond.code ({ cls := "java/util/Arrays", name := "fill", desc := "([II)V" } : Jvm.MethodName) prog_5_method_103_code (4 : Nat) (Option.none : Option Jvm.ClassFile.FieldType)) ∈ lw_all := lw_g (lw_at lw_m0 45 rfl) rfl
/-! java/lang/Object -/
def RJ2 : String := "java/lang/Object"
abbrev cJ2_init : ByteArray := object_method_1_code
def yJ2_init : MethodName := ⟨RJ2, "<init>", "()V"⟩
theorem dJ2_init_0 : decode cJ2_init 0 = .ok (.return_, 1) := by decide +kernel
theorem q16 : (Jvm.Cond.instanceMethod ({ cls := "java/lang/Object", name := "<init>", desc := "()V" } : Jvm.MethodName)) ∈ lw_all := lw_g (lw_at lw_m0 11 rfl) rfl
theorem q17 : (Jvm.Cond.code ({ cls := "java/lang/Object", name := "<init>", desc := "()V" } : Jvm.MethodName) object_method_1_code (1 : Nat) (Option.none : Option Jvm.ClassFile.FieldType)) ∈ lw_all := lw_g (lw_at lw_m0 12 rfl) rfl
theorem q31 : (Jvm.Cond.arrayClass Jvm.ClassFile.FieldType.int) ∈ lw_all := lw_g (lw_at lw_m0 26 rfl) rfl
/-! ChangeDesk -/
def RX0 : String := "ChangeDesk"
def TX0 : u_T := fun k => match k with
  | 0 => ("ChangeDesk", "a", "I", false)
  | 1 => ("ChangeDesk", "b", "I", false)
  | 2 => ("ChangeDesk", "c", "I", false)
  | _ => ("ChangeDesk", "least", "[I", true)
def tyX0 : Nat → FieldType := fun k => match k with
  | 0 => .int
  | 1 => .int
  | 2 => .int
  | _ => .array .int
abbrev wsX00 : List Cond := u_ws RX0 TX0 4
theorem nmX0 : ∀ a, a < 4 → ∀ b, b < 4 → a ≠ b → (TX0 a).2.1 ≠ (TX0 b).2.1 := by decide +kernel
theorem tyX0_ok : ∀ k, k < 4 → parseFieldDescriptor (TX0 k).2.2.1 = some (tyX0 k) := by decide +kernel
abbrev cX0_init : ByteArray := prog_1_method_1_code
def yX0_init : MethodName := ⟨RX0, "<init>", "()V"⟩
theorem dX0_init_0 : decode cX0_init 0 = .ok (.aload_n 0, 1) := by decide +kernel
theorem dX0_init_1 : decode cX0_init 1 = .ok (.invokespecial 1, 3) := by decide +kernel
theorem dX0_init_4 : decode cX0_init 4 = .ok (.aload_n 0, 1) := by decide +kernel
theorem dX0_init_5 : decode cX0_init 5 = .ok (.iconst 3, 1) := by decide +kernel
theorem dX0_init_6 : decode cX0_init 6 = .ok (.putfield 7, 3) := by decide +kernel
theorem dX0_init_9 : decode cX0_init 9 = .ok (.aload_n 0, 1) := by decide +kernel
theorem dX0_init_10 : decode cX0_init 10 = .ok (.iconst 5, 1) := by decide +kernel
theorem dX0_init_11 : decode cX0_init 11 = .ok (.putfield 13, 3) := by decide +kernel
theorem dX0_init_14 : decode cX0_init 14 = .ok (.aload_n 0, 1) := by decide +kernel
theorem dX0_init_15 : decode cX0_init 15 = .ok (.bipush 7, 2) := by decide +kernel
theorem dX0_init_17 : decode cX0_init 17 = .ok (.putfield 16, 3) := by decide +kernel
theorem dX0_init_20 : decode cX0_init 20 = .ok (.aload_n 0, 1) := by decide +kernel
theorem dX0_init_21 : decode cX0_init 21 = .ok (.bipush 32, 2) := by decide +kernel
theorem dX0_init_23 : decode cX0_init 23 = .ok (.newarray .int, 2) := by decide +kernel
theorem dX0_init_25 : decode cX0_init 25 = .ok (.putfield 19, 3) := by decide +kernel
theorem dX0_init_28 : decode cX0_init 28 = .ok (.return_, 1) := by decide +kernel
abbrev cX0_coins : ByteArray := prog_1_method_2_code
def yX0_coins : MethodName := ⟨RX0, "coins", "(III)V"⟩
theorem dX0_coins_0 : decode cX0_coins 0 = .ok (.aload_n 0, 1) := by decide +kernel
theorem dX0_coins_1 : decode cX0_coins 1 = .ok (.iconst 1, 1) := by decide +kernel
theorem dX0_coins_2 : decode cX0_coins 2 = .ok (.iload_n 1, 1) := by decide +kernel
theorem dX0_coins_3 : decode cX0_coins 3 = .ok (.bipush 31, 2) := by decide +kernel
theorem dX0_coins_5 : decode cX0_coins 5 = .ok (.iand, 1) := by decide +kernel
theorem dX0_coins_6 : decode cX0_coins 6 = .ok (.iadd, 1) := by decide +kernel
theorem dX0_coins_7 : decode cX0_coins 7 = .ok (.putfield 7, 3) := by decide +kernel
theorem dX0_coins_10 : decode cX0_coins 10 = .ok (.aload_n 0, 1) := by decide +kernel
theorem dX0_coins_11 : decode cX0_coins 11 = .ok (.iconst 1, 1) := by decide +kernel
theorem dX0_coins_12 : decode cX0_coins 12 = .ok (.iload_n 2, 1) := by decide +kernel
theorem dX0_coins_13 : decode cX0_coins 13 = .ok (.bipush 31, 2) := by decide +kernel
theorem dX0_coins_15 : decode cX0_coins 15 = .ok (.iand, 1) := by decide +kernel
theorem dX0_coins_16 : decode cX0_coins 16 = .ok (.iadd, 1) := by decide +kernel
theorem dX0_coins_17 : decode cX0_coins 17 = .ok (.putfield 13, 3) := by decide +kernel
theorem dX0_coins_20 : decode cX0_coins 20 = .ok (.aload_n 0, 1) := by decide +kernel
theorem dX0_coins_21 : decode cX0_coins 21 = .ok (.iconst 1, 1) := by decide +kernel
theorem dX0_coins_22 : decode cX0_coins 22 = .ok (.iload_n 3, 1) := by decide +kernel
theorem dX0_coins_23 : decode cX0_coins 23 = .ok (.bipush 31, 2) := by decide +kernel
theorem dX0_coins_25 : decode cX0_coins 25 = .ok (.iand, 1) := by decide +kernel
theorem dX0_coins_26 : decode cX0_coins 26 = .ok (.iadd, 1) := by decide +kernel
theorem dX0_coins_27 : decode cX0_coins 27 = .ok (.putfield 16, 3) := by decide +kernel
theorem dX0_coins_30 : decode cX0_coins 30 = .ok (.return_, 1) := by decide +kernel
abbrev cX0_greatest : ByteArray := prog_1_method_6_code
def yX0_greatest : MethodName := ⟨RX0, "greatest", "()I"⟩
theorem dX0_greatest_0 : decode cX0_greatest 0 = .ok (.aload_n 0, 1) := by decide +kernel
theorem dX0_greatest_1 : decode cX0_greatest 1 = .ok (.getfield 7, 3) := by decide +kernel
theorem dX0_greatest_4 : decode cX0_greatest 4 = .ok (.aload_n 0, 1) := by decide +kernel
theorem dX0_greatest_5 : decode cX0_greatest 5 = .ok (.getfield 13, 3) := by decide +kernel
theorem dX0_greatest_8 : decode cX0_greatest 8 = .ok (.invokestatic 36, 3) := by decide +kernel
theorem dX0_greatest_11 : decode cX0_greatest 11 = .ok (.aload_n 0, 1) := by decide +kernel
theorem dX0_greatest_12 : decode cX0_greatest 12 = .ok (.getfield 16, 3) := by decide +kernel
theorem dX0_greatest_15 : decode cX0_greatest 15 = .ok (.invokestatic 36, 3) := by decide +kernel
theorem dX0_greatest_18 : decode cX0_greatest 18 = .ok (.iconst 1, 1) := by decide +kernel
theorem dX0_greatest_19 : decode cX0_greatest 19 = .ok (.if_icmp .le 6, 3) := by decide +kernel
theorem dX0_greatest_22 : decode cX0_greatest 22 = .ok (.bipush (-2), 2) := by decide +kernel
theorem dX0_greatest_24 : decode cX0_greatest 24 = .ok (.ireturn, 1) := by decide +kernel
theorem dX0_greatest_25 : decode cX0_greatest 25 = .ok (.aload_n 0, 1) := by decide +kernel
theorem dX0_greatest_26 : decode cX0_greatest 26 = .ok (.invokevirtual 45, 3) := by decide +kernel
theorem dX0_greatest_29 : decode cX0_greatest 29 = .ok (.iconst 0, 1) := by decide +kernel
theorem dX0_greatest_30 : decode cX0_greatest 30 = .ok (.istore_n 1, 1) := by decide +kernel
theorem dX0_greatest_31 : decode cX0_greatest 31 = .ok (.iconst 0, 1) := by decide +kernel
theorem dX0_greatest_32 : decode cX0_greatest 32 = .ok (.istore_n 2, 1) := by decide +kernel
theorem dX0_greatest_33 : decode cX0_greatest 33 = .ok (.iload_n 2, 1) := by decide +kernel
theorem dX0_greatest_34 : decode cX0_greatest 34 = .ok (.aload_n 0, 1) := by decide +kernel
theorem dX0_greatest_35 : decode cX0_greatest 35 = .ok (.getfield 7, 3) := by decide +kernel
theorem dX0_greatest_38 : decode cX0_greatest 38 = .ok (.if_icmp .ge 20, 3) := by decide +kernel
theorem dX0_greatest_41 : decode cX0_greatest 41 = .ok (.iload_n 1, 1) := by decide +kernel
theorem dX0_greatest_42 : decode cX0_greatest 42 = .ok (.aload_n 0, 1) := by decide +kernel
theorem dX0_greatest_43 : decode cX0_greatest 43 = .ok (.getfield 19, 3) := by decide +kernel
theorem dX0_greatest_46 : decode cX0_greatest 46 = .ok (.iload_n 2, 1) := by decide +kernel
theorem dX0_greatest_47 : decode cX0_greatest 47 = .ok (.iaload, 1) := by decide +kernel
theorem dX0_greatest_48 : decode cX0_greatest 48 = .ok (.invokestatic 48, 3) := by decide +kernel
theorem dX0_greatest_51 : decode cX0_greatest 51 = .ok (.istore_n 1, 1) := by decide +kernel
theorem dX0_greatest_52 : decode cX0_greatest 52 = .ok (.iinc 2 1, 3) := by decide +kernel
theorem dX0_greatest_55 : decode cX0_greatest 55 = .ok (.goto (-22), 3) := by decide +kernel
theorem dX0_greatest_58 : decode cX0_greatest 58 = .ok (.iconst (-1), 1) := by decide +kernel
theorem dX0_greatest_59 : decode cX0_greatest 59 = .ok (.iload_n 1, 1) := by decide +kernel
theorem dX0_greatest_60 : decode cX0_greatest 60 = .ok (.aload_n 0, 1) := by decide +kernel
theorem dX0_greatest_61 : decode cX0_greatest 61 = .ok (.getfield 7, 3) := by decide +kernel
theorem dX0_greatest_64 : decode cX0_greatest 64 = .ok (.isub, 1) := by decide +kernel
theorem dX0_greatest_65 : decode cX0_greatest 65 = .ok (.invokestatic 48, 3) := by decide +kernel
theorem dX0_greatest_68 : decode cX0_greatest 68 = .ok (.ireturn, 1) := by decide +kernel
abbrev cX0_common : ByteArray := prog_1_method_3_code
def yX0_common : MethodName := ⟨RX0, "common", "(II)I"⟩
theorem dX0_common_0 : decode cX0_common 0 = .ok (.iload_n 0, 1) := by decide +kernel
theorem dX0_common_1 : decode cX0_common 1 = .ok (.istore_n 2, 1) := by decide +kernel
theorem dX0_common_2 : decode cX0_common 2 = .ok (.iload_n 1, 1) := by decide +kernel
theorem dX0_common_3 : decode cX0_common 3 = .ok (.istore_n 3, 1) := by decide +kernel
theorem dX0_common_4 : decode cX0_common 4 = .ok (.iload_n 3, 1) := by decide +kernel
theorem dX0_common_5 : decode cX0_common 5 = .ok (.ifCond .eq 16, 3) := by decide +kernel
theorem dX0_common_8 : decode cX0_common 8 = .ok (.iload_n 2, 1) := by decide +kernel
theorem dX0_common_9 : decode cX0_common 9 = .ok (.iload_n 3, 1) := by decide +kernel
theorem dX0_common_10 : decode cX0_common 10 = .ok (.irem, 1) := by decide +kernel
theorem dX0_common_11 : decode cX0_common 11 = .ok (.istore 4, 2) := by decide +kernel
theorem dX0_common_13 : decode cX0_common 13 = .ok (.iload_n 3, 1) := by decide +kernel
theorem dX0_common_14 : decode cX0_common 14 = .ok (.istore_n 2, 1) := by decide +kernel
theorem dX0_common_15 : decode cX0_common 15 = .ok (.iload 4, 2) := by decide +kernel
theorem dX0_common_17 : decode cX0_common 17 = .ok (.istore_n 3, 1) := by decide +kernel
theorem dX0_common_18 : decode cX0_common 18 = .ok (.goto (-14), 3) := by decide +kernel
theorem dX0_common_21 : decode cX0_common 21 = .ok (.iload_n 2, 1) := by decide +kernel
theorem dX0_common_22 : decode cX0_common 22 = .ok (.ireturn, 1) := by decide +kernel
abbrev cX0_reckon : ByteArray := prog_1_method_4_code
def yX0_reckon : MethodName := ⟨RX0, "reckon", "()V"⟩
theorem dX0_reckon_0 : decode cX0_reckon 0 = .ok (.aload_n 0, 1) := by decide +kernel
theorem dX0_reckon_1 : decode cX0_reckon 1 = .ok (.getfield 19, 3) := by decide +kernel
theorem dX0_reckon_4 : decode cX0_reckon 4 = .ok (.ldc 25, 2) := by decide +kernel
theorem dX0_reckon_6 : decode cX0_reckon 6 = .ok (.invokestatic 26, 3) := by decide +kernel
theorem dX0_reckon_9 : decode cX0_reckon 9 = .ok (.aload_n 0, 1) := by decide +kernel
theorem dX0_reckon_10 : decode cX0_reckon 10 = .ok (.getfield 19, 3) := by decide +kernel
theorem dX0_reckon_13 : decode cX0_reckon 13 = .ok (.iconst 0, 1) := by decide +kernel
theorem dX0_reckon_14 : decode cX0_reckon 14 = .ok (.iconst 0, 1) := by decide +kernel
theorem dX0_reckon_15 : decode cX0_reckon 15 = .ok (.iastore, 1) := by decide +kernel
theorem dX0_reckon_16 : decode cX0_reckon 16 = .ok (.aload_n 0, 1) := by decide +kernel
theorem dX0_reckon_17 : decode cX0_reckon 17 = .ok (.aload_n 0, 1) := by decide +kernel
theorem dX0_reckon_18 : decode cX0_reckon 18 = .ok (.getfield 13, 3) := by decide +kernel
theorem dX0_reckon_21 : decode cX0_reckon 21 = .ok (.invokevirtual 32, 3) := by decide +kernel
theorem dX0_reckon_24 : decode cX0_reckon 24 = .ok (.aload_n 0, 1) := by decide +kernel
theorem dX0_reckon_25 : decode cX0_reckon 25 = .ok (.aload_n 0, 1) := by decide +kernel
theorem dX0_reckon_26 : decode cX0_reckon 26 = .ok (.getfield 16, 3) := by decide +kernel
theorem dX0_reckon_29 : decode cX0_reckon 29 = .ok (.invokevirtual 32, 3) := by decide +kernel
theorem dX0_reckon_32 : decode cX0_reckon 32 = .ok (.return_, 1) := by decide +kernel
abbrev cX0_turn : ByteArray := prog_1_method_5_code
def yX0_turn : MethodName := ⟨RX0, "turn", "(I)V"⟩
theorem dX0_turn_0 : decode cX0_turn 0 = .ok (.aload_n 0, 1) := by decide +kernel
theorem dX0_turn_1 : decode cX0_turn 1 = .ok (.getfield 7, 3) := by decide +kernel
theorem dX0_turn_4 : decode cX0_turn 4 = .ok (.iload_n 1, 1) := by decide +kernel
theorem dX0_turn_5 : decode cX0_turn 5 = .ok (.invokestatic 36, 3) := by decide +kernel
theorem dX0_turn_8 : decode cX0_turn 8 = .ok (.istore_n 2, 1) := by decide +kernel
theorem dX0_turn_9 : decode cX0_turn 9 = .ok (.aload_n 0, 1) := by decide +kernel
theorem dX0_turn_10 : decode cX0_turn 10 = .ok (.getfield 7, 3) := by decide +kernel
theorem dX0_turn_13 : decode cX0_turn 13 = .ok (.iload_n 2, 1) := by decide +kernel
theorem dX0_turn_14 : decode cX0_turn 14 = .ok (.idiv, 1) := by decide +kernel
theorem dX0_turn_15 : decode cX0_turn 15 = .ok (.istore_n 3, 1) := by decide +kernel
theorem dX0_turn_16 : decode cX0_turn 16 = .ok (.iconst 0, 1) := by decide +kernel
theorem dX0_turn_17 : decode cX0_turn 17 = .ok (.istore 4, 2) := by decide +kernel
theorem dX0_turn_19 : decode cX0_turn 19 = .ok (.iload 4, 2) := by decide +kernel
theorem dX0_turn_21 : decode cX0_turn 21 = .ok (.iload_n 2, 1) := by decide +kernel
theorem dX0_turn_22 : decode cX0_turn 22 = .ok (.if_icmp .ge 83, 3) := by decide +kernel
theorem dX0_turn_25 : decode cX0_turn 25 = .ok (.iload 4, 2) := by decide +kernel
theorem dX0_turn_27 : decode cX0_turn 27 = .ok (.istore 5, 2) := by decide +kernel
theorem dX0_turn_29 : decode cX0_turn 29 = .ok (.iconst 0, 1) := by decide +kernel
theorem dX0_turn_30 : decode cX0_turn 30 = .ok (.istore 6, 2) := by decide +kernel
theorem dX0_turn_32 : decode cX0_turn 32 = .ok (.iload 6, 2) := by decide +kernel
theorem dX0_turn_34 : decode cX0_turn 34 = .ok (.iconst 2, 1) := by decide +kernel
theorem dX0_turn_35 : decode cX0_turn 35 = .ok (.iload_n 3, 1) := by decide +kernel
theorem dX0_turn_36 : decode cX0_turn 36 = .ok (.imul, 1) := by decide +kernel
theorem dX0_turn_37 : decode cX0_turn 37 = .ok (.if_icmp .ge 62, 3) := by decide +kernel
theorem dX0_turn_40 : decode cX0_turn 40 = .ok (.iload 5, 2) := by decide +kernel
theorem dX0_turn_42 : decode cX0_turn 42 = .ok (.iload_n 1, 1) := by decide +kernel
theorem dX0_turn_43 : decode cX0_turn 43 = .ok (.iadd, 1) := by decide +kernel
theorem dX0_turn_44 : decode cX0_turn 44 = .ok (.aload_n 0, 1) := by decide +kernel
theorem dX0_turn_45 : decode cX0_turn 45 = .ok (.getfield 7, 3) := by decide +kernel
theorem dX0_turn_48 : decode cX0_turn 48 = .ok (.irem, 1) := by decide +kernel
theorem dX0_turn_49 : decode cX0_turn 49 = .ok (.istore 7, 2) := by decide +kernel
theorem dX0_turn_51 : decode cX0_turn 51 = .ok (.aload_n 0, 1) := by decide +kernel
theorem dX0_turn_52 : decode cX0_turn 52 = .ok (.getfield 19, 3) := by decide +kernel
theorem dX0_turn_55 : decode cX0_turn 55 = .ok (.iload 5, 2) := by decide +kernel
theorem dX0_turn_57 : decode cX0_turn 57 = .ok (.iaload, 1) := by decide +kernel
theorem dX0_turn_58 : decode cX0_turn 58 = .ok (.ldc 25, 2) := by decide +kernel
theorem dX0_turn_60 : decode cX0_turn 60 = .ok (.if_icmp .eq 29, 3) := by decide +kernel
theorem dX0_turn_63 : decode cX0_turn 63 = .ok (.aload_n 0, 1) := by decide +kernel
theorem dX0_turn_64 : decode cX0_turn 64 = .ok (.getfield 19, 3) := by decide +kernel
theorem dX0_turn_67 : decode cX0_turn 67 = .ok (.iload 7, 2) := by decide +kernel
theorem dX0_turn_69 : decode cX0_turn 69 = .ok (.aload_n 0, 1) := by decide +kernel
theorem dX0_turn_70 : decode cX0_turn 70 = .ok (.getfield 19, 3) := by decide +kernel
theorem dX0_turn_73 : decode cX0_turn 73 = .ok (.iload 7, 2) := by decide +kernel
theorem dX0_turn_75 : decode cX0_turn 75 = .ok (.iaload, 1) := by decide +kernel
theorem dX0_turn_76 : decode cX0_turn 76 = .ok (.aload_n 0, 1) := by decide +kernel
theorem dX0_turn_77 : decode cX0_turn 77 = .ok (.getfield 19, 3) := by decide +kernel
theorem dX0_turn_80 : decode cX0_turn 80 = .ok (.iload 5, 2) := by decide +kernel
theorem dX0_turn_82 : decode cX0_turn 82 = .ok (.iaload, 1) := by decide +kernel
theorem dX0_turn_83 : decode cX0_turn 83 = .ok (.iload_n 1, 1) := by decide +kernel
theorem dX0_turn_84 : decode cX0_turn 84 = .ok (.iadd, 1) := by decide +kernel
theorem dX0_turn_85 : decode cX0_turn 85 = .ok (.invokestatic 40, 3) := by decide +kernel
theorem dX0_turn_88 : decode cX0_turn 88 = .ok (.iastore, 1) := by decide +kernel
theorem dX0_turn_89 : decode cX0_turn 89 = .ok (.iload 7, 2) := by decide +kernel
theorem dX0_turn_91 : decode cX0_turn 91 = .ok (.istore 5, 2) := by decide +kernel
theorem dX0_turn_93 : decode cX0_turn 93 = .ok (.iinc 6 1, 3) := by decide +kernel
theorem dX0_turn_96 : decode cX0_turn 96 = .ok (.goto (-64), 3) := by decide +kernel
theorem dX0_turn_99 : decode cX0_turn 99 = .ok (.iinc 4 1, 3) := by decide +kernel
theorem dX0_turn_102 : decode cX0_turn 102 = .ok (.goto (-83), 3) := by decide +kernel
theorem dX0_turn_105 : decode cX0_turn 105 = .ok (.return_, 1) := by decide +kernel
abbrev cX0_gaps : ByteArray := prog_1_method_7_code
def yX0_gaps : MethodName := ⟨RX0, "gaps", "()I"⟩
theorem dX0_gaps_0 : decode cX0_gaps 0 = .ok (.aload_n 0, 1) := by decide +kernel
theorem dX0_gaps_1 : decode cX0_gaps 1 = .ok (.getfield 7, 3) := by decide +kernel
theorem dX0_gaps_4 : decode cX0_gaps 4 = .ok (.aload_n 0, 1) := by decide +kernel
theorem dX0_gaps_5 : decode cX0_gaps 5 = .ok (.getfield 13, 3) := by decide +kernel
theorem dX0_gaps_8 : decode cX0_gaps 8 = .ok (.invokestatic 36, 3) := by decide +kernel
theorem dX0_gaps_11 : decode cX0_gaps 11 = .ok (.aload_n 0, 1) := by decide +kernel
theorem dX0_gaps_12 : decode cX0_gaps 12 = .ok (.getfield 16, 3) := by decide +kernel
theorem dX0_gaps_15 : decode cX0_gaps 15 = .ok (.invokestatic 36, 3) := by decide +kernel
theorem dX0_gaps_18 : decode cX0_gaps 18 = .ok (.iconst 1, 1) := by decide +kernel
theorem dX0_gaps_19 : decode cX0_gaps 19 = .ok (.if_icmp .le 6, 3) := by decide +kernel
theorem dX0_gaps_22 : decode cX0_gaps 22 = .ok (.bipush (-2), 2) := by decide +kernel
theorem dX0_gaps_24 : decode cX0_gaps 24 = .ok (.ireturn, 1) := by decide +kernel
theorem dX0_gaps_25 : decode cX0_gaps 25 = .ok (.aload_n 0, 1) := by decide +kernel
theorem dX0_gaps_26 : decode cX0_gaps 26 = .ok (.invokevirtual 45, 3) := by decide +kernel
theorem dX0_gaps_29 : decode cX0_gaps 29 = .ok (.iconst 0, 1) := by decide +kernel
theorem dX0_gaps_30 : decode cX0_gaps 30 = .ok (.istore_n 1, 1) := by decide +kernel
theorem dX0_gaps_31 : decode cX0_gaps 31 = .ok (.iconst 0, 1) := by decide +kernel
theorem dX0_gaps_32 : decode cX0_gaps 32 = .ok (.istore_n 2, 1) := by decide +kernel
theorem dX0_gaps_33 : decode cX0_gaps 33 = .ok (.iload_n 2, 1) := by decide +kernel
theorem dX0_gaps_34 : decode cX0_gaps 34 = .ok (.aload_n 0, 1) := by decide +kernel
theorem dX0_gaps_35 : decode cX0_gaps 35 = .ok (.getfield 7, 3) := by decide +kernel
theorem dX0_gaps_38 : decode cX0_gaps 38 = .ok (.if_icmp .ge 23, 3) := by decide +kernel
theorem dX0_gaps_41 : decode cX0_gaps 41 = .ok (.iload_n 1, 1) := by decide +kernel
theorem dX0_gaps_42 : decode cX0_gaps 42 = .ok (.aload_n 0, 1) := by decide +kernel
theorem dX0_gaps_43 : decode cX0_gaps 43 = .ok (.getfield 19, 3) := by decide +kernel
theorem dX0_gaps_46 : decode cX0_gaps 46 = .ok (.iload_n 2, 1) := by decide +kernel
theorem dX0_gaps_47 : decode cX0_gaps 47 = .ok (.iaload, 1) := by decide +kernel
theorem dX0_gaps_48 : decode cX0_gaps 48 = .ok (.aload_n 0, 1) := by decide +kernel
theorem dX0_gaps_49 : decode cX0_gaps 49 = .ok (.getfield 7, 3) := by decide +kernel
theorem dX0_gaps_52 : decode cX0_gaps 52 = .ok (.idiv, 1) := by decide +kernel
theorem dX0_gaps_53 : decode cX0_gaps 53 = .ok (.iadd, 1) := by decide +kernel
theorem dX0_gaps_54 : decode cX0_gaps 54 = .ok (.istore_n 1, 1) := by decide +kernel
theorem dX0_gaps_55 : decode cX0_gaps 55 = .ok (.iinc 2 1, 3) := by decide +kernel
theorem dX0_gaps_58 : decode cX0_gaps 58 = .ok (.goto (-25), 3) := by decide +kernel
theorem dX0_gaps_61 : decode cX0_gaps 61 = .ok (.iload_n 1, 1) := by decide +kernel
theorem dX0_gaps_62 : decode cX0_gaps 62 = .ok (.ireturn, 1) := by decide +kernel
abbrev cX0_few : ByteArray := prog_1_method_8_code
def yX0_few : MethodName := ⟨RX0, "few", "(I)I"⟩
theorem dX0_few_0 : decode cX0_few 0 = .ok (.iload_n 1, 1) := by decide +kernel
theorem dX0_few_1 : decode cX0_few 1 = .ok (.sipush 1023, 3) := by decide +kernel
theorem dX0_few_4 : decode cX0_few 4 = .ok (.iand, 1) := by decide +kernel
theorem dX0_few_5 : decode cX0_few 5 = .ok (.istore_n 2, 1) := by decide +kernel
theorem dX0_few_6 : decode cX0_few 6 = .ok (.iconst (-1), 1) := by decide +kernel
theorem dX0_few_7 : decode cX0_few 7 = .ok (.istore_n 3, 1) := by decide +kernel
theorem dX0_few_8 : decode cX0_few 8 = .ok (.aload_n 0, 1) := by decide +kernel
theorem dX0_few_9 : decode cX0_few 9 = .ok (.getfield 7, 3) := by decide +kernel
theorem dX0_few_12 : decode cX0_few 12 = .ok (.aload_n 0, 1) := by decide +kernel
theorem dX0_few_13 : decode cX0_few 13 = .ok (.getfield 13, 3) := by decide +kernel
theorem dX0_few_16 : decode cX0_few 16 = .ok (.aload_n 0, 1) := by decide +kernel
theorem dX0_few_17 : decode cX0_few 17 = .ok (.getfield 16, 3) := by decide +kernel
theorem dX0_few_20 : decode cX0_few 20 = .ok (.invokestatic 48, 3) := by decide +kernel
theorem dX0_few_23 : decode cX0_few 23 = .ok (.invokestatic 48, 3) := by decide +kernel
theorem dX0_few_26 : decode cX0_few 26 = .ok (.istore 4, 2) := by decide +kernel
theorem dX0_few_28 : decode cX0_few 28 = .ok (.iload 4, 2) := by decide +kernel
theorem dX0_few_30 : decode cX0_few 30 = .ok (.aload_n 0, 1) := by decide +kernel
theorem dX0_few_31 : decode cX0_few 31 = .ok (.getfield 7, 3) := by decide +kernel
theorem dX0_few_34 : decode cX0_few 34 = .ok (.if_icmp .ne 10, 3) := by decide +kernel
theorem dX0_few_37 : decode cX0_few 37 = .ok (.aload_n 0, 1) := by decide +kernel
theorem dX0_few_38 : decode cX0_few 38 = .ok (.getfield 13, 3) := by decide +kernel
theorem dX0_few_41 : decode cX0_few 41 = .ok (.goto 7, 3) := by decide +kernel
theorem dX0_few_44 : decode cX0_few 44 = .ok (.aload_n 0, 1) := by decide +kernel
theorem dX0_few_45 : decode cX0_few 45 = .ok (.getfield 7, 3) := by decide +kernel
theorem dX0_few_48 : decode cX0_few 48 = .ok (.istore 5, 2) := by decide +kernel
theorem dX0_few_50 : decode cX0_few 50 = .ok (.iload 4, 2) := by decide +kernel
theorem dX0_few_52 : decode cX0_few 52 = .ok (.aload_n 0, 1) := by decide +kernel
theorem dX0_few_53 : decode cX0_few 53 = .ok (.getfield 7, 3) := by decide +kernel
theorem dX0_few_56 : decode cX0_few 56 = .ok (.if_icmp .eq 12, 3) := by decide +kernel
theorem dX0_few_59 : decode cX0_few 59 = .ok (.iload 4, 2) := by decide +kernel
theorem dX0_few_61 : decode cX0_few 61 = .ok (.aload_n 0, 1) := by decide +kernel
theorem dX0_few_62 : decode cX0_few 62 = .ok (.getfield 13, 3) := by decide +kernel
theorem dX0_few_65 : decode cX0_few 65 = .ok (.if_icmp .ne 10, 3) := by decide +kernel
theorem dX0_few_68 : decode cX0_few 68 = .ok (.aload_n 0, 1) := by decide +kernel
theorem dX0_few_69 : decode cX0_few 69 = .ok (.getfield 16, 3) := by decide +kernel
theorem dX0_few_72 : decode cX0_few 72 = .ok (.goto 7, 3) := by decide +kernel
theorem dX0_few_75 : decode cX0_few 75 = .ok (.aload_n 0, 1) := by decide +kernel
theorem dX0_few_76 : decode cX0_few 76 = .ok (.getfield 13, 3) := by decide +kernel
theorem dX0_few_79 : decode cX0_few 79 = .ok (.istore 6, 2) := by decide +kernel
theorem dX0_few_81 : decode cX0_few 81 = .ok (.iconst 0, 1) := by decide +kernel
theorem dX0_few_82 : decode cX0_few 82 = .ok (.istore 7, 2) := by decide +kernel
theorem dX0_few_84 : decode cX0_few 84 = .ok (.iload 7, 2) := by decide +kernel
theorem dX0_few_86 : decode cX0_few 86 = .ok (.iload 4, 2) := by decide +kernel
theorem dX0_few_88 : decode cX0_few 88 = .ok (.if_icmp .ge 98, 3) := by decide +kernel
theorem dX0_few_91 : decode cX0_few 91 = .ok (.iload 7, 2) := by decide +kernel
theorem dX0_few_93 : decode cX0_few 93 = .ok (.iload 5, 2) := by decide +kernel
theorem dX0_few_95 : decode cX0_few 95 = .ok (.imul, 1) := by decide +kernel
theorem dX0_few_96 : decode cX0_few 96 = .ok (.iload_n 2, 1) := by decide +kernel
theorem dX0_few_97 : decode cX0_few 97 = .ok (.if_icmp .gt 89, 3) := by decide +kernel
theorem dX0_few_100 : decode cX0_few 100 = .ok (.iconst 0, 1) := by decide +kernel
theorem dX0_few_101 : decode cX0_few 101 = .ok (.istore 8, 2) := by decide +kernel
theorem dX0_few_103 : decode cX0_few 103 = .ok (.iload 8, 2) := by decide +kernel
theorem dX0_few_105 : decode cX0_few 105 = .ok (.iload 4, 2) := by decide +kernel
theorem dX0_few_107 : decode cX0_few 107 = .ok (.if_icmp .ge 73, 3) := by decide +kernel
theorem dX0_few_110 : decode cX0_few 110 = .ok (.iload 7, 2) := by decide +kernel
theorem dX0_few_112 : decode cX0_few 112 = .ok (.iload 5, 2) := by decide +kernel
theorem dX0_few_114 : decode cX0_few 114 = .ok (.imul, 1) := by decide +kernel
theorem dX0_few_115 : decode cX0_few 115 = .ok (.iload 8, 2) := by decide +kernel
theorem dX0_few_117 : decode cX0_few 117 = .ok (.iload 6, 2) := by decide +kernel
theorem dX0_few_119 : decode cX0_few 119 = .ok (.imul, 1) := by decide +kernel
theorem dX0_few_120 : decode cX0_few 120 = .ok (.iadd, 1) := by decide +kernel
theorem dX0_few_121 : decode cX0_few 121 = .ok (.iload_n 2, 1) := by decide +kernel
theorem dX0_few_122 : decode cX0_few 122 = .ok (.if_icmp .gt 58, 3) := by decide +kernel
theorem dX0_few_125 : decode cX0_few 125 = .ok (.iload_n 2, 1) := by decide +kernel
theorem dX0_few_126 : decode cX0_few 126 = .ok (.iload 7, 2) := by decide +kernel
theorem dX0_few_128 : decode cX0_few 128 = .ok (.iload 5, 2) := by decide +kernel
theorem dX0_few_130 : decode cX0_few 130 = .ok (.imul, 1) := by decide +kernel
theorem dX0_few_131 : decode cX0_few 131 = .ok (.isub, 1) := by decide +kernel
theorem dX0_few_132 : decode cX0_few 132 = .ok (.iload 8, 2) := by decide +kernel
theorem dX0_few_134 : decode cX0_few 134 = .ok (.iload 6, 2) := by decide +kernel
theorem dX0_few_136 : decode cX0_few 136 = .ok (.imul, 1) := by decide +kernel
theorem dX0_few_137 : decode cX0_few 137 = .ok (.isub, 1) := by decide +kernel
theorem dX0_few_138 : decode cX0_few 138 = .ok (.istore 9, 2) := by decide +kernel
theorem dX0_few_140 : decode cX0_few 140 = .ok (.iload 7, 2) := by decide +kernel
theorem dX0_few_142 : decode cX0_few 142 = .ok (.iload 8, 2) := by decide +kernel
theorem dX0_few_144 : decode cX0_few 144 = .ok (.iadd, 1) := by decide +kernel
theorem dX0_few_145 : decode cX0_few 145 = .ok (.iload 9, 2) := by decide +kernel
theorem dX0_few_147 : decode cX0_few 147 = .ok (.iload 4, 2) := by decide +kernel
theorem dX0_few_149 : decode cX0_few 149 = .ok (.idiv, 1) := by decide +kernel
theorem dX0_few_150 : decode cX0_few 150 = .ok (.iadd, 1) := by decide +kernel
theorem dX0_few_151 : decode cX0_few 151 = .ok (.istore 10, 2) := by decide +kernel
theorem dX0_few_153 : decode cX0_few 153 = .ok (.iload 9, 2) := by decide +kernel
theorem dX0_few_155 : decode cX0_few 155 = .ok (.iload 4, 2) := by decide +kernel
theorem dX0_few_157 : decode cX0_few 157 = .ok (.irem, 1) := by decide +kernel
theorem dX0_few_158 : decode cX0_few 158 = .ok (.ifCond .ne 16, 3) := by decide +kernel
theorem dX0_few_161 : decode cX0_few 161 = .ok (.iload_n 3, 1) := by decide +kernel
theorem dX0_few_162 : decode cX0_few 162 = .ok (.ifCond .lt 9, 3) := by decide +kernel
theorem dX0_few_165 : decode cX0_few 165 = .ok (.iload 10, 2) := by decide +kernel
theorem dX0_few_167 : decode cX0_few 167 = .ok (.iload_n 3, 1) := by decide +kernel
theorem dX0_few_168 : decode cX0_few 168 = .ok (.if_icmp .ge 6, 3) := by decide +kernel
theorem dX0_few_171 : decode cX0_few 171 = .ok (.iload 10, 2) := by decide +kernel
theorem dX0_few_173 : decode cX0_few 173 = .ok (.istore_n 3, 1) := by decide +kernel
theorem dX0_few_174 : decode cX0_few 174 = .ok (.iinc 8 1, 3) := by decide +kernel
theorem dX0_few_177 : decode cX0_few 177 = .ok (.goto (-74), 3) := by decide +kernel
theorem dX0_few_180 : decode cX0_few 180 = .ok (.iinc 7 1, 3) := by decide +kernel
theorem dX0_few_183 : decode cX0_few 183 = .ok (.goto (-99), 3) := by decide +kernel
theorem dX0_few_186 : decode cX0_few 186 = .ok (.iload_n 3, 1) := by decide +kernel
theorem dX0_few_187 : decode cX0_few 187 = .ok (.ireturn, 1) := by decide +kernel
abbrev cX0_two : ByteArray := prog_1_method_10_code
def yX0_two : MethodName := ⟨RX0, "two", "(I)Z"⟩
theorem dX0_two_0 : decode cX0_two 0 = .ok (.aload_n 0, 1) := by decide +kernel
theorem dX0_two_1 : decode cX0_two 1 = .ok (.iload_n 1, 1) := by decide +kernel
theorem dX0_two_2 : decode cX0_two 2 = .ok (.sipush 1023, 3) := by decide +kernel
theorem dX0_two_5 : decode cX0_two 5 = .ok (.iand, 1) := by decide +kernel
theorem dX0_two_6 : decode cX0_two 6 = .ok (.invokevirtual 51, 3) := by decide +kernel
theorem dX0_two_9 : decode cX0_two 9 = .ok (.ifCond .lt 7, 3) := by decide +kernel
theorem dX0_two_12 : decode cX0_two 12 = .ok (.iconst 1, 1) := by decide +kernel
theorem dX0_two_13 : decode cX0_two 13 = .ok (.goto 4, 3) := by decide +kernel
theorem dX0_two_16 : decode cX0_two 16 = .ok (.iconst 0, 1) := by decide +kernel
theorem dX0_two_17 : decode cX0_two 17 = .ok (.ireturn, 1) := by decide +kernel
abbrev cX0_first : ByteArray := prog_1_method_9_code
def yX0_first : MethodName := ⟨RX0, "first", "(I)I"⟩
theorem dX0_first_0 : decode cX0_first 0 = .ok (.iconst 0, 1) := by decide +kernel
theorem dX0_first_1 : decode cX0_first 1 = .ok (.istore_n 2, 1) := by decide +kernel
theorem dX0_first_2 : decode cX0_first 2 = .ok (.iload_n 2, 1) := by decide +kernel
theorem dX0_first_3 : decode cX0_first 3 = .ok (.aload_n 0, 1) := by decide +kernel
theorem dX0_first_4 : decode cX0_first 4 = .ok (.getfield 13, 3) := by decide +kernel
theorem dX0_first_7 : decode cX0_first 7 = .ok (.if_icmp .ge 37, 3) := by decide +kernel
theorem dX0_first_10 : decode cX0_first 10 = .ok (.iload_n 2, 1) := by decide +kernel
theorem dX0_first_11 : decode cX0_first 11 = .ok (.aload_n 0, 1) := by decide +kernel
theorem dX0_first_12 : decode cX0_first 12 = .ok (.getfield 7, 3) := by decide +kernel
theorem dX0_first_15 : decode cX0_first 15 = .ok (.imul, 1) := by decide +kernel
theorem dX0_first_16 : decode cX0_first 16 = .ok (.iload_n 1, 1) := by decide +kernel
theorem dX0_first_17 : decode cX0_first 17 = .ok (.if_icmp .gt 27, 3) := by decide +kernel
theorem dX0_first_20 : decode cX0_first 20 = .ok (.iload_n 1, 1) := by decide +kernel
theorem dX0_first_21 : decode cX0_first 21 = .ok (.iload_n 2, 1) := by decide +kernel
theorem dX0_first_22 : decode cX0_first 22 = .ok (.aload_n 0, 1) := by decide +kernel
theorem dX0_first_23 : decode cX0_first 23 = .ok (.getfield 7, 3) := by decide +kernel
theorem dX0_first_26 : decode cX0_first 26 = .ok (.imul, 1) := by decide +kernel
theorem dX0_first_27 : decode cX0_first 27 = .ok (.isub, 1) := by decide +kernel
theorem dX0_first_28 : decode cX0_first 28 = .ok (.aload_n 0, 1) := by decide +kernel
theorem dX0_first_29 : decode cX0_first 29 = .ok (.getfield 13, 3) := by decide +kernel
theorem dX0_first_32 : decode cX0_first 32 = .ok (.irem, 1) := by decide +kernel
theorem dX0_first_33 : decode cX0_first 33 = .ok (.ifCond .ne 5, 3) := by decide +kernel
theorem dX0_first_36 : decode cX0_first 36 = .ok (.iload_n 2, 1) := by decide +kernel
theorem dX0_first_37 : decode cX0_first 37 = .ok (.ireturn, 1) := by decide +kernel
theorem dX0_first_38 : decode cX0_first 38 = .ok (.iinc 2 1, 3) := by decide +kernel
theorem dX0_first_41 : decode cX0_first 41 = .ok (.goto (-39), 3) := by decide +kernel
theorem dX0_first_44 : decode cX0_first 44 = .ok (.iconst (-1), 1) := by decide +kernel
theorem dX0_first_45 : decode cX0_first 45 = .ok (.ireturn, 1) := by decide +kernel
abbrev cX0_ways : ByteArray := prog_1_method_11_code
def yX0_ways : MethodName := ⟨RX0, "ways", "(I)I"⟩
theorem dX0_ways_0 : decode cX0_ways 0 = .ok (.iload_n 1, 1) := by decide +kernel
theorem dX0_ways_1 : decode cX0_ways 1 = .ok (.sipush 1023, 3) := by decide +kernel
theorem dX0_ways_4 : decode cX0_ways 4 = .ok (.iand, 1) := by decide +kernel
theorem dX0_ways_5 : decode cX0_ways 5 = .ok (.istore_n 2, 1) := by decide +kernel
theorem dX0_ways_6 : decode cX0_ways 6 = .ok (.aload_n 0, 1) := by decide +kernel
theorem dX0_ways_7 : decode cX0_ways 7 = .ok (.iload_n 2, 1) := by decide +kernel
theorem dX0_ways_8 : decode cX0_ways 8 = .ok (.invokevirtual 51, 3) := by decide +kernel
theorem dX0_ways_11 : decode cX0_ways 11 = .ok (.istore_n 3, 1) := by decide +kernel
theorem dX0_ways_12 : decode cX0_ways 12 = .ok (.iload_n 3, 1) := by decide +kernel
theorem dX0_ways_13 : decode cX0_ways 13 = .ok (.ifCond .ge 7, 3) := by decide +kernel
theorem dX0_ways_16 : decode cX0_ways 16 = .ok (.iconst 0, 1) := by decide +kernel
theorem dX0_ways_17 : decode cX0_ways 17 = .ok (.goto 35, 3) := by decide +kernel
theorem dX0_ways_20 : decode cX0_ways 20 = .ok (.iconst 1, 1) := by decide +kernel
theorem dX0_ways_21 : decode cX0_ways 21 = .ok (.iload_n 2, 1) := by decide +kernel
theorem dX0_ways_22 : decode cX0_ways 22 = .ok (.iload_n 3, 1) := by decide +kernel
theorem dX0_ways_23 : decode cX0_ways 23 = .ok (.aload_n 0, 1) := by decide +kernel
theorem dX0_ways_24 : decode cX0_ways 24 = .ok (.getfield 7, 3) := by decide +kernel
theorem dX0_ways_27 : decode cX0_ways 27 = .ok (.imul, 1) := by decide +kernel
theorem dX0_ways_28 : decode cX0_ways 28 = .ok (.isub, 1) := by decide +kernel
theorem dX0_ways_29 : decode cX0_ways 29 = .ok (.aload_n 0, 1) := by decide +kernel
theorem dX0_ways_30 : decode cX0_ways 30 = .ok (.getfield 7, 3) := by decide +kernel
theorem dX0_ways_33 : decode cX0_ways 33 = .ok (.aload_n 0, 1) := by decide +kernel
theorem dX0_ways_34 : decode cX0_ways 34 = .ok (.getfield 13, 3) := by decide +kernel
theorem dX0_ways_37 : decode cX0_ways 37 = .ok (.aload_n 0, 1) := by decide +kernel
theorem dX0_ways_38 : decode cX0_ways 38 = .ok (.getfield 7, 3) := by decide +kernel
theorem dX0_ways_41 : decode cX0_ways 41 = .ok (.aload_n 0, 1) := by decide +kernel
theorem dX0_ways_42 : decode cX0_ways 42 = .ok (.getfield 13, 3) := by decide +kernel
theorem dX0_ways_45 : decode cX0_ways 45 = .ok (.invokestatic 36, 3) := by decide +kernel
theorem dX0_ways_48 : decode cX0_ways 48 = .ok (.idiv, 1) := by decide +kernel
theorem dX0_ways_49 : decode cX0_ways 49 = .ok (.imul, 1) := by decide +kernel
theorem dX0_ways_50 : decode cX0_ways 50 = .ok (.idiv, 1) := by decide +kernel
theorem dX0_ways_51 : decode cX0_ways 51 = .ok (.iadd, 1) := by decide +kernel
theorem dX0_ways_52 : decode cX0_ways 52 = .ok (.ireturn, 1) := by decide +kernel
abbrev cX0_greatestTwo : ByteArray := prog_1_method_12_code
def yX0_greatestTwo : MethodName := ⟨RX0, "greatestTwo", "()I"⟩
theorem dX0_greatestTwo_0 : decode cX0_greatestTwo 0 = .ok (.aload_n 0, 1) := by decide +kernel
theorem dX0_greatestTwo_1 : decode cX0_greatestTwo 1 = .ok (.getfield 7, 3) := by decide +kernel
theorem dX0_greatestTwo_4 : decode cX0_greatestTwo 4 = .ok (.aload_n 0, 1) := by decide +kernel
theorem dX0_greatestTwo_5 : decode cX0_greatestTwo 5 = .ok (.getfield 13, 3) := by decide +kernel
theorem dX0_greatestTwo_8 : decode cX0_greatestTwo 8 = .ok (.invokestatic 36, 3) := by decide +kernel
theorem dX0_greatestTwo_11 : decode cX0_greatestTwo 11 = .ok (.iconst 1, 1) := by decide +kernel
theorem dX0_greatestTwo_12 : decode cX0_greatestTwo 12 = .ok (.if_icmp .le 8, 3) := by decide +kernel
theorem dX0_greatestTwo_15 : decode cX0_greatestTwo 15 = .ok (.bipush (-2), 2) := by decide +kernel
theorem dX0_greatestTwo_17 : decode cX0_greatestTwo 17 = .ok (.goto 22, 3) := by decide +kernel
theorem dX0_greatestTwo_20 : decode cX0_greatestTwo 20 = .ok (.aload_n 0, 1) := by decide +kernel
theorem dX0_greatestTwo_21 : decode cX0_greatestTwo 21 = .ok (.getfield 7, 3) := by decide +kernel
theorem dX0_greatestTwo_24 : decode cX0_greatestTwo 24 = .ok (.aload_n 0, 1) := by decide +kernel
theorem dX0_greatestTwo_25 : decode cX0_greatestTwo 25 = .ok (.getfield 13, 3) := by decide +kernel
theorem dX0_greatestTwo_28 : decode cX0_greatestTwo 28 = .ok (.imul, 1) := by decide +kernel
theorem dX0_greatestTwo_29 : decode cX0_greatestTwo 29 = .ok (.aload_n 0, 1) := by decide +kernel
theorem dX0_greatestTwo_30 : decode cX0_greatestTwo 30 = .ok (.getfield 7, 3) := by decide +kernel
theorem dX0_greatestTwo_33 : decode cX0_greatestTwo 33 = .ok (.isub, 1) := by decide +kernel
theorem dX0_greatestTwo_34 : decode cX0_greatestTwo 34 = .ok (.aload_n 0, 1) := by decide +kernel
theorem dX0_greatestTwo_35 : decode cX0_greatestTwo 35 = .ok (.getfield 13, 3) := by decide +kernel
theorem dX0_greatestTwo_38 : decode cX0_greatestTwo 38 = .ok (.isub, 1) := by decide +kernel
theorem dX0_greatestTwo_39 : decode cX0_greatestTwo 39 = .ok (.ireturn, 1) := by decide +kernel
abbrev cX0_gapsTwo : ByteArray := prog_1_method_13_code
def yX0_gapsTwo : MethodName := ⟨RX0, "gapsTwo", "()I"⟩
theorem dX0_gapsTwo_0 : decode cX0_gapsTwo 0 = .ok (.aload_n 0, 1) := by decide +kernel
theorem dX0_gapsTwo_1 : decode cX0_gapsTwo 1 = .ok (.getfield 7, 3) := by decide +kernel
theorem dX0_gapsTwo_4 : decode cX0_gapsTwo 4 = .ok (.aload_n 0, 1) := by decide +kernel
theorem dX0_gapsTwo_5 : decode cX0_gapsTwo 5 = .ok (.getfield 13, 3) := by decide +kernel
theorem dX0_gapsTwo_8 : decode cX0_gapsTwo 8 = .ok (.invokestatic 36, 3) := by decide +kernel
theorem dX0_gapsTwo_11 : decode cX0_gapsTwo 11 = .ok (.iconst 1, 1) := by decide +kernel
theorem dX0_gapsTwo_12 : decode cX0_gapsTwo 12 = .ok (.if_icmp .le 8, 3) := by decide +kernel
theorem dX0_gapsTwo_15 : decode cX0_gapsTwo 15 = .ok (.bipush (-2), 2) := by decide +kernel
theorem dX0_gapsTwo_17 : decode cX0_gapsTwo 17 = .ok (.goto 18, 3) := by decide +kernel
theorem dX0_gapsTwo_20 : decode cX0_gapsTwo 20 = .ok (.aload_n 0, 1) := by decide +kernel
theorem dX0_gapsTwo_21 : decode cX0_gapsTwo 21 = .ok (.getfield 7, 3) := by decide +kernel
theorem dX0_gapsTwo_24 : decode cX0_gapsTwo 24 = .ok (.iconst 1, 1) := by decide +kernel
theorem dX0_gapsTwo_25 : decode cX0_gapsTwo 25 = .ok (.isub, 1) := by decide +kernel
theorem dX0_gapsTwo_26 : decode cX0_gapsTwo 26 = .ok (.aload_n 0, 1) := by decide +kernel
theorem dX0_gapsTwo_27 : decode cX0_gapsTwo 27 = .ok (.getfield 13, 3) := by decide +kernel
theorem dX0_gapsTwo_30 : decode cX0_gapsTwo 30 = .ok (.iconst 1, 1) := by decide +kernel
theorem dX0_gapsTwo_31 : decode cX0_gapsTwo 31 = .ok (.isub, 1) := by decide +kernel
theorem dX0_gapsTwo_32 : decode cX0_gapsTwo 32 = .ok (.imul, 1) := by decide +kernel
theorem dX0_gapsTwo_33 : decode cX0_gapsTwo 33 = .ok (.iconst 2, 1) := by decide +kernel
theorem dX0_gapsTwo_34 : decode cX0_gapsTwo 34 = .ok (.idiv, 1) := by decide +kernel
theorem dX0_gapsTwo_35 : decode cX0_gapsTwo 35 = .ok (.ireturn, 1) := by decide +kernel
theorem q6 : (Jvm.Cond.initialized "ChangeDesk") ∈ lw_all := lw_g (lw_at lw_m0 1 rfl) rfl
theorem q11 : (Jvm.Cond.instantiable "ChangeDesk" (4 : Nat)) ∈ lw_all := lw_g (lw_at lw_m0 6 rfl) rfl
theorem q13 : (Jvm.Cond.instanceMethod ({ cls := "ChangeDesk", name := "<init>", desc := "()V" } : Jvm.MethodName)) ∈ lw_all := lw_g (lw_at lw_m0 8 rfl) rfl
theorem q14 : (Jvm.Cond.code ({ cls := "ChangeDesk", name := "<init>", desc := "()V" } : Jvm.MethodName) prog_1_method_1_code (1 : Nat) (Option.none : Option Jvm.ClassFile.FieldType)) ∈ lw_all := lw_g (lw_at lw_m0 9 rfl) rfl
theorem q15 : (Jvm.Cond.methodLink "ChangeDesk" (1 : Nat) ({ cls := "java/lang/Object", name := "<init>", desc := "()V" } : Jvm.MethodName)) ∈ lw_all := lw_g (lw_at lw_m0 10 rfl) rfl
theorem q18 : (Jvm.Cond.fieldLink "ChangeDesk" (7 : Nat) "ChangeDesk" "a" "I") ∈ lw_all := lw_g (lw_at lw_m0 13 rfl) rfl
theorem q19 : (Jvm.Cond.fieldLink "ChangeDesk" (13 : Nat) "ChangeDesk" "b" "I") ∈ lw_all := lw_g (lw_at lw_m0 14 rfl) rfl
theorem q20 : (Jvm.Cond.fieldLink "ChangeDesk" (16 : Nat) "ChangeDesk" "c" "I") ∈ lw_all := lw_g (lw_at lw_m0 15 rfl) rfl
theorem q21 : (Jvm.Cond.fieldLink "ChangeDesk" (19 : Nat) "ChangeDesk" "least" "[I") ∈ lw_all := lw_g (lw_at lw_m0 16 rfl) rfl
theorem q22 : (Jvm.Cond.lays "ChangeDesk" "ChangeDesk" "a" "I") ∈ lw_all := lw_g (lw_at lw_m0 17 rfl) rfl
theorem q23 : (Jvm.Cond.soleField "ChangeDesk" "a") ∈ lw_all := lw_g (lw_at lw_m0 18 rfl) rfl
theorem q24 : (Jvm.Cond.lays "ChangeDesk" "ChangeDesk" "b" "I") ∈ lw_all := lw_g (lw_at lw_m0 19 rfl) rfl
theorem q25 : (Jvm.Cond.soleField "ChangeDesk" "b") ∈ lw_all := lw_g (lw_at lw_m0 20 rfl) rfl
theorem q26 : (Jvm.Cond.lays "ChangeDesk" "ChangeDesk" "c" "I") ∈ lw_all := lw_g (lw_at lw_m0 21 rfl) rfl
theorem q27 : (Jvm.Cond.soleField "ChangeDesk" "c") ∈ lw_all := lw_g (lw_at lw_m0 22 rfl) rfl
theorem q28 : (Jvm.Cond.laysFinal "ChangeDesk" "ChangeDesk" "least" "[I") ∈ lw_all := lw_g (lw_at lw_m0 23 rfl) rfl
theorem q29 : (Jvm.Cond.soleField "ChangeDesk" "least") ∈ lw_all := lw_g (lw_at lw_m0 24 rfl) rfl
theorem q30 : (Jvm.Cond.superclass "ChangeDesk" "java/lang/Object") ∈ lw_all := lw_g (lw_at lw_m0 25 rfl) rfl
theorem q33 : (Jvm.Cond.instanceMethod ({ cls := "ChangeDesk", name := "coins", desc := "(III)V" } : Jvm.MethodName)) ∈ lw_all := lw_g (lw_at lw_m0 28 rfl) rfl
theorem q34 : (Jvm.Cond.selects "ChangeDesk" ({ cls := "ChangeDesk", name := "coins", desc := "(III)V" } : Jvm.MethodName) ({ cls := "ChangeDesk", name := "coins", desc := "(III)V" } : Jvm.MethodName)) ∈ lw_all := lw_g (lw_at lw_m0 29 rfl) rfl
theorem q35 : (Jvm.Cond.code ({ cls := "ChangeDesk", name := "coins", desc := "(III)V" } : Jvm.MethodName) prog_1_method_2_code (4 : Nat) (Option.none : Option Jvm.ClassFile.FieldType)) ∈ lw_all := lw_g (lw_at lw_m0 30 rfl) rfl
theorem q37 : (Jvm.Cond.instanceMethod ({ cls := "ChangeDesk", name := "greatest", desc := "()I" } : Jvm.MethodName)) ∈ lw_all := lw_g (lw_at lw_m0 32 rfl) rfl
theorem q38 : (Jvm.Cond.selects "ChangeDesk" ({ cls := "ChangeDesk", name := "greatest", desc := "()I" } : Jvm.MethodName) ({ cls := "ChangeDesk", name := "greatest", desc := "()I" } : Jvm.MethodName)) ∈ lw_all := lw_g (lw_at lw_m0 33 rfl) rfl
theorem q39 : (Jvm.Cond.code ({ cls := "ChangeDesk", name := "greatest", desc := "()I" } : Jvm.MethodName) prog_1_method_6_code (3 : Nat) (Option.some Jvm.ClassFile.FieldType.int)) ∈ lw_all := lw_g (lw_at lw_m0 34 rfl) rfl
theorem q40 : (Jvm.Cond.methodLink "ChangeDesk" (36 : Nat) ({ cls := "ChangeDesk", name := "common", desc := "(II)I" } : Jvm.MethodName)) ∈ lw_all := lw_g (lw_at lw_m0 35 rfl) rfl
theorem q41 : (Jvm.Cond.static ({ cls := "ChangeDesk", name := "common", desc := "(II)I" } : Jvm.MethodName)) ∈ lw_all := lw_g (lw_at lw_m0 36 rfl) rfl
theorem q42 : (Jvm.Cond.code ({ cls := "ChangeDesk", name := "common", desc := "(II)I" } : Jvm.MethodName) prog_1_method_3_code (5 : Nat) (Option.some Jvm.ClassFile.FieldType.int)) ∈ lw_all := lw_g (lw_at lw_m0 37 rfl) rfl
theorem q43 : (Jvm.Cond.methodLink "ChangeDesk" (45 : Nat) ({ cls := "ChangeDesk", name := "reckon", desc := "()V" } : Jvm.MethodName)) ∈ lw_all := lw_g (lw_at lw_m0 38 rfl) rfl
theorem q44 : (Jvm.Cond.privateMethod ({ cls := "ChangeDesk", name := "reckon", desc := "()V" } : Jvm.MethodName)) ∈ lw_tbl := lw_at lw_m0 39 rfl
theorem q45 : (Jvm.Cond.instanceMethod ({ cls := "ChangeDesk", name := "reckon", desc := "()V" } : Jvm.MethodName)) ∈ lw_all := lw_g (lw_at lw_m0 40 rfl) rfl
theorem q46 : (Jvm.Cond.code ({ cls := "ChangeDesk", name := "reckon", desc := "()V" } : Jvm.MethodName) prog_1_method_4_code (1 : Nat) (Option.none : Option Jvm.ClassFile.FieldType)) ∈ lw_all := lw_g (lw_at lw_m0 41 rfl) rfl
theorem q47 : (Jvm.Cond.constant "ChangeDesk" (25 : Nat) (2147483647 : Int32)) ∈ lw_all := lw_g (lw_at lw_m0 42 rfl) rfl
theorem q48 : (Jvm.Cond.methodLink "ChangeDesk" (26 : Nat) ({ cls := "java/util/Arrays", name := "fill", desc := "([II)V" } : Jvm.MethodName)) ∈ lw_all := lw_g (lw_at lw_m0 43 rfl) rfl
theorem q51 : (Jvm.Cond.methodLink "ChangeDesk" (32 : Nat) ({ cls := "ChangeDesk", name := "turn", desc := "(I)V" } : Jvm.MethodName)) ∈ lw_all := lw_g (lw_at lw_m0 46 rfl) rfl
theorem q52 : (Jvm.Cond.privateMethod ({ cls := "ChangeDesk", name := "turn", desc := "(I)V" } : Jvm.MethodName)) ∈ lw_tbl := lw_at lw_m0 47 rfl
theorem q53 : (Jvm.Cond.instanceMethod ({ cls := "ChangeDesk", name := "turn", desc := "(I)V" } : Jvm.MethodName)) ∈ lw_all := lw_g (lw_at lw_m0 48 rfl) rfl
theorem q54 : (Jvm.Cond.code ({ cls := "ChangeDesk", name := "turn", desc := "(I)V" } : Jvm.MethodName) prog_1_method_5_code (8 : Nat) (Option.none : Option Jvm.ClassFile.FieldType)) ∈ lw_all := lw_g (lw_at lw_m0 49 rfl) rfl
theorem q55 : (Jvm.Cond.methodLink "ChangeDesk" (40 : Nat) ({ cls := "java/lang/Math", name := "min", desc := "(II)I" } : Jvm.MethodName)) ∈ lw_all := lw_g (lw_at lw_m0 50 rfl) rfl
theorem q58 : (Jvm.Cond.methodLink "ChangeDesk" (48 : Nat) ({ cls := "java/lang/Math", name := "max", desc := "(II)I" } : Jvm.MethodName)) ∈ lw_all := lw_g (lw_at lw_m0 53 rfl) rfl
theorem q62 : (Jvm.Cond.instanceMethod ({ cls := "ChangeDesk", name := "gaps", desc := "()I" } : Jvm.MethodName)) ∈ lw_all := lw_g (lw_at lw_m0 57 rfl) rfl
theorem q63 : (Jvm.Cond.selects "ChangeDesk" ({ cls := "ChangeDesk", name := "gaps", desc := "()I" } : Jvm.MethodName) ({ cls := "ChangeDesk", name := "gaps", desc := "()I" } : Jvm.MethodName)) ∈ lw_all := lw_g (lw_at lw_m0 58 rfl) rfl
theorem q64 : (Jvm.Cond.code ({ cls := "ChangeDesk", name := "gaps", desc := "()I" } : Jvm.MethodName) prog_1_method_7_code (3 : Nat) (Option.some Jvm.ClassFile.FieldType.int)) ∈ lw_all := lw_g (lw_at lw_m0 59 rfl) rfl
theorem q66 : (Jvm.Cond.instanceMethod ({ cls := "ChangeDesk", name := "few", desc := "(I)I" } : Jvm.MethodName)) ∈ lw_all := lw_g (lw_at lw_m0 61 rfl) rfl
theorem q67 : (Jvm.Cond.selects "ChangeDesk" ({ cls := "ChangeDesk", name := "few", desc := "(I)I" } : Jvm.MethodName) ({ cls := "ChangeDesk", name := "few", desc := "(I)I" } : Jvm.MethodName)) ∈ lw_all := lw_g (lw_at lw_m0 62 rfl) rfl
theorem q68 : (Jvm.Cond.code ({ cls := "ChangeDesk", name := "few", desc := "(I)I" } : Jvm.MethodName) prog_1_method_8_code (11 : Nat) (Option.some Jvm.ClassFile.FieldType.int)) ∈ lw_all := lw_g (lw_at lw_m0 63 rfl) rfl
theorem q70 : (Jvm.Cond.instanceMethod ({ cls := "ChangeDesk", name := "two", desc := "(I)Z" } : Jvm.MethodName)) ∈ lw_all := lw_g (lw_at lw_m0 65 rfl) rfl
theorem q71 : (Jvm.Cond.selects "ChangeDesk" ({ cls := "ChangeDesk", name := "two", desc := "(I)Z" } : Jvm.MethodName) ({ cls := "ChangeDesk", name := "two", desc := "(I)Z" } : Jvm.MethodName)) ∈ lw_all := lw_g (lw_at lw_m0 66 rfl) rfl
theorem q72 : (Jvm.Cond.code ({ cls := "ChangeDesk", name := "two", desc := "(I)Z" } : Jvm.MethodName) prog_1_method_10_code (2 : Nat) (Option.some Jvm.ClassFile.FieldType.boolean)) ∈ lw_all := lw_g (lw_at lw_m0 67 rfl) rfl
theorem q73 : (Jvm.Cond.methodLink "ChangeDesk" (51 : Nat) ({ cls := "ChangeDesk", name := "first", desc := "(I)I" } : Jvm.MethodName)) ∈ lw_all := lw_g (lw_at lw_m0 68 rfl) rfl
theorem q74 : (Jvm.Cond.privateMethod ({ cls := "ChangeDesk", name := "first", desc := "(I)I" } : Jvm.MethodName)) ∈ lw_tbl := lw_at lw_m0 69 rfl
theorem q75 : (Jvm.Cond.instanceMethod ({ cls := "ChangeDesk", name := "first", desc := "(I)I" } : Jvm.MethodName)) ∈ lw_all := lw_g (lw_at lw_m0 70 rfl) rfl
theorem q76 : (Jvm.Cond.code ({ cls := "ChangeDesk", name := "first", desc := "(I)I" } : Jvm.MethodName) prog_1_method_9_code (3 : Nat) (Option.some Jvm.ClassFile.FieldType.int)) ∈ lw_all := lw_g (lw_at lw_m0 71 rfl) rfl
theorem q78 : (Jvm.Cond.instanceMethod ({ cls := "ChangeDesk", name := "ways", desc := "(I)I" } : Jvm.MethodName)) ∈ lw_all := lw_g (lw_at lw_m0 73 rfl) rfl
theorem q79 : (Jvm.Cond.selects "ChangeDesk" ({ cls := "ChangeDesk", name := "ways", desc := "(I)I" } : Jvm.MethodName) ({ cls := "ChangeDesk", name := "ways", desc := "(I)I" } : Jvm.MethodName)) ∈ lw_all := lw_g (lw_at lw_m0 74 rfl) rfl
theorem q80 : (Jvm.Cond.code ({ cls := "ChangeDesk", name := "ways", desc := "(I)I" } : Jvm.MethodName) prog_1_method_11_code (4 : Nat) (Option.some Jvm.ClassFile.FieldType.int)) ∈ lw_all := lw_g (lw_at lw_m0 75 rfl) rfl
theorem q82 : (Jvm.Cond.instanceMethod ({ cls := "ChangeDesk", name := "greatestTwo", desc := "()I" } : Jvm.MethodName)) ∈ lw_all := lw_g (lw_at lw_m0 77 rfl) rfl
theorem q83 : (Jvm.Cond.selects "ChangeDesk" ({ cls := "ChangeDesk", name := "greatestTwo", desc := "()I" } : Jvm.MethodName) ({ cls := "ChangeDesk", name := "greatestTwo", desc := "()I" } : Jvm.MethodName)) ∈ lw_all := lw_g (lw_at lw_m0 78 rfl) rfl
theorem q84 : (Jvm.Cond.code ({ cls := "ChangeDesk", name := "greatestTwo", desc := "()I" } : Jvm.MethodName) prog_1_method_12_code (1 : Nat) (Option.some Jvm.ClassFile.FieldType.int)) ∈ lw_all := lw_g (lw_at lw_m0 79 rfl) rfl
theorem q86 : (Jvm.Cond.instanceMethod ({ cls := "ChangeDesk", name := "gapsTwo", desc := "()I" } : Jvm.MethodName)) ∈ lw_all := lw_g (lw_at lw_m0 81 rfl) rfl
theorem q87 : (Jvm.Cond.selects "ChangeDesk" ({ cls := "ChangeDesk", name := "gapsTwo", desc := "()I" } : Jvm.MethodName) ({ cls := "ChangeDesk", name := "gapsTwo", desc := "()I" } : Jvm.MethodName)) ∈ lw_all := lw_g (lw_at lw_m0 82 rfl) rfl
theorem q88 : (Jvm.Cond.code ({ cls := "ChangeDesk", name := "gapsTwo", desc := "()I" } : Jvm.MethodName) prog_1_method_13_code (1 : Nat) (Option.some Jvm.ClassFile.FieldType.int)) ∈ lw_all := lw_g (lw_at lw_m0 83 rfl) rfl
theorem in_X0 : ∀ w ∈ wsX00, w ∈ lw_all := lw_in wsX00 [22, 24, 26, 28] (by decide +kernel) (by decide +kernel)
end
section
set_option maxRecDepth 100000
/-! ChangeDeskModel -/
def RX1 : String := "ChangeDeskModel"
def TX1 : u_T := fun k => match k with
  | 0 => ("ChangeDeskModel", "a", "I", false)
  | 1 => ("ChangeDeskModel", "b", "I", false)
  | 2 => ("ChangeDeskModel", "c", "I", false)
  | 3 => ("ChangeDeskModel", "few", "[I", true)
  | _ => ("ChangeDeskModel", "known", "Z", false)
def tyX1 : Nat → FieldType := fun k => match k with
  | 0 => .int
  | 1 => .int
  | 2 => .int
  | 3 => .array .int
  | _ => .boolean
abbrev wsX10 : List Cond := u_ws RX1 TX1 5
theorem nmX1 : ∀ a, a < 5 → ∀ b, b < 5 → a ≠ b → (TX1 a).2.1 ≠ (TX1 b).2.1 := by decide +kernel
theorem tyX1_ok : ∀ k, k < 5 → parseFieldDescriptor (TX1 k).2.2.1 = some (tyX1 k) := by decide +kernel
abbrev cX1_init : ByteArray := prog_3_method_1_code
def yX1_init : MethodName := ⟨RX1, "<init>", "()V"⟩
theorem dX1_init_0 : decode cX1_init 0 = .ok (.aload_n 0, 1) := by decide +kernel
theorem dX1_init_1 : decode cX1_init 1 = .ok (.invokespecial 1, 3) := by decide +kernel
theorem dX1_init_4 : decode cX1_init 4 = .ok (.aload_n 0, 1) := by decide +kernel
theorem dX1_init_5 : decode cX1_init 5 = .ok (.iconst 3, 1) := by decide +kernel
theorem dX1_init_6 : decode cX1_init 6 = .ok (.putfield 7, 3) := by decide +kernel
theorem dX1_init_9 : decode cX1_init 9 = .ok (.aload_n 0, 1) := by decide +kernel
theorem dX1_init_10 : decode cX1_init 10 = .ok (.iconst 5, 1) := by decide +kernel
theorem dX1_init_11 : decode cX1_init 11 = .ok (.putfield 13, 3) := by decide +kernel
theorem dX1_init_14 : decode cX1_init 14 = .ok (.aload_n 0, 1) := by decide +kernel
theorem dX1_init_15 : decode cX1_init 15 = .ok (.bipush 7, 2) := by decide +kernel
theorem dX1_init_17 : decode cX1_init 17 = .ok (.putfield 16, 3) := by decide +kernel
theorem dX1_init_20 : decode cX1_init 20 = .ok (.aload_n 0, 1) := by decide +kernel
theorem dX1_init_21 : decode cX1_init 21 = .ok (.sipush 2001, 3) := by decide +kernel
theorem dX1_init_24 : decode cX1_init 24 = .ok (.newarray .int, 2) := by decide +kernel
theorem dX1_init_26 : decode cX1_init 26 = .ok (.putfield 19, 3) := by decide +kernel
theorem dX1_init_29 : decode cX1_init 29 = .ok (.return_, 1) := by decide +kernel
abbrev cX1_coins : ByteArray := prog_3_method_2_code
def yX1_coins : MethodName := ⟨RX1, "coins", "(III)V"⟩
theorem dX1_coins_0 : decode cX1_coins 0 = .ok (.aload_n 0, 1) := by decide +kernel
theorem dX1_coins_1 : decode cX1_coins 1 = .ok (.iconst 1, 1) := by decide +kernel
theorem dX1_coins_2 : decode cX1_coins 2 = .ok (.iload_n 1, 1) := by decide +kernel
theorem dX1_coins_3 : decode cX1_coins 3 = .ok (.bipush 31, 2) := by decide +kernel
theorem dX1_coins_5 : decode cX1_coins 5 = .ok (.iand, 1) := by decide +kernel
theorem dX1_coins_6 : decode cX1_coins 6 = .ok (.iadd, 1) := by decide +kernel
theorem dX1_coins_7 : decode cX1_coins 7 = .ok (.putfield 7, 3) := by decide +kernel
theorem dX1_coins_10 : decode cX1_coins 10 = .ok (.aload_n 0, 1) := by decide +kernel
theorem dX1_coins_11 : decode cX1_coins 11 = .ok (.iconst 1, 1) := by decide +kernel
theorem dX1_coins_12 : decode cX1_coins 12 = .ok (.iload_n 2, 1) := by decide +kernel
theorem dX1_coins_13 : decode cX1_coins 13 = .ok (.bipush 31, 2) := by decide +kernel
theorem dX1_coins_15 : decode cX1_coins 15 = .ok (.iand, 1) := by decide +kernel
theorem dX1_coins_16 : decode cX1_coins 16 = .ok (.iadd, 1) := by decide +kernel
theorem dX1_coins_17 : decode cX1_coins 17 = .ok (.putfield 13, 3) := by decide +kernel
theorem dX1_coins_20 : decode cX1_coins 20 = .ok (.aload_n 0, 1) := by decide +kernel
theorem dX1_coins_21 : decode cX1_coins 21 = .ok (.iconst 1, 1) := by decide +kernel
theorem dX1_coins_22 : decode cX1_coins 22 = .ok (.iload_n 3, 1) := by decide +kernel
theorem dX1_coins_23 : decode cX1_coins 23 = .ok (.bipush 31, 2) := by decide +kernel
theorem dX1_coins_25 : decode cX1_coins 25 = .ok (.iand, 1) := by decide +kernel
theorem dX1_coins_26 : decode cX1_coins 26 = .ok (.iadd, 1) := by decide +kernel
theorem dX1_coins_27 : decode cX1_coins 27 = .ok (.putfield 16, 3) := by decide +kernel
theorem dX1_coins_30 : decode cX1_coins 30 = .ok (.aload_n 0, 1) := by decide +kernel
theorem dX1_coins_31 : decode cX1_coins 31 = .ok (.iconst 0, 1) := by decide +kernel
theorem dX1_coins_32 : decode cX1_coins 32 = .ok (.putfield 23, 3) := by decide +kernel
theorem dX1_coins_35 : decode cX1_coins 35 = .ok (.return_, 1) := by decide +kernel
abbrev cX1_few : ByteArray := prog_3_method_4_code
def yX1_few : MethodName := ⟨RX1, "few", "(I)I"⟩
theorem dX1_few_0 : decode cX1_few 0 = .ok (.aload_n 0, 1) := by decide +kernel
theorem dX1_few_1 : decode cX1_few 1 = .ok (.invokevirtual 27, 3) := by decide +kernel
theorem dX1_few_4 : decode cX1_few 4 = .ok (.aload_n 0, 1) := by decide +kernel
theorem dX1_few_5 : decode cX1_few 5 = .ok (.getfield 19, 3) := by decide +kernel
theorem dX1_few_8 : decode cX1_few 8 = .ok (.iload_n 1, 1) := by decide +kernel
theorem dX1_few_9 : decode cX1_few 9 = .ok (.sipush 1023, 3) := by decide +kernel
theorem dX1_few_12 : decode cX1_few 12 = .ok (.iand, 1) := by decide +kernel
theorem dX1_few_13 : decode cX1_few 13 = .ok (.iaload, 1) := by decide +kernel
theorem dX1_few_14 : decode cX1_few 14 = .ok (.ireturn, 1) := by decide +kernel
abbrev cX1_reckon : ByteArray := prog_3_method_3_code
def yX1_reckon : MethodName := ⟨RX1, "reckon", "()V"⟩
theorem dX1_reckon_0 : decode cX1_reckon 0 = .ok (.aload_n 0, 1) := by decide +kernel
theorem dX1_reckon_1 : decode cX1_reckon 1 = .ok (.getfield 23, 3) := by decide +kernel
theorem dX1_reckon_4 : decode cX1_reckon 4 = .ok (.ifCond .eq 4, 3) := by decide +kernel
theorem dX1_reckon_7 : decode cX1_reckon 7 = .ok (.return_, 1) := by decide +kernel
theorem dX1_reckon_8 : decode cX1_reckon 8 = .ok (.aload_n 0, 1) := by decide +kernel
theorem dX1_reckon_9 : decode cX1_reckon 9 = .ok (.iconst 1, 1) := by decide +kernel
theorem dX1_reckon_10 : decode cX1_reckon 10 = .ok (.putfield 23, 3) := by decide +kernel
theorem dX1_reckon_13 : decode cX1_reckon 13 = .ok (.aload_n 0, 1) := by decide +kernel
theorem dX1_reckon_14 : decode cX1_reckon 14 = .ok (.getfield 19, 3) := by decide +kernel
theorem dX1_reckon_17 : decode cX1_reckon 17 = .ok (.iconst 0, 1) := by decide +kernel
theorem dX1_reckon_18 : decode cX1_reckon 18 = .ok (.iconst 0, 1) := by decide +kernel
theorem dX1_reckon_19 : decode cX1_reckon 19 = .ok (.iastore, 1) := by decide +kernel
theorem dX1_reckon_20 : decode cX1_reckon 20 = .ok (.iconst 1, 1) := by decide +kernel
theorem dX1_reckon_21 : decode cX1_reckon 21 = .ok (.istore_n 1, 1) := by decide +kernel
theorem dX1_reckon_22 : decode cX1_reckon 22 = .ok (.iload_n 1, 1) := by decide +kernel
theorem dX1_reckon_23 : decode cX1_reckon 23 = .ok (.sipush 2000, 3) := by decide +kernel
theorem dX1_reckon_26 : decode cX1_reckon 26 = .ok (.if_icmp .gt 109, 3) := by decide +kernel
theorem dX1_reckon_29 : decode cX1_reckon 29 = .ok (.iconst (-1), 1) := by decide +kernel
theorem dX1_reckon_30 : decode cX1_reckon 30 = .ok (.istore_n 2, 1) := by decide +kernel
theorem dX1_reckon_31 : decode cX1_reckon 31 = .ok (.iconst 0, 1) := by decide +kernel
theorem dX1_reckon_32 : decode cX1_reckon 32 = .ok (.istore_n 3, 1) := by decide +kernel
theorem dX1_reckon_33 : decode cX1_reckon 33 = .ok (.iload_n 3, 1) := by decide +kernel
theorem dX1_reckon_34 : decode cX1_reckon 34 = .ok (.iconst 3, 1) := by decide +kernel
theorem dX1_reckon_35 : decode cX1_reckon 35 = .ok (.if_icmp .ge 87, 3) := by decide +kernel
theorem dX1_reckon_38 : decode cX1_reckon 38 = .ok (.iload_n 3, 1) := by decide +kernel
theorem dX1_reckon_39 : decode cX1_reckon 39 = .ok (.ifCond .ne 10, 3) := by decide +kernel
theorem dX1_reckon_42 : decode cX1_reckon 42 = .ok (.aload_n 0, 1) := by decide +kernel
theorem dX1_reckon_43 : decode cX1_reckon 43 = .ok (.getfield 7, 3) := by decide +kernel
theorem dX1_reckon_46 : decode cX1_reckon 46 = .ok (.goto 19, 3) := by decide +kernel
theorem dX1_reckon_49 : decode cX1_reckon 49 = .ok (.iload_n 3, 1) := by decide +kernel
theorem dX1_reckon_50 : decode cX1_reckon 50 = .ok (.iconst 1, 1) := by decide +kernel
theorem dX1_reckon_51 : decode cX1_reckon 51 = .ok (.if_icmp .ne 10, 3) := by decide +kernel
theorem dX1_reckon_54 : decode cX1_reckon 54 = .ok (.aload_n 0, 1) := by decide +kernel
theorem dX1_reckon_55 : decode cX1_reckon 55 = .ok (.getfield 13, 3) := by decide +kernel
theorem dX1_reckon_58 : decode cX1_reckon 58 = .ok (.goto 7, 3) := by decide +kernel
theorem dX1_reckon_61 : decode cX1_reckon 61 = .ok (.aload_n 0, 1) := by decide +kernel
theorem dX1_reckon_62 : decode cX1_reckon 62 = .ok (.getfield 16, 3) := by decide +kernel
theorem dX1_reckon_65 : decode cX1_reckon 65 = .ok (.istore 4, 2) := by decide +kernel
theorem dX1_reckon_67 : decode cX1_reckon 67 = .ok (.iload_n 1, 1) := by decide +kernel
theorem dX1_reckon_68 : decode cX1_reckon 68 = .ok (.iload 4, 2) := by decide +kernel
theorem dX1_reckon_70 : decode cX1_reckon 70 = .ok (.if_icmp .lt 46, 3) := by decide +kernel
theorem dX1_reckon_73 : decode cX1_reckon 73 = .ok (.aload_n 0, 1) := by decide +kernel
theorem dX1_reckon_74 : decode cX1_reckon 74 = .ok (.getfield 19, 3) := by decide +kernel
theorem dX1_reckon_77 : decode cX1_reckon 77 = .ok (.iload_n 1, 1) := by decide +kernel
theorem dX1_reckon_78 : decode cX1_reckon 78 = .ok (.iload 4, 2) := by decide +kernel
theorem dX1_reckon_80 : decode cX1_reckon 80 = .ok (.isub, 1) := by decide +kernel
theorem dX1_reckon_81 : decode cX1_reckon 81 = .ok (.iaload, 1) := by decide +kernel
theorem dX1_reckon_82 : decode cX1_reckon 82 = .ok (.ifCond .lt 34, 3) := by decide +kernel
theorem dX1_reckon_85 : decode cX1_reckon 85 = .ok (.iload_n 2, 1) := by decide +kernel
theorem dX1_reckon_86 : decode cX1_reckon 86 = .ok (.ifCond .lt 18, 3) := by decide +kernel
theorem dX1_reckon_89 : decode cX1_reckon 89 = .ok (.aload_n 0, 1) := by decide +kernel
theorem dX1_reckon_90 : decode cX1_reckon 90 = .ok (.getfield 19, 3) := by decide +kernel
theorem dX1_reckon_93 : decode cX1_reckon 93 = .ok (.iload_n 1, 1) := by decide +kernel
theorem dX1_reckon_94 : decode cX1_reckon 94 = .ok (.iload 4, 2) := by decide +kernel
theorem dX1_reckon_96 : decode cX1_reckon 96 = .ok (.isub, 1) := by decide +kernel
theorem dX1_reckon_97 : decode cX1_reckon 97 = .ok (.iaload, 1) := by decide +kernel
theorem dX1_reckon_98 : decode cX1_reckon 98 = .ok (.iconst 1, 1) := by decide +kernel
theorem dX1_reckon_99 : decode cX1_reckon 99 = .ok (.iadd, 1) := by decide +kernel
theorem dX1_reckon_100 : decode cX1_reckon 100 = .ok (.iload_n 2, 1) := by decide +kernel
theorem dX1_reckon_101 : decode cX1_reckon 101 = .ok (.if_icmp .ge 15, 3) := by decide +kernel
theorem dX1_reckon_104 : decode cX1_reckon 104 = .ok (.aload_n 0, 1) := by decide +kernel
theorem dX1_reckon_105 : decode cX1_reckon 105 = .ok (.getfield 19, 3) := by decide +kernel
theorem dX1_reckon_108 : decode cX1_reckon 108 = .ok (.iload_n 1, 1) := by decide +kernel
theorem dX1_reckon_109 : decode cX1_reckon 109 = .ok (.iload 4, 2) := by decide +kernel
theorem dX1_reckon_111 : decode cX1_reckon 111 = .ok (.isub, 1) := by decide +kernel
theorem dX1_reckon_112 : decode cX1_reckon 112 = .ok (.iaload, 1) := by decide +kernel
theorem dX1_reckon_113 : decode cX1_reckon 113 = .ok (.iconst 1, 1) := by decide +kernel
theorem dX1_reckon_114 : decode cX1_reckon 114 = .ok (.iadd, 1) := by decide +kernel
theorem dX1_reckon_115 : decode cX1_reckon 115 = .ok (.istore_n 2, 1) := by decide +kernel
theorem dX1_reckon_116 : decode cX1_reckon 116 = .ok (.iinc 3 1, 3) := by decide +kernel
theorem dX1_reckon_119 : decode cX1_reckon 119 = .ok (.goto (-86), 3) := by decide +kernel
theorem dX1_reckon_122 : decode cX1_reckon 122 = .ok (.aload_n 0, 1) := by decide +kernel
theorem dX1_reckon_123 : decode cX1_reckon 123 = .ok (.getfield 19, 3) := by decide +kernel
theorem dX1_reckon_126 : decode cX1_reckon 126 = .ok (.iload_n 1, 1) := by decide +kernel
theorem dX1_reckon_127 : decode cX1_reckon 127 = .ok (.iload_n 2, 1) := by decide +kernel
theorem dX1_reckon_128 : decode cX1_reckon 128 = .ok (.iastore, 1) := by decide +kernel
theorem dX1_reckon_129 : decode cX1_reckon 129 = .ok (.iinc 1 1, 3) := by decide +kernel
theorem dX1_reckon_132 : decode cX1_reckon 132 = .ok (.goto (-110), 3) := by decide +kernel
theorem dX1_reckon_135 : decode cX1_reckon 135 = .ok (.return_, 1) := by decide +kernel
abbrev cX1_greatest : ByteArray := prog_3_method_6_code
def yX1_greatest : MethodName := ⟨RX1, "greatest", "()I"⟩
theorem dX1_greatest_0 : decode cX1_greatest 0 = .ok (.aload_n 0, 1) := by decide +kernel
theorem dX1_greatest_1 : decode cX1_greatest 1 = .ok (.getfield 7, 3) := by decide +kernel
theorem dX1_greatest_4 : decode cX1_greatest 4 = .ok (.aload_n 0, 1) := by decide +kernel
theorem dX1_greatest_5 : decode cX1_greatest 5 = .ok (.getfield 13, 3) := by decide +kernel
theorem dX1_greatest_8 : decode cX1_greatest 8 = .ok (.invokestatic 30, 3) := by decide +kernel
theorem dX1_greatest_11 : decode cX1_greatest 11 = .ok (.aload_n 0, 1) := by decide +kernel
theorem dX1_greatest_12 : decode cX1_greatest 12 = .ok (.getfield 16, 3) := by decide +kernel
theorem dX1_greatest_15 : decode cX1_greatest 15 = .ok (.invokestatic 30, 3) := by decide +kernel
theorem dX1_greatest_18 : decode cX1_greatest 18 = .ok (.iconst 1, 1) := by decide +kernel
theorem dX1_greatest_19 : decode cX1_greatest 19 = .ok (.if_icmp .eq 6, 3) := by decide +kernel
theorem dX1_greatest_22 : decode cX1_greatest 22 = .ok (.bipush (-2), 2) := by decide +kernel
theorem dX1_greatest_24 : decode cX1_greatest 24 = .ok (.ireturn, 1) := by decide +kernel
theorem dX1_greatest_25 : decode cX1_greatest 25 = .ok (.aload_n 0, 1) := by decide +kernel
theorem dX1_greatest_26 : decode cX1_greatest 26 = .ok (.invokevirtual 27, 3) := by decide +kernel
theorem dX1_greatest_29 : decode cX1_greatest 29 = .ok (.sipush 2000, 3) := by decide +kernel
theorem dX1_greatest_32 : decode cX1_greatest 32 = .ok (.istore_n 1, 1) := by decide +kernel
theorem dX1_greatest_33 : decode cX1_greatest 33 = .ok (.iload_n 1, 1) := by decide +kernel
theorem dX1_greatest_34 : decode cX1_greatest 34 = .ok (.ifCond .le 20, 3) := by decide +kernel
theorem dX1_greatest_37 : decode cX1_greatest 37 = .ok (.aload_n 0, 1) := by decide +kernel
theorem dX1_greatest_38 : decode cX1_greatest 38 = .ok (.getfield 19, 3) := by decide +kernel
theorem dX1_greatest_41 : decode cX1_greatest 41 = .ok (.iload_n 1, 1) := by decide +kernel
theorem dX1_greatest_42 : decode cX1_greatest 42 = .ok (.iaload, 1) := by decide +kernel
theorem dX1_greatest_43 : decode cX1_greatest 43 = .ok (.ifCond .ge 5, 3) := by decide +kernel
theorem dX1_greatest_46 : decode cX1_greatest 46 = .ok (.iload_n 1, 1) := by decide +kernel
theorem dX1_greatest_47 : decode cX1_greatest 47 = .ok (.ireturn, 1) := by decide +kernel
theorem dX1_greatest_48 : decode cX1_greatest 48 = .ok (.iinc 1 (-1), 3) := by decide +kernel
theorem dX1_greatest_51 : decode cX1_greatest 51 = .ok (.goto (-18), 3) := by decide +kernel
theorem dX1_greatest_54 : decode cX1_greatest 54 = .ok (.iconst (-1), 1) := by decide +kernel
theorem dX1_greatest_55 : decode cX1_greatest 55 = .ok (.ireturn, 1) := by decide +kernel
abbrev cX1_divisor : ByteArray := prog_3_method_5_code
def yX1_divisor : MethodName := ⟨RX1, "divisor", "(II)I"⟩
theorem dX1_divisor_0 : decode cX1_divisor 0 = .ok (.iload_n 0, 1) := by decide +kernel
theorem dX1_divisor_1 : decode cX1_divisor 1 = .ok (.istore_n 2, 1) := by decide +kernel
theorem dX1_divisor_2 : decode cX1_divisor 2 = .ok (.iload_n 1, 1) := by decide +kernel
theorem dX1_divisor_3 : decode cX1_divisor 3 = .ok (.istore_n 3, 1) := by decide +kernel
theorem dX1_divisor_4 : decode cX1_divisor 4 = .ok (.iload_n 3, 1) := by decide +kernel
theorem dX1_divisor_5 : decode cX1_divisor 5 = .ok (.ifCond .eq 16, 3) := by decide +kernel
theorem dX1_divisor_8 : decode cX1_divisor 8 = .ok (.iload_n 2, 1) := by decide +kernel
theorem dX1_divisor_9 : decode cX1_divisor 9 = .ok (.iload_n 3, 1) := by decide +kernel
theorem dX1_divisor_10 : decode cX1_divisor 10 = .ok (.irem, 1) := by decide +kernel
theorem dX1_divisor_11 : decode cX1_divisor 11 = .ok (.istore 4, 2) := by decide +kernel
theorem dX1_divisor_13 : decode cX1_divisor 13 = .ok (.iload_n 3, 1) := by decide +kernel
theorem dX1_divisor_14 : decode cX1_divisor 14 = .ok (.istore_n 2, 1) := by decide +kernel
theorem dX1_divisor_15 : decode cX1_divisor 15 = .ok (.iload 4, 2) := by decide +kernel
theorem dX1_divisor_17 : decode cX1_divisor 17 = .ok (.istore_n 3, 1) := by decide +kernel
theorem dX1_divisor_18 : decode cX1_divisor 18 = .ok (.goto (-14), 3) := by decide +kernel
theorem dX1_divisor_21 : decode cX1_divisor 21 = .ok (.iload_n 2, 1) := by decide +kernel
theorem dX1_divisor_22 : decode cX1_divisor 22 = .ok (.ireturn, 1) := by decide +kernel
abbrev cX1_gaps : ByteArray := prog_3_method_7_code
def yX1_gaps : MethodName := ⟨RX1, "gaps", "()I"⟩
theorem dX1_gaps_0 : decode cX1_gaps 0 = .ok (.aload_n 0, 1) := by decide +kernel
theorem dX1_gaps_1 : decode cX1_gaps 1 = .ok (.getfield 7, 3) := by decide +kernel
theorem dX1_gaps_4 : decode cX1_gaps 4 = .ok (.aload_n 0, 1) := by decide +kernel
theorem dX1_gaps_5 : decode cX1_gaps 5 = .ok (.getfield 13, 3) := by decide +kernel
theorem dX1_gaps_8 : decode cX1_gaps 8 = .ok (.invokestatic 30, 3) := by decide +kernel
theorem dX1_gaps_11 : decode cX1_gaps 11 = .ok (.aload_n 0, 1) := by decide +kernel
theorem dX1_gaps_12 : decode cX1_gaps 12 = .ok (.getfield 16, 3) := by decide +kernel
theorem dX1_gaps_15 : decode cX1_gaps 15 = .ok (.invokestatic 30, 3) := by decide +kernel
theorem dX1_gaps_18 : decode cX1_gaps 18 = .ok (.iconst 1, 1) := by decide +kernel
theorem dX1_gaps_19 : decode cX1_gaps 19 = .ok (.if_icmp .eq 6, 3) := by decide +kernel
theorem dX1_gaps_22 : decode cX1_gaps 22 = .ok (.bipush (-2), 2) := by decide +kernel
theorem dX1_gaps_24 : decode cX1_gaps 24 = .ok (.ireturn, 1) := by decide +kernel
theorem dX1_gaps_25 : decode cX1_gaps 25 = .ok (.aload_n 0, 1) := by decide +kernel
theorem dX1_gaps_26 : decode cX1_gaps 26 = .ok (.invokevirtual 27, 3) := by decide +kernel
theorem dX1_gaps_29 : decode cX1_gaps 29 = .ok (.iconst 0, 1) := by decide +kernel
theorem dX1_gaps_30 : decode cX1_gaps 30 = .ok (.istore_n 1, 1) := by decide +kernel
theorem dX1_gaps_31 : decode cX1_gaps 31 = .ok (.iconst 0, 1) := by decide +kernel
theorem dX1_gaps_32 : decode cX1_gaps 32 = .ok (.istore_n 2, 1) := by decide +kernel
theorem dX1_gaps_33 : decode cX1_gaps 33 = .ok (.iload_n 2, 1) := by decide +kernel
theorem dX1_gaps_34 : decode cX1_gaps 34 = .ok (.sipush 2000, 3) := by decide +kernel
theorem dX1_gaps_37 : decode cX1_gaps 37 = .ok (.if_icmp .gt 22, 3) := by decide +kernel
theorem dX1_gaps_40 : decode cX1_gaps 40 = .ok (.aload_n 0, 1) := by decide +kernel
theorem dX1_gaps_41 : decode cX1_gaps 41 = .ok (.getfield 19, 3) := by decide +kernel
theorem dX1_gaps_44 : decode cX1_gaps 44 = .ok (.iload_n 2, 1) := by decide +kernel
theorem dX1_gaps_45 : decode cX1_gaps 45 = .ok (.iaload, 1) := by decide +kernel
theorem dX1_gaps_46 : decode cX1_gaps 46 = .ok (.ifCond .ge 7, 3) := by decide +kernel
theorem dX1_gaps_49 : decode cX1_gaps 49 = .ok (.iload_n 1, 1) := by decide +kernel
theorem dX1_gaps_50 : decode cX1_gaps 50 = .ok (.iconst 1, 1) := by decide +kernel
theorem dX1_gaps_51 : decode cX1_gaps 51 = .ok (.iadd, 1) := by decide +kernel
theorem dX1_gaps_52 : decode cX1_gaps 52 = .ok (.istore_n 1, 1) := by decide +kernel
theorem dX1_gaps_53 : decode cX1_gaps 53 = .ok (.iinc 2 1, 3) := by decide +kernel
theorem dX1_gaps_56 : decode cX1_gaps 56 = .ok (.goto (-23), 3) := by decide +kernel
theorem dX1_gaps_59 : decode cX1_gaps 59 = .ok (.iload_n 1, 1) := by decide +kernel
theorem dX1_gaps_60 : decode cX1_gaps 60 = .ok (.ireturn, 1) := by decide +kernel
abbrev cX1_two : ByteArray := prog_3_method_8_code
def yX1_two : MethodName := ⟨RX1, "two", "(I)Z"⟩
theorem dX1_two_0 : decode cX1_two 0 = .ok (.iload_n 1, 1) := by decide +kernel
theorem dX1_two_1 : decode cX1_two 1 = .ok (.sipush 1023, 3) := by decide +kernel
theorem dX1_two_4 : decode cX1_two 4 = .ok (.iand, 1) := by decide +kernel
theorem dX1_two_5 : decode cX1_two 5 = .ok (.istore_n 2, 1) := by decide +kernel
theorem dX1_two_6 : decode cX1_two 6 = .ok (.iconst 0, 1) := by decide +kernel
theorem dX1_two_7 : decode cX1_two 7 = .ok (.istore_n 3, 1) := by decide +kernel
theorem dX1_two_8 : decode cX1_two 8 = .ok (.iload_n 3, 1) := by decide +kernel
theorem dX1_two_9 : decode cX1_two 9 = .ok (.aload_n 0, 1) := by decide +kernel
theorem dX1_two_10 : decode cX1_two 10 = .ok (.getfield 7, 3) := by decide +kernel
theorem dX1_two_13 : decode cX1_two 13 = .ok (.imul, 1) := by decide +kernel
theorem dX1_two_14 : decode cX1_two 14 = .ok (.iload_n 2, 1) := by decide +kernel
theorem dX1_two_15 : decode cX1_two 15 = .ok (.if_icmp .gt 27, 3) := by decide +kernel
theorem dX1_two_18 : decode cX1_two 18 = .ok (.iload_n 2, 1) := by decide +kernel
theorem dX1_two_19 : decode cX1_two 19 = .ok (.iload_n 3, 1) := by decide +kernel
theorem dX1_two_20 : decode cX1_two 20 = .ok (.aload_n 0, 1) := by decide +kernel
theorem dX1_two_21 : decode cX1_two 21 = .ok (.getfield 7, 3) := by decide +kernel
theorem dX1_two_24 : decode cX1_two 24 = .ok (.imul, 1) := by decide +kernel
theorem dX1_two_25 : decode cX1_two 25 = .ok (.isub, 1) := by decide +kernel
theorem dX1_two_26 : decode cX1_two 26 = .ok (.aload_n 0, 1) := by decide +kernel
theorem dX1_two_27 : decode cX1_two 27 = .ok (.getfield 13, 3) := by decide +kernel
theorem dX1_two_30 : decode cX1_two 30 = .ok (.irem, 1) := by decide +kernel
theorem dX1_two_31 : decode cX1_two 31 = .ok (.ifCond .ne 5, 3) := by decide +kernel
theorem dX1_two_34 : decode cX1_two 34 = .ok (.iconst 1, 1) := by decide +kernel
theorem dX1_two_35 : decode cX1_two 35 = .ok (.ireturn, 1) := by decide +kernel
theorem dX1_two_36 : decode cX1_two 36 = .ok (.iinc 3 1, 3) := by decide +kernel
theorem dX1_two_39 : decode cX1_two 39 = .ok (.goto (-31), 3) := by decide +kernel
theorem dX1_two_42 : decode cX1_two 42 = .ok (.iconst 0, 1) := by decide +kernel
theorem dX1_two_43 : decode cX1_two 43 = .ok (.ireturn, 1) := by decide +kernel
abbrev cX1_ways : ByteArray := prog_3_method_9_code
def yX1_ways : MethodName := ⟨RX1, "ways", "(I)I"⟩
theorem dX1_ways_0 : decode cX1_ways 0 = .ok (.iload_n 1, 1) := by decide +kernel
theorem dX1_ways_1 : decode cX1_ways 1 = .ok (.sipush 1023, 3) := by decide +kernel
theorem dX1_ways_4 : decode cX1_ways 4 = .ok (.iand, 1) := by decide +kernel
theorem dX1_ways_5 : decode cX1_ways 5 = .ok (.istore_n 2, 1) := by decide +kernel
theorem dX1_ways_6 : decode cX1_ways 6 = .ok (.iconst 0, 1) := by decide +kernel
theorem dX1_ways_7 : decode cX1_ways 7 = .ok (.istore_n 3, 1) := by decide +kernel
theorem dX1_ways_8 : decode cX1_ways 8 = .ok (.iconst 0, 1) := by decide +kernel
theorem dX1_ways_9 : decode cX1_ways 9 = .ok (.istore 4, 2) := by decide +kernel
theorem dX1_ways_11 : decode cX1_ways 11 = .ok (.iload 4, 2) := by decide +kernel
theorem dX1_ways_13 : decode cX1_ways 13 = .ok (.aload_n 0, 1) := by decide +kernel
theorem dX1_ways_14 : decode cX1_ways 14 = .ok (.getfield 7, 3) := by decide +kernel
theorem dX1_ways_17 : decode cX1_ways 17 = .ok (.imul, 1) := by decide +kernel
theorem dX1_ways_18 : decode cX1_ways 18 = .ok (.iload_n 2, 1) := by decide +kernel
theorem dX1_ways_19 : decode cX1_ways 19 = .ok (.if_icmp .gt 30, 3) := by decide +kernel
theorem dX1_ways_22 : decode cX1_ways 22 = .ok (.iload_n 2, 1) := by decide +kernel
theorem dX1_ways_23 : decode cX1_ways 23 = .ok (.iload 4, 2) := by decide +kernel
theorem dX1_ways_25 : decode cX1_ways 25 = .ok (.aload_n 0, 1) := by decide +kernel
theorem dX1_ways_26 : decode cX1_ways 26 = .ok (.getfield 7, 3) := by decide +kernel
theorem dX1_ways_29 : decode cX1_ways 29 = .ok (.imul, 1) := by decide +kernel
theorem dX1_ways_30 : decode cX1_ways 30 = .ok (.isub, 1) := by decide +kernel
theorem dX1_ways_31 : decode cX1_ways 31 = .ok (.aload_n 0, 1) := by decide +kernel
theorem dX1_ways_32 : decode cX1_ways 32 = .ok (.getfield 13, 3) := by decide +kernel
theorem dX1_ways_35 : decode cX1_ways 35 = .ok (.irem, 1) := by decide +kernel
theorem dX1_ways_36 : decode cX1_ways 36 = .ok (.ifCond .ne 7, 3) := by decide +kernel
theorem dX1_ways_39 : decode cX1_ways 39 = .ok (.iload_n 3, 1) := by decide +kernel
theorem dX1_ways_40 : decode cX1_ways 40 = .ok (.iconst 1, 1) := by decide +kernel
theorem dX1_ways_41 : decode cX1_ways 41 = .ok (.iadd, 1) := by decide +kernel
theorem dX1_ways_42 : decode cX1_ways 42 = .ok (.istore_n 3, 1) := by decide +kernel
theorem dX1_ways_43 : decode cX1_ways 43 = .ok (.iinc 4 1, 3) := by decide +kernel
theorem dX1_ways_46 : decode cX1_ways 46 = .ok (.goto (-35), 3) := by decide +kernel
theorem dX1_ways_49 : decode cX1_ways 49 = .ok (.iload_n 3, 1) := by decide +kernel
theorem dX1_ways_50 : decode cX1_ways 50 = .ok (.ireturn, 1) := by decide +kernel
abbrev cX1_greatestTwo : ByteArray := prog_3_method_10_code
def yX1_greatestTwo : MethodName := ⟨RX1, "greatestTwo", "()I"⟩
theorem dX1_greatestTwo_0 : decode cX1_greatestTwo 0 = .ok (.aload_n 0, 1) := by decide +kernel
theorem dX1_greatestTwo_1 : decode cX1_greatestTwo 1 = .ok (.getfield 7, 3) := by decide +kernel
theorem dX1_greatestTwo_4 : decode cX1_greatestTwo 4 = .ok (.aload_n 0, 1) := by decide +kernel
theorem dX1_greatestTwo_5 : decode cX1_greatestTwo 5 = .ok (.getfield 13, 3) := by decide +kernel
theorem dX1_greatestTwo_8 : decode cX1_greatestTwo 8 = .ok (.invokestatic 30, 3) := by decide +kernel
theorem dX1_greatestTwo_11 : decode cX1_greatestTwo 11 = .ok (.iconst 1, 1) := by decide +kernel
theorem dX1_greatestTwo_12 : decode cX1_greatestTwo 12 = .ok (.if_icmp .eq 6, 3) := by decide +kernel
theorem dX1_greatestTwo_15 : decode cX1_greatestTwo 15 = .ok (.bipush (-2), 2) := by decide +kernel
theorem dX1_greatestTwo_17 : decode cX1_greatestTwo 17 = .ok (.ireturn, 1) := by decide +kernel
theorem dX1_greatestTwo_18 : decode cX1_greatestTwo 18 = .ok (.aload_n 0, 1) := by decide +kernel
theorem dX1_greatestTwo_19 : decode cX1_greatestTwo 19 = .ok (.getfield 7, 3) := by decide +kernel
theorem dX1_greatestTwo_22 : decode cX1_greatestTwo 22 = .ok (.aload_n 0, 1) := by decide +kernel
theorem dX1_greatestTwo_23 : decode cX1_greatestTwo 23 = .ok (.getfield 13, 3) := by decide +kernel
theorem dX1_greatestTwo_26 : decode cX1_greatestTwo 26 = .ok (.imul, 1) := by decide +kernel
theorem dX1_greatestTwo_27 : decode cX1_greatestTwo 27 = .ok (.istore_n 1, 1) := by decide +kernel
theorem dX1_greatestTwo_28 : decode cX1_greatestTwo 28 = .ok (.iload_n 1, 1) := by decide +kernel
theorem dX1_greatestTwo_29 : decode cX1_greatestTwo 29 = .ok (.ifCond .le 19, 3) := by decide +kernel
theorem dX1_greatestTwo_32 : decode cX1_greatestTwo 32 = .ok (.aload_n 0, 1) := by decide +kernel
theorem dX1_greatestTwo_33 : decode cX1_greatestTwo 33 = .ok (.iload_n 1, 1) := by decide +kernel
theorem dX1_greatestTwo_34 : decode cX1_greatestTwo 34 = .ok (.invokevirtual 34, 3) := by decide +kernel
theorem dX1_greatestTwo_37 : decode cX1_greatestTwo 37 = .ok (.ifCond .ne 5, 3) := by decide +kernel
theorem dX1_greatestTwo_40 : decode cX1_greatestTwo 40 = .ok (.iload_n 1, 1) := by decide +kernel
theorem dX1_greatestTwo_41 : decode cX1_greatestTwo 41 = .ok (.ireturn, 1) := by decide +kernel
theorem dX1_greatestTwo_42 : decode cX1_greatestTwo 42 = .ok (.iinc 1 (-1), 3) := by decide +kernel
theorem dX1_greatestTwo_45 : decode cX1_greatestTwo 45 = .ok (.goto (-17), 3) := by decide +kernel
theorem dX1_greatestTwo_48 : decode cX1_greatestTwo 48 = .ok (.iconst (-1), 1) := by decide +kernel
theorem dX1_greatestTwo_49 : decode cX1_greatestTwo 49 = .ok (.ireturn, 1) := by decide +kernel
abbrev cX1_pays : ByteArray := prog_3_method_11_code
def yX1_pays : MethodName := ⟨RX1, "pays", "(I)Z"⟩
theorem dX1_pays_0 : decode cX1_pays 0 = .ok (.iconst 0, 1) := by decide +kernel
theorem dX1_pays_1 : decode cX1_pays 1 = .ok (.istore_n 2, 1) := by decide +kernel
theorem dX1_pays_2 : decode cX1_pays 2 = .ok (.iload_n 2, 1) := by decide +kernel
theorem dX1_pays_3 : decode cX1_pays 3 = .ok (.aload_n 0, 1) := by decide +kernel
theorem dX1_pays_4 : decode cX1_pays 4 = .ok (.getfield 7, 3) := by decide +kernel
theorem dX1_pays_7 : decode cX1_pays 7 = .ok (.imul, 1) := by decide +kernel
theorem dX1_pays_8 : decode cX1_pays 8 = .ok (.iload_n 1, 1) := by decide +kernel
theorem dX1_pays_9 : decode cX1_pays 9 = .ok (.if_icmp .gt 27, 3) := by decide +kernel
theorem dX1_pays_12 : decode cX1_pays 12 = .ok (.iload_n 1, 1) := by decide +kernel
theorem dX1_pays_13 : decode cX1_pays 13 = .ok (.iload_n 2, 1) := by decide +kernel
theorem dX1_pays_14 : decode cX1_pays 14 = .ok (.aload_n 0, 1) := by decide +kernel
theorem dX1_pays_15 : decode cX1_pays 15 = .ok (.getfield 7, 3) := by decide +kernel
theorem dX1_pays_18 : decode cX1_pays 18 = .ok (.imul, 1) := by decide +kernel
theorem dX1_pays_19 : decode cX1_pays 19 = .ok (.isub, 1) := by decide +kernel
theorem dX1_pays_20 : decode cX1_pays 20 = .ok (.aload_n 0, 1) := by decide +kernel
theorem dX1_pays_21 : decode cX1_pays 21 = .ok (.getfield 13, 3) := by decide +kernel
theorem dX1_pays_24 : decode cX1_pays 24 = .ok (.irem, 1) := by decide +kernel
theorem dX1_pays_25 : decode cX1_pays 25 = .ok (.ifCond .ne 5, 3) := by decide +kernel
theorem dX1_pays_28 : decode cX1_pays 28 = .ok (.iconst 1, 1) := by decide +kernel
theorem dX1_pays_29 : decode cX1_pays 29 = .ok (.ireturn, 1) := by decide +kernel
theorem dX1_pays_30 : decode cX1_pays 30 = .ok (.iinc 2 1, 3) := by decide +kernel
theorem dX1_pays_33 : decode cX1_pays 33 = .ok (.goto (-31), 3) := by decide +kernel
theorem dX1_pays_36 : decode cX1_pays 36 = .ok (.iconst 0, 1) := by decide +kernel
theorem dX1_pays_37 : decode cX1_pays 37 = .ok (.ireturn, 1) := by decide +kernel
abbrev cX1_gapsTwo : ByteArray := prog_3_method_12_code
def yX1_gapsTwo : MethodName := ⟨RX1, "gapsTwo", "()I"⟩
theorem dX1_gapsTwo_0 : decode cX1_gapsTwo 0 = .ok (.aload_n 0, 1) := by decide +kernel
theorem dX1_gapsTwo_1 : decode cX1_gapsTwo 1 = .ok (.getfield 7, 3) := by decide +kernel
theorem dX1_gapsTwo_4 : decode cX1_gapsTwo 4 = .ok (.aload_n 0, 1) := by decide +kernel
theorem dX1_gapsTwo_5 : decode cX1_gapsTwo 5 = .ok (.getfield 13, 3) := by decide +kernel
theorem dX1_gapsTwo_8 : decode cX1_gapsTwo 8 = .ok (.invokestatic 30, 3) := by decide +kernel
theorem dX1_gapsTwo_11 : decode cX1_gapsTwo 11 = .ok (.iconst 1, 1) := by decide +kernel
theorem dX1_gapsTwo_12 : decode cX1_gapsTwo 12 = .ok (.if_icmp .eq 6, 3) := by decide +kernel
theorem dX1_gapsTwo_15 : decode cX1_gapsTwo 15 = .ok (.bipush (-2), 2) := by decide +kernel
theorem dX1_gapsTwo_17 : decode cX1_gapsTwo 17 = .ok (.ireturn, 1) := by decide +kernel
theorem dX1_gapsTwo_18 : decode cX1_gapsTwo 18 = .ok (.iconst 0, 1) := by decide +kernel
theorem dX1_gapsTwo_19 : decode cX1_gapsTwo 19 = .ok (.istore_n 1, 1) := by decide +kernel
theorem dX1_gapsTwo_20 : decode cX1_gapsTwo 20 = .ok (.iconst 0, 1) := by decide +kernel
theorem dX1_gapsTwo_21 : decode cX1_gapsTwo 21 = .ok (.istore_n 2, 1) := by decide +kernel
theorem dX1_gapsTwo_22 : decode cX1_gapsTwo 22 = .ok (.iload_n 2, 1) := by decide +kernel
theorem dX1_gapsTwo_23 : decode cX1_gapsTwo 23 = .ok (.aload_n 0, 1) := by decide +kernel
theorem dX1_gapsTwo_24 : decode cX1_gapsTwo 24 = .ok (.getfield 7, 3) := by decide +kernel
theorem dX1_gapsTwo_27 : decode cX1_gapsTwo 27 = .ok (.aload_n 0, 1) := by decide +kernel
theorem dX1_gapsTwo_28 : decode cX1_gapsTwo 28 = .ok (.getfield 13, 3) := by decide +kernel
theorem dX1_gapsTwo_31 : decode cX1_gapsTwo 31 = .ok (.imul, 1) := by decide +kernel
theorem dX1_gapsTwo_32 : decode cX1_gapsTwo 32 = .ok (.if_icmp .gt 21, 3) := by decide +kernel
theorem dX1_gapsTwo_35 : decode cX1_gapsTwo 35 = .ok (.aload_n 0, 1) := by decide +kernel
theorem dX1_gapsTwo_36 : decode cX1_gapsTwo 36 = .ok (.iload_n 2, 1) := by decide +kernel
theorem dX1_gapsTwo_37 : decode cX1_gapsTwo 37 = .ok (.invokevirtual 34, 3) := by decide +kernel
theorem dX1_gapsTwo_40 : decode cX1_gapsTwo 40 = .ok (.ifCond .ne 7, 3) := by decide +kernel
theorem dX1_gapsTwo_43 : decode cX1_gapsTwo 43 = .ok (.iload_n 1, 1) := by decide +kernel
theorem dX1_gapsTwo_44 : decode cX1_gapsTwo 44 = .ok (.iconst 1, 1) := by decide +kernel
theorem dX1_gapsTwo_45 : decode cX1_gapsTwo 45 = .ok (.iadd, 1) := by decide +kernel
theorem dX1_gapsTwo_46 : decode cX1_gapsTwo 46 = .ok (.istore_n 1, 1) := by decide +kernel
theorem dX1_gapsTwo_47 : decode cX1_gapsTwo 47 = .ok (.iinc 2 1, 3) := by decide +kernel
theorem dX1_gapsTwo_50 : decode cX1_gapsTwo 50 = .ok (.goto (-28), 3) := by decide +kernel
theorem dX1_gapsTwo_53 : decode cX1_gapsTwo 53 = .ok (.iload_n 1, 1) := by decide +kernel
theorem dX1_gapsTwo_54 : decode cX1_gapsTwo 54 = .ok (.ireturn, 1) := by decide +kernel
theorem q7 : (Jvm.Cond.initialized "ChangeDeskModel") ∈ lw_all := lw_g (lw_at lw_m0 2 rfl) rfl
theorem q90 : (Jvm.Cond.instantiable "ChangeDeskModel" (5 : Nat)) ∈ lw_all := lw_g (lw_at lw_m0 85 rfl) rfl
theorem q92 : (Jvm.Cond.instanceMethod ({ cls := "ChangeDeskModel", name := "<init>", desc := "()V" } : Jvm.MethodName)) ∈ lw_all := lw_g (lw_at lw_m0 87 rfl) rfl
theorem q93 : (Jvm.Cond.code ({ cls := "ChangeDeskModel", name := "<init>", desc := "()V" } : Jvm.MethodName) prog_3_method_1_code (1 : Nat) (Option.none : Option Jvm.ClassFile.FieldType)) ∈ lw_all := lw_g (lw_at lw_m0 88 rfl) rfl
theorem q94 : (Jvm.Cond.methodLink "ChangeDeskModel" (1 : Nat) ({ cls := "java/lang/Object", name := "<init>", desc := "()V" } : Jvm.MethodName)) ∈ lw_all := lw_g (lw_at lw_m0 89 rfl) rfl
theorem q95 : (Jvm.Cond.fieldLink "ChangeDeskModel" (7 : Nat) "ChangeDeskModel" "a" "I") ∈ lw_all := lw_g (lw_at lw_m0 90 rfl) rfl
theorem q96 : (Jvm.Cond.fieldLink "ChangeDeskModel" (13 : Nat) "ChangeDeskModel" "b" "I") ∈ lw_all := lw_g (lw_at lw_m0 91 rfl) rfl
theorem q97 : (Jvm.Cond.fieldLink "ChangeDeskModel" (16 : Nat) "ChangeDeskModel" "c" "I") ∈ lw_all := lw_g (lw_at lw_m0 92 rfl) rfl
theorem q98 : (Jvm.Cond.fieldLink "ChangeDeskModel" (19 : Nat) "ChangeDeskModel" "few" "[I") ∈ lw_all := lw_g (lw_at lw_m0 93 rfl) rfl
theorem q99 : (Jvm.Cond.fieldLink "ChangeDeskModel" (23 : Nat) "ChangeDeskModel" "known" "Z") ∈ lw_all := lw_g (lw_at lw_m0 94 rfl) rfl
theorem q100 : (Jvm.Cond.lays "ChangeDeskModel" "ChangeDeskModel" "a" "I") ∈ lw_all := lw_g (lw_at lw_m0 95 rfl) rfl
theorem q101 : (Jvm.Cond.soleField "ChangeDeskModel" "a") ∈ lw_all := lw_g (lw_at lw_m0 96 rfl) rfl
theorem q102 : (Jvm.Cond.lays "ChangeDeskModel" "ChangeDeskModel" "b" "I") ∈ lw_all := lw_g (lw_at lw_m0 97 rfl) rfl
theorem q103 : (Jvm.Cond.soleField "ChangeDeskModel" "b") ∈ lw_all := lw_g (lw_at lw_m0 98 rfl) rfl
theorem q104 : (Jvm.Cond.lays "ChangeDeskModel" "ChangeDeskModel" "c" "I") ∈ lw_all := lw_g (lw_at lw_m0 99 rfl) rfl
theorem q105 : (Jvm.Cond.soleField "ChangeDeskModel" "c") ∈ lw_all := lw_g (lw_at lw_m0 100 rfl) rfl
theorem q106 : (Jvm.Cond.laysFinal "ChangeDeskModel" "ChangeDeskModel" "few" "[I") ∈ lw_all := lw_g (lw_at lw_m0 101 rfl) rfl
theorem q107 : (Jvm.Cond.soleField "ChangeDeskModel" "few") ∈ lw_all := lw_g (lw_at lw_m0 102 rfl) rfl
theorem q108 : (Jvm.Cond.lays "ChangeDeskModel" "ChangeDeskModel" "known" "Z") ∈ lw_all := lw_g (lw_at lw_m0 103 rfl) rfl
theorem q109 : (Jvm.Cond.soleField "ChangeDeskModel" "known") ∈ lw_all := lw_g (lw_at lw_m0 104 rfl) rfl
theorem q110 : (Jvm.Cond.superclass "ChangeDeskModel" "java/lang/Object") ∈ lw_all := lw_g (lw_at lw_m0 105 rfl) rfl
theorem q112 : (Jvm.Cond.instanceMethod ({ cls := "ChangeDeskModel", name := "coins", desc := "(III)V" } : Jvm.MethodName)) ∈ lw_all := lw_g (lw_at lw_m0 107 rfl) rfl
theorem q113 : (Jvm.Cond.selects "ChangeDeskModel" ({ cls := "ChangeDeskModel", name := "coins", desc := "(III)V" } : Jvm.MethodName) ({ cls := "ChangeDeskModel", name := "coins", desc := "(III)V" } : Jvm.MethodName)) ∈ lw_all := lw_g (lw_at lw_m0 108 rfl) rfl
theorem q114 : (Jvm.Cond.code ({ cls := "ChangeDeskModel", name := "coins", desc := "(III)V" } : Jvm.MethodName) prog_3_method_2_code (4 : Nat) (Option.none : Option Jvm.ClassFile.FieldType)) ∈ lw_all := lw_g (lw_at lw_m0 109 rfl) rfl
theorem q116 : (Jvm.Cond.instanceMethod ({ cls := "ChangeDeskModel", name := "few", desc := "(I)I" } : Jvm.MethodName)) ∈ lw_all := lw_g (lw_at lw_m0 111 rfl) rfl
theorem q117 : (Jvm.Cond.selects "ChangeDeskModel" ({ cls := "ChangeDeskModel", name := "few", desc := "(I)I" } : Jvm.MethodName) ({ cls := "ChangeDeskModel", name := "few", desc := "(I)I" } : Jvm.MethodName)) ∈ lw_all := lw_g (lw_at lw_m0 112 rfl) rfl
theorem q118 : (Jvm.Cond.code ({ cls := "ChangeDeskModel", name := "few", desc := "(I)I" } : Jvm.MethodName) prog_3_method_4_code (2 : Nat) (Option.some Jvm.ClassFile.FieldType.int)) ∈ lw_all := lw_g (lw_at lw_m0 113 rfl) rfl
theorem q119 : (Jvm.Cond.methodLink "ChangeDeskModel" (27 : Nat) ({ cls := "ChangeDeskModel", name := "reckon", desc := "()V" } : Jvm.MethodName)) ∈ lw_all := lw_g (lw_at lw_m0 114 rfl) rfl
theorem q120 : (Jvm.Cond.privateMethod ({ cls := "ChangeDeskModel", name := "reckon", desc := "()V" } : Jvm.MethodName)) ∈ lw_tbl := lw_at lw_m0 115 rfl
theorem q121 : (Jvm.Cond.instanceMethod ({ cls := "ChangeDeskModel", name := "reckon", desc := "()V" } : Jvm.MethodName)) ∈ lw_all := lw_g (lw_at lw_m0 116 rfl) rfl
theorem q122 : (Jvm.Cond.code ({ cls := "ChangeDeskModel", name := "reckon", desc := "()V" } : Jvm.MethodName) prog_3_method_3_code (5 : Nat) (Option.none : Option Jvm.ClassFile.FieldType)) ∈ lw_all := lw_g (lw_at lw_m0 117 rfl) rfl
theorem q124 : (Jvm.Cond.instanceMethod ({ cls := "ChangeDeskModel", name := "greatest", desc := "()I" } : Jvm.MethodName)) ∈ lw_all := lw_g (lw_at lw_m0 119 rfl) rfl
theorem q125 : (Jvm.Cond.selects "ChangeDeskModel" ({ cls := "ChangeDeskModel", name := "greatest", desc := "()I" } : Jvm.MethodName) ({ cls := "ChangeDeskModel", name := "greatest", desc := "()I" } : Jvm.MethodName)) ∈ lw_all := lw_g (lw_at lw_m0 120 rfl) rfl
theorem q126 : (Jvm.Cond.code ({ cls := "ChangeDeskModel", name := "greatest", desc := "()I" } : Jvm.MethodName) prog_3_method_6_code (2 : Nat) (Option.some Jvm.ClassFile.FieldType.int)) ∈ lw_all := lw_g (lw_at lw_m0 121 rfl) rfl
theorem q127 : (Jvm.Cond.methodLink "ChangeDeskModel" (30 : Nat) ({ cls := "ChangeDeskModel", name := "divisor", desc := "(II)I" } : Jvm.MethodName)) ∈ lw_all := lw_g (lw_at lw_m0 122 rfl) rfl
theorem q128 : (Jvm.Cond.static ({ cls := "ChangeDeskModel", name := "divisor", desc := "(II)I" } : Jvm.MethodName)) ∈ lw_all := lw_g (lw_at lw_m0 123 rfl) rfl
theorem q129 : (Jvm.Cond.code ({ cls := "ChangeDeskModel", name := "divisor", desc := "(II)I" } : Jvm.MethodName) prog_3_method_5_code (5 : Nat) (Option.some Jvm.ClassFile.FieldType.int)) ∈ lw_all := lw_g (lw_at lw_m0 124 rfl) rfl
theorem q131 : (Jvm.Cond.instanceMethod ({ cls := "ChangeDeskModel", name := "gaps", desc := "()I" } : Jvm.MethodName)) ∈ lw_all := lw_g (lw_at lw_m0 126 rfl) rfl
theorem q132 : (Jvm.Cond.selects "ChangeDeskModel" ({ cls := "ChangeDeskModel", name := "gaps", desc := "()I" } : Jvm.MethodName) ({ cls := "ChangeDeskModel", name := "gaps", desc := "()I" } : Jvm.MethodName)) ∈ lw_all := lw_g (lw_at lw_m0 127 rfl) rfl
theorem q133 : (Jvm.Cond.code ({ cls := "ChangeDeskModel", name := "gaps", desc := "()I" } : Jvm.MethodName) prog_3_method_7_code (3 : Nat) (Option.some Jvm.ClassFile.FieldType.int)) ∈ lw_all := lw_g (lw_at lw_m0 128 rfl) rfl
theorem q135 : (Jvm.Cond.instanceMethod ({ cls := "ChangeDeskModel", name := "two", desc := "(I)Z" } : Jvm.MethodName)) ∈ lw_all := lw_g (lw_at lw_m0 130 rfl) rfl
theorem q136 : (Jvm.Cond.selects "ChangeDeskModel" ({ cls := "ChangeDeskModel", name := "two", desc := "(I)Z" } : Jvm.MethodName) ({ cls := "ChangeDeskModel", name := "two", desc := "(I)Z" } : Jvm.MethodName)) ∈ lw_all := lw_g (lw_at lw_m0 131 rfl) rfl
theorem q137 : (Jvm.Cond.code ({ cls := "ChangeDeskModel", name := "two", desc := "(I)Z" } : Jvm.MethodName) prog_3_method_8_code (4 : Nat) (Option.some Jvm.ClassFile.FieldType.boolean)) ∈ lw_all := lw_g (lw_at lw_m0 132 rfl) rfl
theorem q139 : (Jvm.Cond.instanceMethod ({ cls := "ChangeDeskModel", name := "ways", desc := "(I)I" } : Jvm.MethodName)) ∈ lw_all := lw_g (lw_at lw_m0 134 rfl) rfl
theorem q140 : (Jvm.Cond.selects "ChangeDeskModel" ({ cls := "ChangeDeskModel", name := "ways", desc := "(I)I" } : Jvm.MethodName) ({ cls := "ChangeDeskModel", name := "ways", desc := "(I)I" } : Jvm.MethodName)) ∈ lw_all := lw_g (lw_at lw_m0 135 rfl) rfl
theorem q141 : (Jvm.Cond.code ({ cls := "ChangeDeskModel", name := "ways", desc := "(I)I" } : Jvm.MethodName) prog_3_method_9_code (5 : Nat) (Option.some Jvm.ClassFile.FieldType.int)) ∈ lw_all := lw_g (lw_at lw_m0 136 rfl) rfl
theorem q143 : (Jvm.Cond.instanceMethod ({ cls := "ChangeDeskModel", name := "greatestTwo", desc := "()I" } : Jvm.MethodName)) ∈ lw_all := lw_g (lw_at lw_m0 138 rfl) rfl
theorem q144 : (Jvm.Cond.selects "ChangeDeskModel" ({ cls := "ChangeDeskModel", name := "greatestTwo", desc := "()I" } : Jvm.MethodName) ({ cls := "ChangeDeskModel", name := "greatestTwo", desc := "()I" } : Jvm.MethodName)) ∈ lw_all := lw_g (lw_at lw_m0 139 rfl) rfl
theorem q145 : (Jvm.Cond.code ({ cls := "ChangeDeskModel", name := "greatestTwo", desc := "()I" } : Jvm.MethodName) prog_3_method_10_code (2 : Nat) (Option.some Jvm.ClassFile.FieldType.int)) ∈ lw_all := lw_g (lw_at lw_m0 140 rfl) rfl
theorem q146 : (Jvm.Cond.methodLink "ChangeDeskModel" (34 : Nat) ({ cls := "ChangeDeskModel", name := "pays", desc := "(I)Z" } : Jvm.MethodName)) ∈ lw_all := lw_g (lw_at lw_m0 141 rfl) rfl
theorem q147 : (Jvm.Cond.privateMethod ({ cls := "ChangeDeskModel", name := "pays", desc := "(I)Z" } : Jvm.MethodName)) ∈ lw_tbl := lw_at lw_m0 142 rfl
theorem q148 : (Jvm.Cond.instanceMethod ({ cls := "ChangeDeskModel", name := "pays", desc := "(I)Z" } : Jvm.MethodName)) ∈ lw_all := lw_g (lw_at lw_m0 143 rfl) rfl
theorem q149 : (Jvm.Cond.code ({ cls := "ChangeDeskModel", name := "pays", desc := "(I)Z" } : Jvm.MethodName) prog_3_method_11_code (3 : Nat) (Option.some Jvm.ClassFile.FieldType.boolean)) ∈ lw_all := lw_g (lw_at lw_m0 144 rfl) rfl
theorem q151 : (Jvm.Cond.instanceMethod ({ cls := "ChangeDeskModel", name := "gapsTwo", desc := "()I" } : Jvm.MethodName)) ∈ lw_all := lw_g (lw_at lw_m0 146 rfl) rfl
theorem q152 : (Jvm.Cond.selects "ChangeDeskModel" ({ cls := "ChangeDeskModel", name := "gapsTwo", desc := "()I" } : Jvm.MethodName) ({ cls := "ChangeDeskModel", name := "gapsTwo", desc := "()I" } : Jvm.MethodName)) ∈ lw_all := lw_g (lw_at lw_m0 147 rfl) rfl
theorem q153 : (Jvm.Cond.code ({ cls := "ChangeDeskModel", name := "gapsTwo", desc := "()I" } : Jvm.MethodName) prog_3_method_12_code (3 : Nat) (Option.some Jvm.ClassFile.FieldType.int)) ∈ lw_all := lw_g (lw_at lw_m0 148 rfl) rfl
theorem in_X1 : ∀ w ∈ wsX10, w ∈ lw_all := lw_in wsX10 [100, 102, 104, 106, 108] (by decide +kernel) (by decide +kernel)
/-! the law's own entry -/
abbrev cL_law : ByteArray := code
theorem dL_law_0 : decode cL_law 0 = .ok (.new 7, 3) := by decide +kernel
theorem dL_law_3 : decode cL_law 3 = .ok (.dup, 1) := by decide +kernel
theorem dL_law_4 : decode cL_law 4 = .ok (.invokespecial 9, 3) := by decide +kernel
theorem dL_law_7 : decode cL_law 7 = .ok (.astore_n 1, 1) := by decide +kernel
theorem dL_law_8 : decode cL_law 8 = .ok (.new 10, 3) := by decide +kernel
theorem dL_law_11 : decode cL_law 11 = .ok (.dup, 1) := by decide +kernel
theorem dL_law_12 : decode cL_law 12 = .ok (.invokespecial 12, 3) := by decide +kernel
theorem dL_law_15 : decode cL_law 15 = .ok (.astore_n 2, 1) := by decide +kernel
theorem dL_law_16 : decode cL_law 16 = .ok (.iconst 0, 1) := by decide +kernel
theorem dL_law_17 : decode cL_law 17 = .ok (.istore_n 3, 1) := by decide +kernel
theorem dL_law_18 : decode cL_law 18 = .ok (.iload_n 3, 1) := by decide +kernel
theorem dL_law_19 : decode cL_law 19 = .ok (.aload_n 0, 1) := by decide +kernel
theorem dL_law_20 : decode cL_law 20 = .ok (.arraylength, 1) := by decide +kernel
theorem dL_law_21 : decode cL_law 21 = .ok (.iconst 4, 1) := by decide +kernel
theorem dL_law_22 : decode cL_law 22 = .ok (.isub, 1) := by decide +kernel
theorem dL_law_23 : decode cL_law 23 = .ok (.if_icmp .gt 225, 3) := by decide +kernel
theorem dL_law_26 : decode cL_law 26 = .ok (.aload_n 0, 1) := by decide +kernel
theorem dL_law_27 : decode cL_law 27 = .ok (.iload_n 3, 1) := by decide +kernel
theorem dL_law_28 : decode cL_law 28 = .ok (.iaload, 1) := by decide +kernel
theorem dL_law_29 : decode cL_law 29 = .ok (.bipush 7, 2) := by decide +kernel
theorem dL_law_31 : decode cL_law 31 = .ok (.iand, 1) := by decide +kernel
theorem dL_law_32 : decode cL_law 32 = .ok (.tableswitch 210 0 7 #[48, 89, 112, 125, 138, 161, 184, 197], 48) := by decide +kernel
theorem dL_law_80 : decode cL_law 80 = .ok (.aload_n 1, 1) := by decide +kernel
theorem dL_law_81 : decode cL_law 81 = .ok (.aload_n 0, 1) := by decide +kernel
theorem dL_law_82 : decode cL_law 82 = .ok (.iload_n 3, 1) := by decide +kernel
theorem dL_law_83 : decode cL_law 83 = .ok (.iconst 1, 1) := by decide +kernel
theorem dL_law_84 : decode cL_law 84 = .ok (.iadd, 1) := by decide +kernel
theorem dL_law_85 : decode cL_law 85 = .ok (.iaload, 1) := by decide +kernel
theorem dL_law_86 : decode cL_law 86 = .ok (.aload_n 0, 1) := by decide +kernel
theorem dL_law_87 : decode cL_law 87 = .ok (.iload_n 3, 1) := by decide +kernel
theorem dL_law_88 : decode cL_law 88 = .ok (.iconst 2, 1) := by decide +kernel
theorem dL_law_89 : decode cL_law 89 = .ok (.iadd, 1) := by decide +kernel
theorem dL_law_90 : decode cL_law 90 = .ok (.iaload, 1) := by decide +kernel
theorem dL_law_91 : decode cL_law 91 = .ok (.aload_n 0, 1) := by decide +kernel
theorem dL_law_92 : decode cL_law 92 = .ok (.iload_n 3, 1) := by decide +kernel
theorem dL_law_93 : decode cL_law 93 = .ok (.iconst 3, 1) := by decide +kernel
theorem dL_law_94 : decode cL_law 94 = .ok (.iadd, 1) := by decide +kernel
theorem dL_law_95 : decode cL_law 95 = .ok (.iaload, 1) := by decide +kernel
theorem dL_law_96 : decode cL_law 96 = .ok (.invokevirtual 13, 3) := by decide +kernel
theorem dL_law_99 : decode cL_law 99 = .ok (.aload_n 2, 1) := by decide +kernel
theorem dL_law_100 : decode cL_law 100 = .ok (.aload_n 0, 1) := by decide +kernel
theorem dL_law_101 : decode cL_law 101 = .ok (.iload_n 3, 1) := by decide +kernel
theorem dL_law_102 : decode cL_law 102 = .ok (.iconst 1, 1) := by decide +kernel
theorem dL_law_103 : decode cL_law 103 = .ok (.iadd, 1) := by decide +kernel
theorem dL_law_104 : decode cL_law 104 = .ok (.iaload, 1) := by decide +kernel
theorem dL_law_105 : decode cL_law 105 = .ok (.aload_n 0, 1) := by decide +kernel
theorem dL_law_106 : decode cL_law 106 = .ok (.iload_n 3, 1) := by decide +kernel
theorem dL_law_107 : decode cL_law 107 = .ok (.iconst 2, 1) := by decide +kernel
theorem dL_law_108 : decode cL_law 108 = .ok (.iadd, 1) := by decide +kernel
theorem dL_law_109 : decode cL_law 109 = .ok (.iaload, 1) := by decide +kernel
theorem dL_law_110 : decode cL_law 110 = .ok (.aload_n 0, 1) := by decide +kernel
theorem dL_law_111 : decode cL_law 111 = .ok (.iload_n 3, 1) := by decide +kernel
theorem dL_law_112 : decode cL_law 112 = .ok (.iconst 3, 1) := by decide +kernel
theorem dL_law_113 : decode cL_law 113 = .ok (.iadd, 1) := by decide +kernel
theorem dL_law_114 : decode cL_law 114 = .ok (.iaload, 1) := by decide +kernel
theorem dL_law_115 : decode cL_law 115 = .ok (.invokevirtual 17, 3) := by decide +kernel
theorem dL_law_118 : decode cL_law 118 = .ok (.goto 124, 3) := by decide +kernel
theorem dL_law_121 : decode cL_law 121 = .ok (.aload_n 1, 1) := by decide +kernel
theorem dL_law_122 : decode cL_law 122 = .ok (.aload_n 0, 1) := by decide +kernel
theorem dL_law_123 : decode cL_law 123 = .ok (.iload_n 3, 1) := by decide +kernel
theorem dL_law_124 : decode cL_law 124 = .ok (.iconst 1, 1) := by decide +kernel
theorem dL_law_125 : decode cL_law 125 = .ok (.iadd, 1) := by decide +kernel
theorem dL_law_126 : decode cL_law 126 = .ok (.iaload, 1) := by decide +kernel
theorem dL_law_127 : decode cL_law 127 = .ok (.invokevirtual 18, 3) := by decide +kernel
theorem dL_law_130 : decode cL_law 130 = .ok (.aload_n 2, 1) := by decide +kernel
theorem dL_law_131 : decode cL_law 131 = .ok (.aload_n 0, 1) := by decide +kernel
theorem dL_law_132 : decode cL_law 132 = .ok (.iload_n 3, 1) := by decide +kernel
theorem dL_law_133 : decode cL_law 133 = .ok (.iconst 1, 1) := by decide +kernel
theorem dL_law_134 : decode cL_law 134 = .ok (.iadd, 1) := by decide +kernel
theorem dL_law_135 : decode cL_law 135 = .ok (.iaload, 1) := by decide +kernel
theorem dL_law_136 : decode cL_law 136 = .ok (.invokevirtual 22, 3) := by decide +kernel
theorem dL_law_139 : decode cL_law 139 = .ok (.if_icmp .eq 103, 3) := by decide +kernel
theorem dL_law_142 : decode cL_law 142 = .ok (.iconst 0, 1) := by decide +kernel
theorem dL_law_143 : decode cL_law 143 = .ok (.ireturn, 1) := by decide +kernel
theorem dL_law_144 : decode cL_law 144 = .ok (.aload_n 1, 1) := by decide +kernel
theorem dL_law_145 : decode cL_law 145 = .ok (.invokevirtual 23, 3) := by decide +kernel
theorem dL_law_148 : decode cL_law 148 = .ok (.aload_n 2, 1) := by decide +kernel
theorem dL_law_149 : decode cL_law 149 = .ok (.invokevirtual 27, 3) := by decide +kernel
theorem dL_law_152 : decode cL_law 152 = .ok (.if_icmp .eq 90, 3) := by decide +kernel
theorem dL_law_155 : decode cL_law 155 = .ok (.iconst 0, 1) := by decide +kernel
theorem dL_law_156 : decode cL_law 156 = .ok (.ireturn, 1) := by decide +kernel
theorem dL_law_157 : decode cL_law 157 = .ok (.aload_n 1, 1) := by decide +kernel
theorem dL_law_158 : decode cL_law 158 = .ok (.invokevirtual 28, 3) := by decide +kernel
theorem dL_law_161 : decode cL_law 161 = .ok (.aload_n 2, 1) := by decide +kernel
theorem dL_law_162 : decode cL_law 162 = .ok (.invokevirtual 31, 3) := by decide +kernel
theorem dL_law_165 : decode cL_law 165 = .ok (.if_icmp .eq 77, 3) := by decide +kernel
theorem dL_law_168 : decode cL_law 168 = .ok (.iconst 0, 1) := by decide +kernel
theorem dL_law_169 : decode cL_law 169 = .ok (.ireturn, 1) := by decide +kernel
theorem dL_law_170 : decode cL_law 170 = .ok (.aload_n 1, 1) := by decide +kernel
theorem dL_law_171 : decode cL_law 171 = .ok (.aload_n 0, 1) := by decide +kernel
theorem dL_law_172 : decode cL_law 172 = .ok (.iload_n 3, 1) := by decide +kernel
theorem dL_law_173 : decode cL_law 173 = .ok (.iconst 1, 1) := by decide +kernel
theorem dL_law_174 : decode cL_law 174 = .ok (.iadd, 1) := by decide +kernel
theorem dL_law_175 : decode cL_law 175 = .ok (.iaload, 1) := by decide +kernel
theorem dL_law_176 : decode cL_law 176 = .ok (.invokevirtual 32, 3) := by decide +kernel
theorem dL_law_179 : decode cL_law 179 = .ok (.aload_n 2, 1) := by decide +kernel
theorem dL_law_180 : decode cL_law 180 = .ok (.aload_n 0, 1) := by decide +kernel
theorem dL_law_181 : decode cL_law 181 = .ok (.iload_n 3, 1) := by decide +kernel
theorem dL_law_182 : decode cL_law 182 = .ok (.iconst 1, 1) := by decide +kernel
theorem dL_law_183 : decode cL_law 183 = .ok (.iadd, 1) := by decide +kernel
theorem dL_law_184 : decode cL_law 184 = .ok (.iaload, 1) := by decide +kernel
theorem dL_law_185 : decode cL_law 185 = .ok (.invokevirtual 36, 3) := by decide +kernel
theorem dL_law_188 : decode cL_law 188 = .ok (.if_icmp .eq 54, 3) := by decide +kernel
theorem dL_law_191 : decode cL_law 191 = .ok (.iconst 0, 1) := by decide +kernel
theorem dL_law_192 : decode cL_law 192 = .ok (.ireturn, 1) := by decide +kernel
theorem dL_law_193 : decode cL_law 193 = .ok (.aload_n 1, 1) := by decide +kernel
theorem dL_law_194 : decode cL_law 194 = .ok (.aload_n 0, 1) := by decide +kernel
theorem dL_law_195 : decode cL_law 195 = .ok (.iload_n 3, 1) := by decide +kernel
theorem dL_law_196 : decode cL_law 196 = .ok (.iconst 1, 1) := by decide +kernel
theorem dL_law_197 : decode cL_law 197 = .ok (.iadd, 1) := by decide +kernel
theorem dL_law_198 : decode cL_law 198 = .ok (.iaload, 1) := by decide +kernel
theorem dL_law_199 : decode cL_law 199 = .ok (.invokevirtual 37, 3) := by decide +kernel
theorem dL_law_202 : decode cL_law 202 = .ok (.aload_n 2, 1) := by decide +kernel
theorem dL_law_203 : decode cL_law 203 = .ok (.aload_n 0, 1) := by decide +kernel
theorem dL_law_204 : decode cL_law 204 = .ok (.iload_n 3, 1) := by decide +kernel
theorem dL_law_205 : decode cL_law 205 = .ok (.iconst 1, 1) := by decide +kernel
theorem dL_law_206 : decode cL_law 206 = .ok (.iadd, 1) := by decide +kernel
theorem dL_law_207 : decode cL_law 207 = .ok (.iaload, 1) := by decide +kernel
theorem dL_law_208 : decode cL_law 208 = .ok (.invokevirtual 40, 3) := by decide +kernel
theorem dL_law_211 : decode cL_law 211 = .ok (.if_icmp .eq 31, 3) := by decide +kernel
theorem dL_law_214 : decode cL_law 214 = .ok (.iconst 0, 1) := by decide +kernel
theorem dL_law_215 : decode cL_law 215 = .ok (.ireturn, 1) := by decide +kernel
theorem dL_law_216 : decode cL_law 216 = .ok (.aload_n 1, 1) := by decide +kernel
theorem dL_law_217 : decode cL_law 217 = .ok (.invokevirtual 41, 3) := by decide +kernel
theorem dL_law_220 : decode cL_law 220 = .ok (.aload_n 2, 1) := by decide +kernel
theorem dL_law_221 : decode cL_law 221 = .ok (.invokevirtual 44, 3) := by decide +kernel
theorem dL_law_224 : decode cL_law 224 = .ok (.if_icmp .eq 18, 3) := by decide +kernel
theorem dL_law_227 : decode cL_law 227 = .ok (.iconst 0, 1) := by decide +kernel
theorem dL_law_228 : decode cL_law 228 = .ok (.ireturn, 1) := by decide +kernel
theorem dL_law_229 : decode cL_law 229 = .ok (.aload_n 1, 1) := by decide +kernel
theorem dL_law_230 : decode cL_law 230 = .ok (.invokevirtual 45, 3) := by decide +kernel
theorem dL_law_233 : decode cL_law 233 = .ok (.aload_n 2, 1) := by decide +kernel
theorem dL_law_234 : decode cL_law 234 = .ok (.invokevirtual 48, 3) := by decide +kernel
theorem dL_law_237 : decode cL_law 237 = .ok (.if_icmp .eq 5, 3) := by decide +kernel
theorem dL_law_240 : decode cL_law 240 = .ok (.iconst 0, 1) := by decide +kernel
theorem dL_law_241 : decode cL_law 241 = .ok (.ireturn, 1) := by decide +kernel
theorem dL_law_242 : decode cL_law 242 = .ok (.iinc 3 4, 3) := by decide +kernel
theorem dL_law_245 : decode cL_law 245 = .ok (.goto (-227), 3) := by decide +kernel
theorem dL_law_248 : decode cL_law 248 = .ok (.iconst 1, 1) := by decide +kernel
theorem dL_law_249 : decode cL_law 249 = .ok (.ireturn, 1) := by decide +kernel
theorem q5 : (Jvm.Cond.initialized "ChangeDeskLaw") ∈ lw_all := lw_g (lw_at lw_m0 0 rfl) rfl
theorem q10 : (Jvm.Cond.classLink "ChangeDeskLaw" (7 : Nat) "ChangeDesk") ∈ lw_all := lw_g (lw_at lw_m0 5 rfl) rfl
theorem q12 : (Jvm.Cond.methodLink "ChangeDeskLaw" (9 : Nat) ({ cls := "ChangeDesk", name := "<init>", desc := "()V" } : Jvm.MethodName)) ∈ lw_all := lw_g (lw_at lw_m0 7 rfl) rfl
theorem q32 : (Jvm.Cond.methodLink "ChangeDeskLaw" (13 : Nat) ({ cls := "ChangeDesk", name := "coins", desc := "(III)V" } : Jvm.MethodName)) ∈ lw_all := lw_g (lw_at lw_m0 27 rfl) rfl
theorem q36 : (Jvm.Cond.methodLink "ChangeDeskLaw" (23 : Nat) ({ cls := "ChangeDesk", name := "greatest", desc := "()I" } : Jvm.MethodName)) ∈ lw_all := lw_g (lw_at lw_m0 31 rfl) rfl
theorem q61 : (Jvm.Cond.methodLink "ChangeDeskLaw" (28 : Nat) ({ cls := "ChangeDesk", name := "gaps", desc := "()I" } : Jvm.MethodName)) ∈ lw_all := lw_g (lw_at lw_m0 56 rfl) rfl
theorem q65 : (Jvm.Cond.methodLink "ChangeDeskLaw" (18 : Nat) ({ cls := "ChangeDesk", name := "few", desc := "(I)I" } : Jvm.MethodName)) ∈ lw_all := lw_g (lw_at lw_m0 60 rfl) rfl
theorem q69 : (Jvm.Cond.methodLink "ChangeDeskLaw" (32 : Nat) ({ cls := "ChangeDesk", name := "two", desc := "(I)Z" } : Jvm.MethodName)) ∈ lw_all := lw_g (lw_at lw_m0 64 rfl) rfl
theorem q77 : (Jvm.Cond.methodLink "ChangeDeskLaw" (37 : Nat) ({ cls := "ChangeDesk", name := "ways", desc := "(I)I" } : Jvm.MethodName)) ∈ lw_all := lw_g (lw_at lw_m0 72 rfl) rfl
theorem q81 : (Jvm.Cond.methodLink "ChangeDeskLaw" (41 : Nat) ({ cls := "ChangeDesk", name := "greatestTwo", desc := "()I" } : Jvm.MethodName)) ∈ lw_all := lw_g (lw_at lw_m0 76 rfl) rfl
theorem q85 : (Jvm.Cond.methodLink "ChangeDeskLaw" (45 : Nat) ({ cls := "ChangeDesk", name := "gapsTwo", desc := "()I" } : Jvm.MethodName)) ∈ lw_all := lw_g (lw_at lw_m0 80 rfl) rfl
theorem q89 : (Jvm.Cond.classLink "ChangeDeskLaw" (10 : Nat) "ChangeDeskModel") ∈ lw_all := lw_g (lw_at lw_m0 84 rfl) rfl
theorem q91 : (Jvm.Cond.methodLink "ChangeDeskLaw" (12 : Nat) ({ cls := "ChangeDeskModel", name := "<init>", desc := "()V" } : Jvm.MethodName)) ∈ lw_all := lw_g (lw_at lw_m0 86 rfl) rfl
theorem q111 : (Jvm.Cond.methodLink "ChangeDeskLaw" (17 : Nat) ({ cls := "ChangeDeskModel", name := "coins", desc := "(III)V" } : Jvm.MethodName)) ∈ lw_all := lw_g (lw_at lw_m0 106 rfl) rfl
theorem q115 : (Jvm.Cond.methodLink "ChangeDeskLaw" (22 : Nat) ({ cls := "ChangeDeskModel", name := "few", desc := "(I)I" } : Jvm.MethodName)) ∈ lw_all := lw_g (lw_at lw_m0 110 rfl) rfl
theorem q123 : (Jvm.Cond.methodLink "ChangeDeskLaw" (27 : Nat) ({ cls := "ChangeDeskModel", name := "greatest", desc := "()I" } : Jvm.MethodName)) ∈ lw_all := lw_g (lw_at lw_m0 118 rfl) rfl
theorem q130 : (Jvm.Cond.methodLink "ChangeDeskLaw" (31 : Nat) ({ cls := "ChangeDeskModel", name := "gaps", desc := "()I" } : Jvm.MethodName)) ∈ lw_all := lw_g (lw_at lw_m0 125 rfl) rfl
theorem q134 : (Jvm.Cond.methodLink "ChangeDeskLaw" (36 : Nat) ({ cls := "ChangeDeskModel", name := "two", desc := "(I)Z" } : Jvm.MethodName)) ∈ lw_all := lw_g (lw_at lw_m0 129 rfl) rfl
theorem q138 : (Jvm.Cond.methodLink "ChangeDeskLaw" (40 : Nat) ({ cls := "ChangeDeskModel", name := "ways", desc := "(I)I" } : Jvm.MethodName)) ∈ lw_all := lw_g (lw_at lw_m0 133 rfl) rfl
theorem q142 : (Jvm.Cond.methodLink "ChangeDeskLaw" (44 : Nat) ({ cls := "ChangeDeskModel", name := "greatestTwo", desc := "()I" } : Jvm.MethodName)) ∈ lw_all := lw_g (lw_at lw_m0 137 rfl) rfl
theorem q150 : (Jvm.Cond.methodLink "ChangeDeskLaw" (48 : Nat) ({ cls := "ChangeDeskModel", name := "gapsTwo", desc := "()I" } : Jvm.MethodName)) ∈ lw_all := lw_g (lw_at lw_m0 145 rfl) rfl
end
section
/-! HELP: instructions over numbers that are not negative; answers without a change of the heap; loops -/
abbrev vwCl : List vw_C := [(RX0, TX0, 4), (RX1, TX1, 5)]
/-- the end of a method that changes nothing: its answer has P -/
def cd_Q (P : Int32 → Prop) : Array Value → State → Outcome → State → Prop := fun _ st o t => ∃ r : Int32, o = .returned (some (.int r)) ∧ P r ∧ t.heap = st.heap
def cd_no : Addr → Prop := fun _ => False
section CDW
variable {p : Program} {l : Launch} {e : Env} {R : Room} {s : State} {m : MethodId} {args : Array Value} {below : List Frame} {meth : Method} {c : Code} {H : Heap} {locs : List Loc} {cells slots : Nat} {Q : State → Prop}
variable {cc : ByteArray} {pc : Nat} {ls : Array Slot} {rest : List Value}
theorem cd_v {x y : Int32} (h : x = y) (k : W p l e R s m args below meth c H locs cells slots Q (F0 m pc ls (.int y :: rest))) : W p l e R s m args below meth c H locs cells slots Q (F0 m pc ls (.int x :: rest)) := by
  rw [h]; exact k
theorem cd_nv {x y : Nat} (h : x = y) (k : W p l e R s m args below meth c H locs cells slots Q (F0 m pc ls (.int (nI y) :: rest))) : W p l e R s m args below meth c H locs cells slots Q (F0 m pc ls (.int (nI x) :: rest)) := by
  rw [h]; exact k
theorem cd_topn {x : Nat} (k : ∀ y : Nat, y = x → W p l e R s m args below meth c H locs cells slots Q (F0 m pc ls (.int (nI y) :: rest))) : W p l e R s m args below meth c H locs cells slots Q (F0 m pc ls (.int (nI x) :: rest)) := k x rfl
theorem cd_iadd (hexec : p.tables.exec = Jvm.exec) (hb : c.code = cc) {x y : Nat} (hdg : decode cc pc = .ok (.iadd, 1))
    (k : W p l e R s m args below meth c H locs cells slots Q (F0 m (pc + 1) ls (.int (nI (x + y)) :: rest))) : W p l e R s m args below meth c H locs cells slots Q (F0 m pc ls (.int (nI y) :: .int (nI x) :: rest)) :=
  lv_iadd hexec hb hdg (cd_v (nI_add x y) k)
theorem cd_isub (hexec : p.tables.exec = Jvm.exec) (hb : c.code = cc) {x y : Nat} (hdg : decode cc pc = .ok (.isub, 1))
    (k : W p l e R s m args below meth c H locs cells slots Q (F0 m (pc + 1) ls (.int (nI (x - y)) :: rest))) (h : y ≤ x := by omega) : W p l e R s m args below meth c H locs cells slots Q (F0 m pc ls (.int (nI y) :: .int (nI x) :: rest)) :=
  lv_isub hexec hb hdg (cd_v (pk_sub h) k)
theorem cd_imul (hexec : p.tables.exec = Jvm.exec) (hb : c.code = cc) {x y : Nat} (hdg : decode cc pc = .ok (.imul, 1))
    (k : W p l e R s m args below meth c H locs cells slots Q (F0 m (pc + 1) ls (.int (nI (x * y)) :: rest))) : W p l e R s m args below meth c H locs cells slots Q (F0 m pc ls (.int (nI y) :: .int (nI x) :: rest)) :=
  lv_imul hexec hb hdg (cd_v (pk_mul x y) k)
theorem cd_idiv (hexec : p.tables.exec = Jvm.exec) (hb : c.code = cc) {x y : Nat} (hdg : decode cc pc = .ok (.idiv, 1))
    (k : W p l e R s m args below meth c H locs cells slots Q (F0 m (pc + 1) ls (.int (nI (x / y)) :: rest))) (h1 : x < 2 ^ 31 := by omega) (h2 : 0 < y := by omega) (h3 : y < 2 ^ 31 := by omega) : W p l e R s m args below meth c H locs cells slots Q (F0 m pc ls (.int (nI y) :: .int (nI x) :: rest)) :=
  lv_idiv hexec hb hdg (nI_ne0 h2 h3) (cd_v (pk_div h1 h2 h3) k)
theorem cd_irem (hexec : p.tables.exec = Jvm.exec) (hb : c.code = cc) {x y : Nat} (hdg : decode cc pc = .ok (.irem, 1))
    (k : W p l e R s m args below meth c H locs cells slots Q (F0 m (pc + 1) ls (.int (nI (x % y)) :: rest))) (h1 : x < 2 ^ 31 := by omega) (h2 : 0 < y := by omega) (h3 : y < 2 ^ 31 := by omega) : W p l e R s m args below meth c H locs cells slots Q (F0 m pc ls (.int (nI y) :: .int (nI x) :: rest)) :=
  lv_irem hexec hb hdg (nI_ne0 h2 h3) (cd_v (pk_rem h1 h2 h3) k)
theorem cd_if_eq (hexec : p.tables.exec = Jvm.exec) (hb : c.code = cc) {x : Nat} {off : Int} {tgt : Nat} (hdg : decode cc pc = .ok (.ifCond .eq off, 3)) (ht : (pc : Int) + off = (tgt : Int))
    (kt : x = 0 → W p l e R s m args below meth c H locs cells slots Q (F0 m tgt ls rest)) (kf : 0 < x → W p l e R s m args below meth c H locs cells slots Q (F0 m (pc + 3) ls rest)) (h1 : x < 2 ^ 31 := by omega) : W p l e R s m args below meth c H locs cells slots Q (F0 m pc ls (.int (nI x) :: rest)) :=
  lv_if_eq hexec hb hdg ht (fun h => kt (Nat.eq_zero_of_not_pos (fun q => nI_ne0 q h1 h))) (fun h => kf (Nat.pos_of_ne_zero (fun q => h (by rw [q]; exact nI_0))))
theorem cd_if_ne (hexec : p.tables.exec = Jvm.exec) (hb : c.code = cc) {x : Nat} {off : Int} {tgt : Nat} (hdg : decode cc pc = .ok (.ifCond .ne off, 3)) (ht : (pc : Int) + off = (tgt : Int))
    (kt : 0 < x → W p l e R s m args below meth c H locs cells slots Q (F0 m tgt ls rest)) (kf : x = 0 → W p l e R s m args below meth c H locs cells slots Q (F0 m (pc + 3) ls rest)) (h1 : x < 2 ^ 31 := by omega) : W p l e R s m args below meth c H locs cells slots Q (F0 m pc ls (.int (nI x) :: rest)) :=
  lv_if_ne hexec hb hdg ht (fun h => kt (Nat.pos_of_ne_zero (fun q => h (by rw [q]; exact nI_0)))) (fun h => kf (Nat.eq_zero_of_not_pos (fun q => nI_ne0 q h1 h)))
theorem cd_if_le (hexec : p.tables.exec = Jvm.exec) (hb : c.code = cc) {x : Nat} {off : Int} {tgt : Nat} (hdg : decode cc pc = .ok (.ifCond .le off, 3)) (ht : (pc : Int) + off = (tgt : Int))
    (kt : x = 0 → W p l e R s m args below meth c H locs cells slots Q (F0 m tgt ls rest)) (kf : 0 < x → W p l e R s m args below meth c H locs cells slots Q (F0 m (pc + 3) ls rest)) (h1 : x < 2 ^ 31 := by omega) : W p l e R s m args below meth c H locs cells slots Q (F0 m pc ls (.int (nI x) :: rest)) :=
  lv_if_le hexec hb hdg ht (fun h => kt (Nat.eq_zero_of_not_pos (fun q => nI_nle q h1 h))) (fun h => kf (Nat.pos_of_ne_zero (fun q => h (by rw [q]; decide +kernel))))
theorem cd_icmp_ge (hexec : p.tables.exec = Jvm.exec) (hb : c.code = cc) {x y : Nat} {off : Int} {tgt : Nat} (hdg : decode cc pc = .ok (.if_icmp .ge off, 3)) (ht : (pc : Int) + off = (tgt : Int))
    (kt : y ≤ x → W p l e R s m args below meth c H locs cells slots Q (F0 m tgt ls rest)) (kf : x < y → W p l e R s m args below meth c H locs cells slots Q (F0 m (pc + 3) ls rest)) (h1 : x < 2 ^ 31 := by omega) (h2 : y < 2 ^ 31 := by omega) : W p l e R s m args below meth c H locs cells slots Q (F0 m pc ls (.int (nI y) :: .int (nI x) :: rest)) :=
  lv_icmp_ge hexec hb hdg ht (fun h => kt ((nI_leI h2 h1).mp h)) (fun h => kf (Nat.lt_of_not_le (fun q => h ((nI_leI h2 h1).mpr q))))
theorem cd_icmp_gt (hexec : p.tables.exec = Jvm.exec) (hb : c.code = cc) {x y : Nat} {off : Int} {tgt : Nat} (hdg : decode cc pc = .ok (.if_icmp .gt off, 3)) (ht : (pc : Int) + off = (tgt : Int))
    (kt : y < x → W p l e R s m args below meth c H locs cells slots Q (F0 m tgt ls rest)) (kf : x ≤ y → W p l e R s m args below meth c H locs cells slots Q (F0 m (pc + 3) ls rest)) (h1 : x < 2 ^ 31 := by omega) (h2 : y < 2 ^ 31 := by omega) : W p l e R s m args below meth c H locs cells slots Q (F0 m pc ls (.int (nI y) :: .int (nI x) :: rest)) :=
  lv_icmp_gt hexec hb hdg ht (fun h => kt ((nI_ltI h2 h1).mp h)) (fun h => kf (Nat.le_of_not_lt (fun q => h ((nI_ltI h2 h1).mpr q))))
theorem cd_icmp_le (hexec : p.tables.exec = Jvm.exec) (hb : c.code = cc) {x y : Nat} {off : Int} {tgt : Nat} (hdg : decode cc pc = .ok (.if_icmp .le off, 3)) (ht : (pc : Int) + off = (tgt : Int))
    (kt : x ≤ y → W p l e R s m args below meth c H locs cells slots Q (F0 m tgt ls rest)) (kf : y < x → W p l e R s m args below meth c H locs cells slots Q (F0 m (pc + 3) ls rest)) (h1 : x < 2 ^ 31 := by omega) (h2 : y < 2 ^ 31 := by omega) : W p l e R s m args below meth c H locs cells slots Q (F0 m pc ls (.int (nI y) :: .int (nI x) :: rest)) :=
  lv_icmp_le hexec hb hdg ht (fun h => kt ((nI_leI h1 h2).mp h)) (fun h => kf (Nat.lt_of_not_le (fun q => h ((nI_leI h1 h2).mpr q))))
theorem cd_icmp_lt (hexec : p.tables.exec = Jvm.exec) (hb : c.code = cc) {x y : Nat} {off : Int} {tgt : Nat} (hdg : decode cc pc = .ok (.if_icmp .lt off, 3)) (ht : (pc : Int) + off = (tgt : Int))
    (kt : x < y → W p l e R s m args below meth c H locs cells slots Q (F0 m tgt ls rest)) (kf : y ≤ x → W p l e R s m args below meth c H locs cells slots Q (F0 m (pc + 3) ls rest)) (h1 : x < 2 ^ 31 := by omega) (h2 : y < 2 ^ 31 := by omega) : W p l e R s m args below meth c H locs cells slots Q (F0 m pc ls (.int (nI y) :: .int (nI x) :: rest)) :=
  lv_icmp_lt hexec hb hdg ht (fun h => kt ((nI_ltI h1 h2).mp h)) (fun h => kf (Nat.le_of_not_lt (fun q => h ((nI_ltI h1 h2).mpr q))))
theorem cd_icmp_eq (hexec : p.tables.exec = Jvm.exec) (hb : c.code = cc) {x y : Nat} {off : Int} {tgt : Nat} (hdg : decode cc pc = .ok (.if_icmp .eq off, 3)) (ht : (pc : Int) + off = (tgt : Int))
    (kt : x = y → W p l e R s m args below meth c H locs cells slots Q (F0 m tgt ls rest)) (kf : x ≠ y → W p l e R s m args below meth c H locs cells slots Q (F0 m (pc + 3) ls rest)) (h1 : x < 2 ^ 31 := by omega) (h2 : y < 2 ^ 31 := by omega) : W p l e R s m args below meth c H locs cells slots Q (F0 m pc ls (.int (nI y) :: .int (nI x) :: rest)) :=
  lv_icmp_eq hexec hb hdg ht (fun h => kt ((nI_eq h1 h2).mp h)) (fun h => kf (fun q => h ((nI_eq h1 h2).mpr q)))
theorem cd_icmp_ne (hexec : p.tables.exec = Jvm.exec) (hb : c.code = cc) {x y : Nat} {off : Int} {tgt : Nat} (hdg : decode cc pc = .ok (.if_icmp .ne off, 3)) (ht : (pc : Int) + off = (tgt : Int))
    (kt : x ≠ y → W p l e R s m args below meth c H locs cells slots Q (F0 m tgt ls rest)) (kf : x = y → W p l e R s m args below meth c H locs cells slots Q (F0 m (pc + 3) ls rest)) (h1 : x < 2 ^ 31 := by omega) (h2 : y < 2 ^ 31 := by omega) : W p l e R s m args below meth c H locs cells slots Q (F0 m pc ls (.int (nI y) :: .int (nI x) :: rest)) :=
  lv_icmp_ne hexec hb hdg ht (fun h => kt (fun q => h ((nI_eq h1 h2).mpr q))) (fun h => kf ((nI_eq h1 h2).mp h))
theorem cd_iinc (hexec : p.tables.exec = Jvm.exec) (hb : c.code = cc) {i nL k x : Nat} {lv lv' : List (Nat × Value)} (hdg : decode cc pc = .ok (.iinc i 1, 3)) (h : lv_has ls nL lv) (hk : lv[k]? = some (i, .int (nI x))) (hn : i < nL) (hl : (i, Value.int (nI (x + 1))) :: lv.filter (fun q => !(q.1 == i) && !(q.1 + 1 == i && q.2.category == 2)) = lv')
    (kk : ∀ ls' : Array Slot, lv_has ls' nL lv' → W p l e R s m args below meth c H locs cells slots Q (F0 m (pc + 3) ls' rest)) : W p l e R s m args below meth c H locs cells slots Q (F0 m pc ls rest) :=
  lv_iinc (v := nI (x + 1)) hexec hb hdg h hk (show nI x + Int32.ofInt 1 = nI (x + 1) from nI_1 x) hn hl kk
theorem cd_idec (hexec : p.tables.exec = Jvm.exec) (hb : c.code = cc) {i nL k x : Nat} {lv lv' : List (Nat × Value)} (hdg : decode cc pc = .ok (.iinc i (-1), 3)) (h : lv_has ls nL lv) (hk : lv[k]? = some (i, .int (nI (x + 1)))) (hn : i < nL) (hl : (i, Value.int (nI x)) :: lv.filter (fun q => !(q.1 == i) && !(q.1 + 1 == i && q.2.category == 2)) = lv')
    (kk : ∀ ls' : Array Slot, lv_has ls' nL lv' → W p l e R s m args below meth c H locs cells slots Q (F0 m (pc + 3) ls' rest)) : W p l e R s m args below meth c H locs cells slots Q (F0 m pc ls rest) :=
  lv_iinc (v := nI x) hexec hb hdg h hk (show nI (x + 1) + Int32.ofInt (-1) = nI x from pk_m1 x) hn hl kk
/-- behind a call that changes nothing -/
theorem cd_callr {P : Int32 → Prop} {st0 : List Value} {a : Array Value} (hr : CallRun p l e R s m args below meth c H locs cells slots 0 0 (F0 m pc ls st0) rest (cd_Q P a) cd_no)
    (kk : ∀ r : Int32, P r → W p l e R s m args below meth c H locs cells slots Q (F0 m (pc + 3) ls (.int r :: rest))) : W p l e R s m args below meth c H locs cells slots Q (F0 m pc ls st0) := by
  intro T hT X
  obtain ⟨v, st₀, t, T', L, h0, X', hL, e1, ⟨r, hv, hp, hh⟩, st⟩ := hr T hT X
  cases hv
  obtain ⟨t2, a1, b1⟩ := kk r hp T' (by rw [e1, hh, h0]) (Stand.forget X' (fun q h => (hL q h).elim))
  exact ⟨t2, st t2 a1, b1⟩
theorem cd_ret {P : Int32 → Prop} {v : Int32} (hexec : p.tables.exec = Jvm.exec) (hb : c.code = cc) (hr : meth.sig.returnType = some .int) (hlocks : meth.locks = false) (hP : P v) (hdg : decode cc pc = .ok (.ireturn, 1)) : W p l e R s m args below meth c s.heap [] 0 0 (MQ below (cd_Q P) args s 0 0 cd_no) (F0 m pc ls [.int v]) :=
  W.iret (v := v) hexec hb hr (fun t ht _ => ⟨v, rfl, hP, ht⟩) (fun q h => by cases h) hdg hlocks
theorem cd_zret {P : Int32 → Prop} {v : Int32} (hexec : p.tables.exec = Jvm.exec) (hb : c.code = cc) (hr : meth.sig.returnType = some .boolean) (hlocks : meth.locks = false) (hn : narrow .boolean (.int v) = .int v) (hP : P v) (hdg : decode cc pc = .ok (.ireturn, 1)) : W p l e R s m args below meth c s.heap [] 0 0 (MQ below (cd_Q P) args s 0 0 cd_no) (F0 m pc ls [.int v]) :=
  W.zret (v := v) hexec hb hr hn (fun t ht _ => ⟨v, rfl, hP, ht⟩) (fun q h => by cases h) hdg hlocks
/-- a loop, by a number that falls; the heap stays -/
theorem cd_loop {head : Nat} (I : Nat → Array Slot → Prop) (step : ∀ (n : Nat) (ls : Array Slot), I n ls → (∀ (n' : Nat) (ls' : Array Slot), n' < n → I n' ls' → W p l e R s m args below meth c H locs cells slots Q (F0 m head ls' [])) → W p l e R s m args below meth c H locs cells slots Q (F0 m head ls [])) : ∀ (n : Nat) (ls : Array Slot), I n ls → W p l e R s m args below meth c H locs cells slots Q (F0 m head ls []) := by
  intro n
  induction n using Nat.strongRecOn with
  | ind n ih =>
    intro ls h
    exact step n ls h (fun n' ls' hn hI => ih n' hn ls' hI)
/-- a loop, by a number that falls; the heap moves -/
theorem cd_loopH {head : Nat} (I : Nat → Heap → List Loc → Array Slot → Prop) (step : ∀ (n : Nat) (H : Heap) (locs : List Loc) (ls : Array Slot), I n H locs ls → (∀ (n' : Nat) (H' : Heap) (locs' : List Loc) (ls' : Array Slot), n' < n → I n' H' locs' ls' → W p l e R s m args below meth c H' locs' cells slots Q (F0 m head ls' [])) → W p l e R s m args below meth c H locs cells slots Q (F0 m head ls [])) : ∀ (n : Nat) (H : Heap) (locs : List Loc) (ls : Array Slot), I n H locs ls → W p l e R s m args below meth c H locs cells slots Q (F0 m head ls []) := by
  intro n
  induction n using Nat.strongRecOn with
  | ind n ih =>
    intro H locs ls h
    exact step n H locs ls h (fun n' H' locs' ls' hn hI => ih n' hn H' locs' ls' hI)
end CDW
section CDA
variable {p : Program} {l : Launch} {e : Env} {R : Room} {s : State} {m : MethodId} {args : Array Value} {below : List Frame} {meth : Method} {c : Code} {H : Heap} {locs : List Loc} {cells slots : Nat} {Q : State → Prop}
variable {cc : ByteArray} {pc : Nat} {ls : Array Slot} {rest : List Value} {D : va_G} {cl : List vw_C} {A : Nat → Prop} {a : Nat} {tys : List (ClassId × FieldType)} {ws : va_W} {H0 : Heap}
theorem cd_iald (hexec : p.tables.exec = Jvm.exec) (hb : c.code = cc) (hK : va_K D cl tys s) (hP : va_P D cl ws H) (q0 t0 : Nat) {cA : ClassId} {n : Nat} {f : Nat → Int32} (ha : ws[q0]? = some (a, .inl (cA, n, .inl f))) (ht : tys[t0]? = some (cA, .int)) {i : Nat} (hdg : decode cc pc = .ok (.iaload, 1))
    (kk : W p l e R s m args below meth c H locs cells slots Q (F0 m (pc + 1) ls (.int (f i) :: rest))) (hi : i < n := by omega) (hn : n < 2 ^ 31 := by omega) : W p l e R s m args below meth c H locs cells slots Q (F0 m pc ls (.int (nI i) :: .ref a :: rest)) :=
  va_iald hexec hb hK hP q0 t0 ha ht (vp_in_nI hi hn) hdg (by rw [nI_clamp (Nat.lt_trans hi hn)]; exact kk)
theorem cd_iast (hexec : p.tables.exec = Jvm.exec) (hb : c.code = cc) (hK : va_K D cl tys s) (hP : va_P D cl ws H) (hD : va_D A ws) (hS : va_S A H0 H locs) (q0 t0 : Nat) {cA : ClassId} {n : Nat} {f : Nat → Int32} (ha : ws[q0]? = some (a, .inl (cA, n, .inl f))) (ht : tys[t0]? = some (cA, .int)) {i : Nat} {x : Int32} (hdg : decode cc pc = .ok (.iastore, 1))
    (kk : ∀ (H1 : Heap) (locs1 : List Loc), va_P D cl (ws.set q0 (a, .inl (cA, n, .inl (upd f i x)))) H1 → va_D A (ws.set q0 (a, .inl (cA, n, .inl (upd f i x)))) → va_S A H0 H1 locs1 → W p l e R s m args below meth c H1 locs1 cells slots Q (F0 m (pc + 1) ls rest)) (hi : i < n := by omega) (hn : n < 2 ^ 31 := by omega) : W p l e R s m args below meth c H locs cells slots Q (F0 m pc ls (.int x :: .int (nI i) :: .ref a :: rest)) :=
  va_iast hexec hb hK hP hD hS q0 t0 ha ht (vp_in_nI hi hn) hdg (by rw [nI_clamp (Nat.lt_trans hi hn)]; exact kk)
/-- an object's method that changes nothing: its start -/
theorem cd_pre {ci q0 b : Nat} {q : vw_C} {fs : List Value} {As : List Value} {ws' : va_W} {tys' : List (ClassId × FieldType)} (hK : va_K D cl tys s) (hP : va_P D cl ws H) (hc : cl[ci]? = some q) (he : ws[q0]? = some (b, .inr (ci, fs))) (hP' : va_P D cl ws' H) (hK' : va_K D cl tys' s) : PreV s H q.1 b (va_Pc (.ref b :: As) (fun U => va_P D cl ws' U.heap ∧ va_K D cl tys' U)) As :=
  ⟨fun a U g mk q => ⟨q.1, q.2.1, va_K.moved (u := U) (U := U.calling g mk a) (Vm.Alike.refl U.vm) q.2.2⟩, va_recv hK hP hc he, fun U hU hW => ⟨rfl, by rw [hU]; exact hP', va_K.moved hW.alike hK'⟩⟩
theorem cd_preS {As : List Value} : PreS s H (va_Pc As (fun _ => True)) As := ⟨fun _ _ _ _ q => q, fun _ _ _ => ⟨rfl, trivial⟩⟩
end CDA
end
section
/-! HELP 2: Math.max, Math.min over numbers; a place where ways meet -/
section CDM
variable {p : Program} {l : Launch} {e : Env} {R : Room} {s : State} {m : MethodId} {args : Array Value} {below : List Frame} {meth : Method} {c : Code} {H : Heap} {locs : List Loc} {cells slots : Nat} {Q : State → Prop}
variable {cc : ByteArray} {pc : Nat} {ls : Array Slot} {rest : List Value}
theorem cd_mmax (hexec : p.tables.exec = Jvm.exec) (hb : c.code = cc) (hml : c.maxLocals = ls.size) (hown : s.vm.findClass RX0 = some m.cls) (hts : ∀ w ∈ lw_all, w.before args s = true) (hframes : 1 ≤ R.frames) (hlocals : (rest.map fun v => v.category).sum + 13 ≤ R.locals) (hc : cells ≤ R.cells) (hs : slots ≤ R.slots) {x y : Nat} (hdg : decode cc pc = .ok (.invokestatic 48, 3))
    (kk : W p l e R s m args below meth c H locs cells slots Q (F0 m (pc + 3) ls (.int (nI (max x y)) :: rest))) (h1 : x < 2 ^ 31 := by omega) (h2 : y < 2 ^ 31 := by omega) : W p l e R s m args below meth c H locs cells slots Q (F0 m pc ls (.int (nI y) :: .int (nI x) :: rest)) :=
  va_mmax hexec hb hml hown (hts _ q58) (hts _ q59) (hts _ q8) (hts _ q60) hframes hlocals hc hs hdg (cd_v (cd_max h1 h2) kk)
theorem cd_mmin (hexec : p.tables.exec = Jvm.exec) (hb : c.code = cc) (hml : c.maxLocals = ls.size) (hown : s.vm.findClass RX0 = some m.cls) (hts : ∀ w ∈ lw_all, w.before args s = true) (hframes : 1 ≤ R.frames) (hlocals : (rest.map fun v => v.category).sum + 13 ≤ R.locals) (hc : cells ≤ R.cells) (hs : slots ≤ R.slots) {x y : Nat} (hdg : decode cc pc = .ok (.invokestatic 40, 3))
    (kk : W p l e R s m args below meth c H locs cells slots Q (F0 m (pc + 3) ls (.int (nI (if y < x then y else x)) :: rest))) (h1 : x < 2 ^ 31 := by omega) (h2 : y < 2 ^ 31 := by omega) : W p l e R s m args below meth c H locs cells slots Q (F0 m pc ls (.int (nI y) :: .int (nI x) :: rest)) :=
  va_mmin hexec hb hml hown (hts _ q55) (hts _ q56) (hts _ q8) (hts _ q57) hframes hlocals hc hs hdg (cd_v (cd_min h1 h2) kk)
theorem cd_meet {pc1 : Nat} {g : JFrame} (J : Array Slot → Prop) (k : ∀ ls, J ls → W p l e R s m args below meth c H locs cells slots Q (F0 m pc1 ls [])) (go : (∀ ls, J ls → W p l e R s m args below meth c H locs cells slots Q (F0 m pc1 ls [])) → W p l e R s m args below meth c H locs cells slots Q g) : W p l e R s m args below meth c H locs cells slots Q g := go k
end CDM
end
section
/-! ChangeDesk: the methods that change nothing (printed by gen/pure.py) -/
set_option maxHeartbeats 4000000 in
set_option maxRecDepth 100000 in
theorem mt_X0_common (l : Launch) (x y : Nat) (hx0 : x < 2 ^ 31) (hy0 : y < 2 ^ 31) : Met l yX0_common (ws_ yX0_common cX0_common 5 (some .int)) ({ frames := 0, cells := 0, slots := 0, locals := 0 }) (va_Pc [.int (nI x), .int (nI y)] (fun _ => True)) (cd_Q (fun r => r = nI (Nat.gcd x y))) 0 0 cd_no := by
  refine Met.ofW (cc := cX0_common) (maxL := 5) (ret := (some .int)) (by decide) rfl ?_
  intro p e s m args below meth c s₁ B hml hv
  obtain ⟨rfl, -⟩ := hv
  have hx := B.exec
  have hb := B.bytes
  have hr := B.returns
  have hts := atoms_spec (ws := ws_ yX0_common cX0_common 5 (some .int)) B.pre
  have hts : ∀ w ∈ lw_all, w.before _ s = true := fun w h => hts w (List.mem_cons_of_mem _ h)
  have hown : s.vm.findClass RX0 = some m.cls := findClass_of_methodNamed B.named
  have hlocks := B.notSynchronized
  have hl := lv_entry ([.int (nI x), .int (nI y)]) (n := 5) (Nat.le_of_ble_eq_true rfl)
  rw [lg_entry_eq]
  generalize (lg_sl ([.int (nI x), .int (nI y)]) ++ List.replicate (5 - (lg_sl ([.int (nI x), .int (nI y)])).length) Slot.unset).toArray = ls at hl ⊢
  have hl : lv_has ls 5 [(0, .int (nI x)), (1, .int (nI y))] := hl
  refine lv_iload_n hx hb dX0_common_0 rfl (lv_at hl 0 rfl) ?_
  refine lv_istore_n (lv' := [(2, .int (nI x)), (0, .int (nI x)), (1, .int (nI y))]) hx hb dX0_common_1 rfl hl (by decide) rfl (fun ls hl => ?_)
  refine lv_iload_n hx hb dX0_common_2 rfl (lv_at hl 2 rfl) ?_
  refine lv_istore_n (lv' := [(3, .int (nI y)), (2, .int (nI x)), (0, .int (nI x)), (1, .int (nI y))]) hx hb dX0_common_3 rfl hl (by decide) rfl (fun ls hl => ?_)
  refine cd_loop (head := 4) (fun n ls => ∃ u v : Nat, n = v ∧ u < 2 ^ 31 ∧ v < 2 ^ 31 ∧ Nat.gcd u v = Nat.gcd x y ∧ lv_has ls 5 [(2, .int (nI u)), (3, .int (nI v))]) ?_ y ls ⟨x, y, rfl, hx0, hy0, rfl, lv_sub hl [1, 0] rfl⟩
  rintro n ls ⟨u, v, e1, hu, hv, eg, hl⟩ ih
  subst e1
  refine lv_iload_n hx hb dX0_common_4 rfl (lv_at hl 1 rfl) ?_
  refine cd_if_eq (tgt := 21) hx hb dX0_common_5 (by decide) (fun c1 => ?_) (fun c1 => ?_)
  · refine lv_iload_n hx hb dX0_common_21 rfl (lv_at hl 0 rfl) ?_
    exact cd_ret hx hb hr hlocks (by rw [← eg, c1, Nat.gcd_zero_right]) dX0_common_22
  · have hm : u % n < n := Nat.mod_lt u c1
    have hm2 : Nat.gcd n (u % n) = Nat.gcd u n := cd_gcd_step u n
    refine lv_iload_n hx hb dX0_common_8 rfl (lv_at hl 0 rfl) ?_
    refine lv_iload_n hx hb dX0_common_9 rfl (lv_at hl 1 rfl) ?_
    refine cd_irem hx hb dX0_common_10 ?_
    refine lv_istore (lv' := [(4, .int (nI (u % n))), (2, .int (nI u)), (3, .int (nI n))]) hx hb dX0_common_11 hl (by decide) rfl (fun ls hl => ?_)
    refine lv_iload_n hx hb dX0_common_13 rfl (lv_at hl 2 rfl) ?_
    refine lv_istore_n (lv' := [(2, .int (nI n)), (4, .int (nI (u % n))), (3, .int (nI n))]) hx hb dX0_common_14 rfl hl (by decide) rfl (fun ls hl => ?_)
    refine lv_iload hx hb dX0_common_15 (lv_at hl 1 rfl) ?_
    refine lv_istore_n (lv' := [(3, .int (nI (u % n))), (2, .int (nI n)), (4, .int (nI (u % n)))]) hx hb dX0_common_17 rfl hl (by decide) rfl (fun ls hl => ?_)
    refine lv_goto (tgt := 4) hx hb dX0_common_18 (by decide) ?_
    exact ih (u % n) ls hm ⟨n, u % n, rfl, hv, by omega, by rw [hm2]; exact eg, lv_sub hl [1, 0] rfl⟩
set_option maxHeartbeats 4000000 in
set_option maxRecDepth 100000 in
theorem mt_X0_first (l : Launch) (dC : Nat → ClassId) (dI : Nat → Nat → Nat) (h0 h1 a b z : Nat) (j : Nat) (ha1 : 0 < a) (ha2 : a ≤ 32) (hb1 : 0 < b) (hb2 : b ≤ 32) (hj : j < 1024) : Met l yX0_first (ws_ yX0_first cX0_first 3 (some .int)) ({ frames := 0, cells := 0, slots := 0, locals := 0 }) (va_Pc [.ref h0, .int (nI j)] (fun U => va_P (dC, dI) vwCl [(h0, .inr (0, [.int (nI a), .int (nI b), .int (nI z), .ref h1]))] U.heap ∧ va_K (dC, dI) vwCl [] U)) (cd_Q (cd_First a b j)) 0 0 cd_no := by
  refine Met.ofW (cc := cX0_first) (maxL := 3) (ret := (some .int)) (by decide) rfl ?_
  intro p e s m args below meth c s₁ B hml hv
  obtain ⟨rfl, hP, hK⟩ := hv
  have hx := B.exec
  have hb := B.bytes
  have hr := B.returns
  have hts := atoms_spec (ws := ws_ yX0_first cX0_first 3 (some .int)) B.pre
  have hts : ∀ w ∈ lw_all, w.before _ s = true := fun w h => hts w (List.mem_cons_of_mem _ h)
  have hown : s.vm.findClass RX0 = some m.cls := findClass_of_methodNamed B.named
  have hlocks := B.notSynchronized
  have hl := lv_entry ([.ref h0, .int (nI j)]) (n := 3) (Nat.le_of_ble_eq_true rfl)
  rw [lg_entry_eq]
  generalize (lg_sl ([.ref h0, .int (nI j)]) ++ List.replicate (3 - (lg_sl ([.ref h0, .int (nI j)])).length) Slot.unset).toArray = ls at hl ⊢
  have hl : lv_has ls 3 [(0, .ref h0), (1, .int (nI j))] := hl
  refine lv_iconst (v := nI 0) hx hb dX0_first_0 (by decide +kernel) ?_
  refine lv_istore_n (lv' := [(2, .int (nI 0)), (0, .ref h0), (1, .int (nI j))]) hx hb dX0_first_1 rfl hl (by decide) rfl (fun ls hl => ?_)
  refine cd_loop (head := 2) (fun n ls => ∃ x : Nat, n + x = b ∧ (∀ y, y < x → (j - y * a) % b ≠ 0) ∧ lv_has ls 3 [(0, .ref h0), (1, .int (nI j)), (2, .int (nI x))]) ?_ b ls ⟨0, rfl, fun y hy => absurd hy (Nat.not_lt_zero y), lv_sub hl [1, 2, 0] rfl⟩
  rintro n ls ⟨x, en, hin, hl⟩ ih
  have hxa : x * a ≤ 32 * 32 := Nat.mul_le_mul (by omega) ha2
  refine lv_iload_n hx hb dX0_first_2 rfl (lv_at hl 2 rfl) ?_
  refine lv_aload_n hx hb dX0_first_3 rfl (lv_at hl 0 rfl) ?_
  refine va_get (D := (dC, dI)) (ci := 0) (v := .int (nI b)) (C := RX0) (T := TX0) (N := 4) hx hb hts in_X0 hown hK hP 0 rfl rfl 1 (by decide) (hts _ q19) (fun _ h9 => h9) rfl dX0_first_4 ?_
  refine cd_icmp_ge (tgt := 44) hx hb dX0_first_7 (by decide) (fun c1 => ?_) (fun c1 => ?_)
  · refine lv_iconst (v := -1) hx hb dX0_first_44 (by decide +kernel) ?_
    exact cd_ret hx hb hr hlocks (Or.inl ⟨rfl, cd_first_b hb1 (fun y hy => hin y (by omega))⟩) dX0_first_45
  · refine lv_iload_n hx hb dX0_first_10 rfl (lv_at hl 2 rfl) ?_
    refine lv_aload_n hx hb dX0_first_11 rfl (lv_at hl 0 rfl) ?_
    refine va_get (D := (dC, dI)) (ci := 0) (v := .int (nI a)) (C := RX0) (T := TX0) (N := 4) hx hb hts in_X0 hown hK hP 0 rfl rfl 0 (by decide) (hts _ q18) (fun _ h9 => h9) rfl dX0_first_12 ?_
    refine cd_imul hx hb dX0_first_15 ?_
    refine lv_iload_n hx hb dX0_first_16 rfl (lv_at hl 1 rfl) ?_
    refine cd_icmp_gt (tgt := 44) hx hb dX0_first_17 (by decide) (fun c2 => ?_) (fun c2 => ?_)
    · refine lv_iconst (v := -1) hx hb dX0_first_44 (by decide +kernel) ?_
      exact cd_ret hx hb hr hlocks (Or.inl ⟨rfl, cd_first_s c2 hin⟩) dX0_first_45
    · have hmb : (j - x * a) % b < b := Nat.mod_lt _ hb1
      refine lv_iload_n hx hb dX0_first_20 rfl (lv_at hl 1 rfl) ?_
      refine lv_iload_n hx hb dX0_first_21 rfl (lv_at hl 2 rfl) ?_
      refine lv_aload_n hx hb dX0_first_22 rfl (lv_at hl 0 rfl) ?_
      refine va_get (D := (dC, dI)) (ci := 0) (v := .int (nI a)) (C := RX0) (T := TX0) (N := 4) hx hb hts in_X0 hown hK hP 0 rfl rfl 0 (by decide) (hts _ q18) (fun _ h9 => h9) rfl dX0_first_23 ?_
      refine cd_imul hx hb dX0_first_26 ?_
      refine cd_isub hx hb dX0_first_27 ?_
      refine lv_aload_n hx hb dX0_first_28 rfl (lv_at hl 0 rfl) ?_
      refine va_get (D := (dC, dI)) (ci := 0) (v := .int (nI b)) (C := RX0) (T := TX0) (N := 4) hx hb hts in_X0 hown hK hP 0 rfl rfl 1 (by decide) (hts _ q19) (fun _ h9 => h9) rfl dX0_first_29 ?_
      refine cd_irem hx hb dX0_first_32 ?_
      refine cd_if_ne (tgt := 38) hx hb dX0_first_33 (by decide) (fun c3 => ?_) (fun c3 => ?_)
      · refine cd_iinc (k := 2) (lv' := [(2, .int (nI (x + 1))), (0, .ref h0), (1, .int (nI j))]) hx hb dX0_first_38 hl rfl (by decide) rfl (fun ls hl => ?_)
        refine lv_goto (tgt := 2) hx hb dX0_first_41 (by decide) ?_
        exact ih (n - 1) ls (by omega) ⟨x + 1, by omega, fun y hy => by
          by_cases q : y = x
          · rw [q]; omega
          · exact hin y (by omega), lv_sub hl [1, 2, 0] rfl⟩
      · refine lv_iload_n hx hb dX0_first_36 rfl (lv_at hl 2 rfl) ?_
        exact cd_ret hx hb hr hlocks (Or.inr ⟨x, rfl, c1, c2, c3, hin⟩) dX0_first_37
set_option maxHeartbeats 4000000 in
set_option maxRecDepth 100000 in
theorem mt_X0_two (l : Launch) (dC : Nat → ClassId) (dI : Nat → Nat → Nat) (h0 h1 a b z : Nat) (v : Int32) (j : Nat) (hj : j < 1024) (hv : v &&& nI 1023 = nI j) (ha1 : 0 < a) (ha2 : a ≤ 32) (hb1 : 0 < b) (hb2 : b ≤ 32) : Met l yX0_two (ws_ yX0_two cX0_two 2 (some .boolean)) ({ frames := 1, cells := 0, slots := 0, locals := 22 }) (va_Pc [.ref h0, .int v] (fun U => va_P (dC, dI) vwCl [(h0, .inr (0, [.int (nI a), .int (nI b), .int (nI z), .ref h1]))] U.heap ∧ va_K (dC, dI) vwCl [] U)) (cd_Q (cd_B (cd_Two a b j))) 0 0 cd_no := by
  refine Met.ofW (cc := cX0_two) (maxL := 2) (ret := (some .boolean)) (by decide) rfl ?_
  intro p e s m args below meth c s₁ B hml hv
  obtain ⟨rfl, hP, hK⟩ := hv
  have hx := B.exec
  have hb := B.bytes
  have hr := B.returns
  have hts := atoms_spec (ws := ws_ yX0_two cX0_two 2 (some .boolean)) B.pre
  have hts : ∀ w ∈ lw_all, w.before _ s = true := fun w h => hts w (List.mem_cons_of_mem _ h)
  have hown : s.vm.findClass RX0 = some m.cls := findClass_of_methodNamed B.named
  have hlocks := B.notSynchronized
  have hl := lv_entry ([.ref h0, .int v]) (n := 2) (Nat.le_of_ble_eq_true rfl)
  rw [lg_entry_eq]
  generalize (lg_sl ([.ref h0, .int v]) ++ List.replicate (2 - (lg_sl ([.ref h0, .int v])).length) Slot.unset).toArray = ls at hl ⊢
  have hl : lv_has ls 2 [(0, .ref h0), (1, .int v)] := hl
  refine lv_aload_n hx hb dX0_two_0 rfl (lv_at hl 0 rfl) ?_
  refine lv_iload_n hx hb dX0_two_1 rfl (lv_at hl 1 rfl) ?_
  refine lv_sipush (v := nI 1023) hx hb dX0_two_2 (by decide +kernel) ?_
  refine lv_iand hx hb dX0_two_5 ?_
  refine cd_v (y := nI j) hv ?_
  refine cd_callr (W.runV (As := [.int (nI j)]) (rest := []) ⟨hx, hb, hml, hown, hts⟩ (mt_X0_first l dC dI h0 h1 a b z j ha1 ha2 hb1 hb2 hj) (cwV 1 hts (lw_V q73 q75 qs2 q6 q76) rfl rfl rfl (by decide +kernel) ⟨Nat.le_of_ble_eq_true rfl, Nat.le_of_ble_eq_true rfl⟩) (cd_pre hK hP (ci := 0) (q0 := 0) rfl rfl hP hK) rfl rfl hl.1 rfl (lv_room (Nat.le_of_ble_eq_true rfl)) dX0_two_6 ⟨Nat.le_of_ble_eq_true rfl, Nat.le_of_ble_eq_true rfl⟩) (fun r er => ?_)
  rcases er with ⟨er, hno⟩ | ⟨x, er, hxb, hxa, hx0, hxm⟩
  · subst er
    refine lv_if_lt (tgt := 16) hx hb dX0_two_9 (by decide) (fun c1 => ?_) (fun c1 => ?_)
    · refine lv_iconst (v := nI 0) hx hb dX0_two_16 (by decide +kernel) ?_
      exact cd_zret hx hb hr hlocks rfl (Or.inr ⟨rfl, hno⟩) dX0_two_17
    · exact absurd cd_neg1 c1
  · subst er
    refine lv_if_lt (tgt := 16) hx hb dX0_two_9 (by decide) (fun c1 => ?_) (fun c1 => ?_)
    · exact absurd c1 (nI_pos (by omega))
    · refine lv_iconst (v := nI 1) hx hb dX0_two_12 (by decide +kernel) ?_
      refine lv_goto (tgt := 17) hx hb dX0_two_13 (by decide) ?_
      exact cd_zret hx hb hr hlocks rfl (Or.inl ⟨rfl, x, hxa, hx0⟩) dX0_two_17
set_option maxHeartbeats 4000000 in
set_option maxRecDepth 100000 in
theorem mt_X0_ways (l : Launch) (dC : Nat → ClassId) (dI : Nat → Nat → Nat) (h0 h1 a b z : Nat) (v : Int32) (j : Nat) (hj : j < 1024) (hv : v &&& nI 1023 = nI j) (ha1 : 0 < a) (ha2 : a ≤ 32) (hb1 : 0 < b) (hb2 : b ≤ 32) : Met l yX0_ways (ws_ yX0_ways cX0_ways 4 (some .int)) ({ frames := 1, cells := 0, slots := 0, locals := 24 }) (va_Pc [.ref h0, .int v] (fun U => va_P (dC, dI) vwCl [(h0, .inr (0, [.int (nI a), .int (nI b), .int (nI z), .ref h1]))] U.heap ∧ va_K (dC, dI) vwCl [] U)) (cd_Q (fun r => r = nI (cd_cnt (cd_Way a b j) 1024))) 0 0 cd_no := by
  refine Met.ofW (cc := cX0_ways) (maxL := 4) (ret := (some .int)) (by decide) rfl ?_
  intro p e s m args below meth c s₁ B hml hv
  obtain ⟨rfl, hP, hK⟩ := hv
  have hx := B.exec
  have hb := B.bytes
  have hr := B.returns
  have hts := atoms_spec (ws := ws_ yX0_ways cX0_ways 4 (some .int)) B.pre
  have hts : ∀ w ∈ lw_all, w.before _ s = true := fun w h => hts w (List.mem_cons_of_mem _ h)
  have hown : s.vm.findClass RX0 = some m.cls := findClass_of_methodNamed B.named
  have hlocks := B.notSynchronized
  have hl := lv_entry ([.ref h0, .int v]) (n := 4) (Nat.le_of_ble_eq_true rfl)
  rw [lg_entry_eq]
  generalize (lg_sl ([.ref h0, .int v]) ++ List.replicate (4 - (lg_sl ([.ref h0, .int v])).length) Slot.unset).toArray = ls at hl ⊢
  have hl : lv_has ls 4 [(0, .ref h0), (1, .int v)] := hl
  refine lv_iload_n hx hb dX0_ways_0 rfl (lv_at hl 1 rfl) ?_
  refine lv_sipush (v := nI 1023) hx hb dX0_ways_1 (by decide +kernel) ?_
  refine lv_iand hx hb dX0_ways_4 ?_
  refine cd_v (y := nI j) hv ?_
  refine lv_istore_n (lv' := [(2, .int (nI j)), (0, .ref h0), (1, .int v)]) hx hb dX0_ways_5 rfl hl (by decide) rfl (fun ls hl => ?_)
  refine lv_aload_n hx hb dX0_ways_6 rfl (lv_at hl 1 rfl) ?_
  refine lv_iload_n hx hb dX0_ways_7 rfl (lv_at hl 0 rfl) ?_
  refine cd_callr (W.runV (As := [.int (nI j)]) (rest := []) ⟨hx, hb, hml, hown, hts⟩ (mt_X0_first l dC dI h0 h1 a b z j ha1 ha2 hb1 hb2 hj) (cwV 1 hts (lw_V q73 q75 qs2 q6 q76) rfl rfl rfl (by decide +kernel) ⟨Nat.le_of_ble_eq_true rfl, Nat.le_of_ble_eq_true rfl⟩) (cd_pre hK hP (ci := 0) (q0 := 0) rfl rfl hP hK) rfl rfl hl.1 rfl (lv_room (Nat.le_of_ble_eq_true rfl)) dX0_ways_8 ⟨Nat.le_of_ble_eq_true rfl, Nat.le_of_ble_eq_true rfl⟩) (fun r er => ?_)
  rcases er with ⟨er, hno⟩ | ⟨x, er, hxb, hxa, hx0, hxm⟩
  · subst er
    refine lv_istore_n (lv' := [(3, .int (-1)), (2, .int (nI j)), (0, .ref h0), (1, .int v)]) hx hb dX0_ways_11 rfl hl (by decide) rfl (fun ls hl => ?_)
    refine lv_iload_n hx hb dX0_ways_12 rfl (lv_at hl 0 rfl) ?_
    refine lv_if_ge (tgt := 20) hx hb dX0_ways_13 (by decide) (fun c1 => ?_) (fun c1 => ?_)
    · exact absurd c1 cd_m1_neg
    · refine lv_iconst (v := nI 0) hx hb dX0_ways_16 (by decide +kernel) ?_
      refine lv_goto (tgt := 52) hx hb dX0_ways_17 (by decide) ?_
      exact cd_ret hx hb hr hlocks (by rw [cd_ways_no hno]) dX0_ways_52
  · subst er
    refine lv_istore_n (lv' := [(3, .int (nI x)), (2, .int (nI j)), (0, .ref h0), (1, .int v)]) hx hb dX0_ways_11 rfl hl (by decide) rfl (fun ls hl => ?_)
    refine lv_iload_n hx hb dX0_ways_12 rfl (lv_at hl 0 rfl) ?_
    refine lv_if_ge (tgt := 20) hx hb dX0_ways_13 (by decide) (fun c1 => ?_) (fun c1 => ?_)
    · have hg1 : 0 < Nat.gcd a b := Nat.gcd_pos_of_pos_left b ha1
      have hg2 : Nat.gcd a b ≤ a := cd_gcd_le ha1
      have hd1 : 0 < b / Nat.gcd a b := Nat.div_pos (Nat.le_of_dvd hb1 (Nat.gcd_dvd_right a b)) hg1
      have hd2 : b / Nat.gcd a b ≤ b := Nat.div_le_self b _
      have hd3 : 0 < a * (b / Nat.gcd a b) := Nat.mul_pos ha1 hd1
      have hd4 : a * (b / Nat.gcd a b) ≤ 32 * 32 := Nat.mul_le_mul ha2 (Nat.le_trans hd2 hb2)
      refine lv_iconst (v := nI 1) hx hb dX0_ways_20 (by decide +kernel) ?_
      refine lv_iload_n hx hb dX0_ways_21 rfl (lv_at hl 1 rfl) ?_
      refine lv_iload_n hx hb dX0_ways_22 rfl (lv_at hl 0 rfl) ?_
      refine lv_aload_n hx hb dX0_ways_23 rfl (lv_at hl 2 rfl) ?_
      refine va_get (D := (dC, dI)) (ci := 0) (v := .int (nI a)) (C := RX0) (T := TX0) (N := 4) hx hb hts in_X0 hown hK hP 0 rfl rfl 0 (by decide) (hts _ q18) (fun _ h9 => h9) rfl dX0_ways_24 ?_
      refine cd_imul hx hb dX0_ways_27 ?_
      refine cd_isub hx hb dX0_ways_28 ?_
      refine lv_aload_n hx hb dX0_ways_29 rfl (lv_at hl 2 rfl) ?_
      refine va_get (D := (dC, dI)) (ci := 0) (v := .int (nI a)) (C := RX0) (T := TX0) (N := 4) hx hb hts in_X0 hown hK hP 0 rfl rfl 0 (by decide) (hts _ q18) (fun _ h9 => h9) rfl dX0_ways_30 ?_
      refine lv_aload_n hx hb dX0_ways_33 rfl (lv_at hl 2 rfl) ?_
      refine va_get (D := (dC, dI)) (ci := 0) (v := .int (nI b)) (C := RX0) (T := TX0) (N := 4) hx hb hts in_X0 hown hK hP 0 rfl rfl 1 (by decide) (hts _ q19) (fun _ h9 => h9) rfl dX0_ways_34 ?_
      refine lv_aload_n hx hb dX0_ways_37 rfl (lv_at hl 2 rfl) ?_
      refine va_get (D := (dC, dI)) (ci := 0) (v := .int (nI a)) (C := RX0) (T := TX0) (N := 4) hx hb hts in_X0 hown hK hP 0 rfl rfl 0 (by decide) (hts _ q18) (fun _ h9 => h9) rfl dX0_ways_38 ?_
      refine lv_aload_n hx hb dX0_ways_41 rfl (lv_at hl 2 rfl) ?_
      refine va_get (D := (dC, dI)) (ci := 0) (v := .int (nI b)) (C := RX0) (T := TX0) (N := 4) hx hb hts in_X0 hown hK hP 0 rfl rfl 1 (by decide) (hts _ q19) (fun _ h9 => h9) rfl dX0_ways_42 ?_
      refine cd_callr (W.runS (As := [.int (nI a), .int (nI b)]) (rest := [.int (nI b), .int (nI a), .int (nI (j - (x * a))), .int (nI 1)]) ⟨hx, hb, hml, hown, hts⟩ (mt_X0_common l a b (by omega) (by omega)) (va_cwS 2 hts (lw_S q40 q41 q6 q42) rfl rfl rfl (by decide +kernel) ⟨Nat.le_of_ble_eq_true rfl, Nat.le_of_ble_eq_true rfl⟩) cd_preS rfl rfl hl.1 rfl (lv_room (Nat.le_of_ble_eq_true rfl)) dX0_ways_45 ⟨Nat.le_of_ble_eq_true rfl, Nat.le_of_ble_eq_true rfl⟩) (fun r er => ?_)
      have er : r = nI (Nat.gcd a b) := er
      subst er
      refine cd_idiv hx hb dX0_ways_48 ?_
      refine cd_imul hx hb dX0_ways_49 ?_
      refine cd_idiv hx hb dX0_ways_50 ?_
      refine cd_iadd hx hb dX0_ways_51 ?_
      exact cd_ret hx hb hr hlocks (by rw [cd_ways ha1 hb1 hj hxa hx0 hxm]) dX0_ways_52
    · exact absurd (nI_pos' (by omega)) c1
set_option maxHeartbeats 4000000 in
set_option maxRecDepth 100000 in
theorem mt_X0_greatestTwo (l : Launch) (dC : Nat → ClassId) (dI : Nat → Nat → Nat) (h0 h1 a b z : Nat) (ha1 : 0 < a) (ha2 : a ≤ 32) (hb1 : 0 < b) (hb2 : b ≤ 32) : Met l yX0_greatestTwo (ws_ yX0_greatestTwo cX0_greatestTwo 1 (some .int)) ({ frames := 1, cells := 0, slots := 0, locals := 24 }) (va_Pc [.ref h0] (fun U => va_P (dC, dI) vwCl [(h0, .inr (0, [.int (nI a), .int (nI b), .int (nI z), .ref h1]))] U.heap ∧ va_K (dC, dI) vwCl [] U)) (cd_Q (cd_G (Nat.gcd a b) (cd_Top (a * b) (cd_Two a b)))) 0 0 cd_no := by
  refine Met.ofW (cc := cX0_greatestTwo) (maxL := 1) (ret := (some .int)) (by decide) rfl ?_
  intro p e s m args below meth c s₁ B hml hv
  obtain ⟨rfl, hP, hK⟩ := hv
  have hx := B.exec
  have hb := B.bytes
  have hr := B.returns
  have hts := atoms_spec (ws := ws_ yX0_greatestTwo cX0_greatestTwo 1 (some .int)) B.pre
  have hts : ∀ w ∈ lw_all, w.before _ s = true := fun w h => hts w (List.mem_cons_of_mem _ h)
  have hown : s.vm.findClass RX0 = some m.cls := findClass_of_methodNamed B.named
  have hlocks := B.notSynchronized
  have hl := lv_entry ([.ref h0]) (n := 1) (Nat.le_of_ble_eq_true rfl)
  rw [lg_entry_eq]
  generalize (lg_sl ([.ref h0]) ++ List.replicate (1 - (lg_sl ([.ref h0])).length) Slot.unset).toArray = ls at hl ⊢
  have hl : lv_has ls 1 [(0, .ref h0)] := hl
  have hg1 : 0 < Nat.gcd a b := Nat.gcd_pos_of_pos_left b ha1
  have hg2 : Nat.gcd a b ≤ a := cd_gcd_le ha1
  refine lv_aload_n hx hb dX0_greatestTwo_0 rfl (lv_at hl 0 rfl) ?_
  refine va_get (D := (dC, dI)) (ci := 0) (v := .int (nI a)) (C := RX0) (T := TX0) (N := 4) hx hb hts in_X0 hown hK hP 0 rfl rfl 0 (by decide) (hts _ q18) (fun _ h9 => h9) rfl dX0_greatestTwo_1 ?_
  refine lv_aload_n hx hb dX0_greatestTwo_4 rfl (lv_at hl 0 rfl) ?_
  refine va_get (D := (dC, dI)) (ci := 0) (v := .int (nI b)) (C := RX0) (T := TX0) (N := 4) hx hb hts in_X0 hown hK hP 0 rfl rfl 1 (by decide) (hts _ q19) (fun _ h9 => h9) rfl dX0_greatestTwo_5 ?_
  refine cd_callr (W.runS (As := [.int (nI a), .int (nI b)]) (rest := []) ⟨hx, hb, hml, hown, hts⟩ (mt_X0_common l a b (by omega) (by omega)) (va_cwS 2 hts (lw_S q40 q41 q6 q42) rfl rfl rfl (by decide +kernel) ⟨Nat.le_of_ble_eq_true rfl, Nat.le_of_ble_eq_true rfl⟩) cd_preS rfl rfl hl.1 rfl (lv_room (Nat.le_of_ble_eq_true rfl)) dX0_greatestTwo_8 ⟨Nat.le_of_ble_eq_true rfl, Nat.le_of_ble_eq_true rfl⟩) (fun r er => ?_)
  have er : r = nI (Nat.gcd a b) := er
  subst er
  refine lv_iconst (v := nI 1) hx hb dX0_greatestTwo_11 (by decide +kernel) ?_
  refine cd_icmp_le (tgt := 20) hx hb dX0_greatestTwo_12 (by decide) (fun c1 => ?_) (fun c1 => ?_)
  · refine lv_aload_n hx hb dX0_greatestTwo_20 rfl (lv_at hl 0 rfl) ?_
    refine va_get (D := (dC, dI)) (ci := 0) (v := .int (nI a)) (C := RX0) (T := TX0) (N := 4) hx hb hts in_X0 hown hK hP 0 rfl rfl 0 (by decide) (hts _ q18) (fun _ h9 => h9) rfl dX0_greatestTwo_21 ?_
    refine lv_aload_n hx hb dX0_greatestTwo_24 rfl (lv_at hl 0 rfl) ?_
    refine va_get (D := (dC, dI)) (ci := 0) (v := .int (nI b)) (C := RX0) (T := TX0) (N := 4) hx hb hts in_X0 hown hK hP 0 rfl rfl 1 (by decide) (hts _ q19) (fun _ h9 => h9) rfl dX0_greatestTwo_25 ?_
    refine cd_imul hx hb dX0_greatestTwo_28 ?_
    refine lv_aload_n hx hb dX0_greatestTwo_29 rfl (lv_at hl 0 rfl) ?_
    refine va_get (D := (dC, dI)) (ci := 0) (v := .int (nI a)) (C := RX0) (T := TX0) (N := 4) hx hb hts in_X0 hown hK hP 0 rfl rfl 0 (by decide) (hts _ q18) (fun _ h9 => h9) rfl dX0_greatestTwo_30 ?_
    refine lv_isub hx hb dX0_greatestTwo_33 ?_
    refine lv_aload_n hx hb dX0_greatestTwo_34 rfl (lv_at hl 0 rfl) ?_
    refine va_get (D := (dC, dI)) (ci := 0) (v := .int (nI b)) (C := RX0) (T := TX0) (N := 4) hx hb hts in_X0 hown hK hP 0 rfl rfl 1 (by decide) (hts _ q19) (fun _ h9 => h9) rfl dX0_greatestTwo_35 ?_
    refine lv_isub hx hb dX0_greatestTwo_38 ?_
    exact cd_ret hx hb hr hlocks (Or.inr ⟨by omega, cd_top_two ha1 hb1 (by omega)⟩) dX0_greatestTwo_39
  · refine lv_bipush (v := -2) hx hb dX0_greatestTwo_15 (by decide +kernel) ?_
    refine lv_goto (tgt := 39) hx hb dX0_greatestTwo_17 (by decide) ?_
    exact cd_ret hx hb hr hlocks (Or.inl ⟨by omega, rfl⟩) dX0_greatestTwo_39
set_option maxHeartbeats 4000000 in
set_option maxRecDepth 100000 in
theorem mt_X0_gapsTwo (l : Launch) (dC : Nat → ClassId) (dI : Nat → Nat → Nat) (h0 h1 a b z : Nat) (ha1 : 0 < a) (ha2 : a ≤ 32) (hb1 : 0 < b) (hb2 : b ≤ 32) : Met l yX0_gapsTwo (ws_ yX0_gapsTwo cX0_gapsTwo 1 (some .int)) ({ frames := 1, cells := 0, slots := 0, locals := 24 }) (va_Pc [.ref h0] (fun U => va_P (dC, dI) vwCl [(h0, .inr (0, [.int (nI a), .int (nI b), .int (nI z), .ref h1]))] U.heap ∧ va_K (dC, dI) vwCl [] U)) (cd_Q (cd_G (Nat.gcd a b) (fun r => r = nI (cd_cnt (fun v => ¬ cd_Two a b v) (a * b + 1))))) 0 0 cd_no := by
  refine Met.ofW (cc := cX0_gapsTwo) (maxL := 1) (ret := (some .int)) (by decide) rfl ?_
  intro p e s m args below meth c s₁ B hml hv
  obtain ⟨rfl, hP, hK⟩ := hv
  have hx := B.exec
  have hb := B.bytes
  have hr := B.returns
  have hts := atoms_spec (ws := ws_ yX0_gapsTwo cX0_gapsTwo 1 (some .int)) B.pre
  have hts : ∀ w ∈ lw_all, w.before _ s = true := fun w h => hts w (List.mem_cons_of_mem _ h)
  have hown : s.vm.findClass RX0 = some m.cls := findClass_of_methodNamed B.named
  have hlocks := B.notSynchronized
  have hl := lv_entry ([.ref h0]) (n := 1) (Nat.le_of_ble_eq_true rfl)
  rw [lg_entry_eq]
  generalize (lg_sl ([.ref h0]) ++ List.replicate (1 - (lg_sl ([.ref h0])).length) Slot.unset).toArray = ls at hl ⊢
  have hl : lv_has ls 1 [(0, .ref h0)] := hl
  have hg1 : 0 < Nat.gcd a b := Nat.gcd_pos_of_pos_left b ha1
  have hg2 : Nat.gcd a b ≤ a := cd_gcd_le ha1
  have hm : (a - 1) * (b - 1) ≤ 32 * 32 := Nat.mul_le_mul (by omega) (by omega)
  refine lv_aload_n hx hb dX0_gapsTwo_0 rfl (lv_at hl 0 rfl) ?_
  refine va_get (D := (dC, dI)) (ci := 0) (v := .int (nI a)) (C := RX0) (T := TX0) (N := 4) hx hb hts in_X0 hown hK hP 0 rfl rfl 0 (by decide) (hts _ q18) (fun _ h9 => h9) rfl dX0_gapsTwo_1 ?_
  refine lv_aload_n hx hb dX0_gapsTwo_4 rfl (lv_at hl 0 rfl) ?_
  refine va_get (D := (dC, dI)) (ci := 0) (v := .int (nI b)) (C := RX0) (T := TX0) (N := 4) hx hb hts in_X0 hown hK hP 0 rfl rfl 1 (by decide) (hts _ q19) (fun _ h9 => h9) rfl dX0_gapsTwo_5 ?_
  refine cd_callr (W.runS (As := [.int (nI a), .int (nI b)]) (rest := []) ⟨hx, hb, hml, hown, hts⟩ (mt_X0_common l a b (by omega) (by omega)) (va_cwS 2 hts (lw_S q40 q41 q6 q42) rfl rfl rfl (by decide +kernel) ⟨Nat.le_of_ble_eq_true rfl, Nat.le_of_ble_eq_true rfl⟩) cd_preS rfl rfl hl.1 rfl (lv_room (Nat.le_of_ble_eq_true rfl)) dX0_gapsTwo_8 ⟨Nat.le_of_ble_eq_true rfl, Nat.le_of_ble_eq_true rfl⟩) (fun r er => ?_)
  have er : r = nI (Nat.gcd a b) := er
  subst er
  refine lv_iconst (v := nI 1) hx hb dX0_gapsTwo_11 (by decide +kernel) ?_
  refine cd_icmp_le (tgt := 20) hx hb dX0_gapsTwo_12 (by decide) (fun c1 => ?_) (fun c1 => ?_)
  · refine lv_aload_n hx hb dX0_gapsTwo_20 rfl (lv_at hl 0 rfl) ?_
    refine va_get (D := (dC, dI)) (ci := 0) (v := .int (nI a)) (C := RX0) (T := TX0) (N := 4) hx hb hts in_X0 hown hK hP 0 rfl rfl 0 (by decide) (hts _ q18) (fun _ h9 => h9) rfl dX0_gapsTwo_21 ?_
    refine lv_iconst (v := nI 1) hx hb dX0_gapsTwo_24 (by decide +kernel) ?_
    refine cd_isub hx hb dX0_gapsTwo_25 ?_
    refine lv_aload_n hx hb dX0_gapsTwo_26 rfl (lv_at hl 0 rfl) ?_
    refine va_get (D := (dC, dI)) (ci := 0) (v := .int (nI b)) (C := RX0) (T := TX0) (N := 4) hx hb hts in_X0 hown hK hP 0 rfl rfl 1 (by decide) (hts _ q19) (fun _ h9 => h9) rfl dX0_gapsTwo_27 ?_
    refine lv_iconst (v := nI 1) hx hb dX0_gapsTwo_30 (by decide +kernel) ?_
    refine cd_isub hx hb dX0_gapsTwo_31 ?_
    refine cd_imul hx hb dX0_gapsTwo_32 ?_
    refine lv_iconst (v := nI 2) hx hb dX0_gapsTwo_33 (by decide +kernel) ?_
    refine cd_idiv hx hb dX0_gapsTwo_34 ?_
    exact cd_ret hx hb hr hlocks (Or.inr ⟨by omega, by rw [cd_gaps_two ha1 hb1 (by omega)]⟩) dX0_gapsTwo_35
  · refine lv_bipush (v := -2) hx hb dX0_gapsTwo_15 (by decide +kernel) ?_
    refine lv_goto (tgt := 35) hx hb dX0_gapsTwo_17 (by decide) ?_
    exact cd_ret hx hb hr hlocks (Or.inl ⟨by omega, rfl⟩) dX0_gapsTwo_35
end
section
/-! ChangeDesk.few (printed by gen/pure.py) -/
set_option maxHeartbeats 4000000 in
set_option maxRecDepth 100000 in
theorem mt_X0_few (l : Launch) (dC : Nat → ClassId) (dI : Nat → Nat → Nat) (h0 h1 a b z : Nat) (v : Int32) (j : Nat) (hj : j < 1024) (hv : v &&& nI 1023 = nI j) (ha1 : 0 < a) (ha2 : a ≤ 32) (hb1 : 0 < b) (hb2 : b ≤ 32) (hz1 : 0 < z) (hz2 : z ≤ 32) : Met l yX0_few (ws_ yX0_few cX0_few 11 (some .int)) ({ frames := 1, cells := 0, slots := 0, locals := 21 }) (va_Pc [.ref h0, .int v] (fun U => va_P (dC, dI) vwCl [(h0, .inr (0, [.int (nI a), .int (nI b), .int (nI z), .ref h1]))] U.heap ∧ va_K (dC, dI) vwCl [] U)) (cd_Q (cd_Min (cd_Pay a b z j))) 0 0 cd_no := by
  refine Met.ofW (cc := cX0_few) (maxL := 11) (ret := (some .int)) (by decide) rfl ?_
  intro p e s m args below meth c s₁ B hml hv
  obtain ⟨rfl, hP, hK⟩ := hv
  have hx := B.exec
  have hb := B.bytes
  have hr := B.returns
  have hts := atoms_spec (ws := ws_ yX0_few cX0_few 11 (some .int)) B.pre
  have hts : ∀ w ∈ lw_all, w.before _ s = true := fun w h => hts w (List.mem_cons_of_mem _ h)
  have hown : s.vm.findClass RX0 = some m.cls := findClass_of_methodNamed B.named
  have hlocks := B.notSynchronized
  have hl := lv_entry ([.ref h0, .int v]) (n := 11) (Nat.le_of_ble_eq_true rfl)
  rw [lg_entry_eq]
  generalize (lg_sl ([.ref h0, .int v]) ++ List.replicate (11 - (lg_sl ([.ref h0, .int v])).length) Slot.unset).toArray = ls at hl ⊢
  have hl : lv_has ls 11 [(0, .ref h0), (1, .int v)] := hl
  refine lv_iload_n hx hb dX0_few_0 rfl (lv_at hl 1 rfl) ?_
  refine lv_sipush (v := nI 1023) hx hb dX0_few_1 (by decide +kernel) ?_
  refine lv_iand hx hb dX0_few_4 ?_
  refine cd_v (y := nI j) hv ?_
  refine lv_istore_n (lv' := [(2, .int (nI j)), (0, .ref h0), (1, .int v)]) hx hb dX0_few_5 rfl hl (by decide) rfl (fun ls hl => ?_)
  refine lv_iconst (v := -1) hx hb dX0_few_6 (by decide +kernel) ?_
  refine lv_istore_n (lv' := [(3, .int (-1)), (2, .int (nI j)), (0, .ref h0), (1, .int v)]) hx hb dX0_few_7 rfl hl (by decide) rfl (fun ls hl => ?_)
  refine lv_aload_n hx hb dX0_few_8 rfl (lv_at hl 2 rfl) ?_
  refine va_get (D := (dC, dI)) (ci := 0) (v := .int (nI a)) (C := RX0) (T := TX0) (N := 4) hx hb hts in_X0 hown hK hP 0 rfl rfl 0 (by decide) (hts _ q18) (fun _ h9 => h9) rfl dX0_few_9 ?_
  refine lv_aload_n hx hb dX0_few_12 rfl (lv_at hl 2 rfl) ?_
  refine va_get (D := (dC, dI)) (ci := 0) (v := .int (nI b)) (C := RX0) (T := TX0) (N := 4) hx hb hts in_X0 hown hK hP 0 rfl rfl 1 (by decide) (hts _ q19) (fun _ h9 => h9) rfl dX0_few_13 ?_
  refine lv_aload_n hx hb dX0_few_16 rfl (lv_at hl 2 rfl) ?_
  refine va_get (D := (dC, dI)) (ci := 0) (v := .int (nI z)) (C := RX0) (T := TX0) (N := 4) hx hb hts in_X0 hown hK hP 0 rfl rfl 2 (by decide) (hts _ q20) (fun _ h9 => h9) rfl dX0_few_17 ?_
  refine cd_mmax hx hb (hml.trans hl.1.symm) hown hts (Nat.le_of_ble_eq_true rfl) (Nat.le_of_ble_eq_true rfl) (Nat.le_of_ble_eq_true rfl) (Nat.le_of_ble_eq_true rfl) dX0_few_20 ?_
  refine cd_mmax hx hb (hml.trans hl.1.symm) hown hts (Nat.le_of_ble_eq_true rfl) (Nat.le_of_ble_eq_true rfl) (Nat.le_of_ble_eq_true rfl) (Nat.le_of_ble_eq_true rfl) dX0_few_23 ?_
  refine cd_topn (fun g hg => ?_)
  refine lv_istore (lv' := [(4, .int (nI g)), (3, .int (-1)), (2, .int (nI j)), (0, .ref h0), (1, .int v)]) hx hb dX0_few_26 hl (by decide) rfl (fun ls hl => ?_)
  have hg1 : 0 < g := by omega
  have hg2 : g ≤ 32 := by omega
  refine cd_meet (pc1 := 81) (fun ls => ∃ p1 q1 : Nat, p1 ≤ g ∧ q1 ≤ g ∧ (∀ n, cd_Pay p1 q1 g j n ↔ cd_Pay a b z j n) ∧ lv_has ls 11 [(0, .ref h0), (2, .int (nI j)), (3, .int (-1)), (4, .int (nI g)), (5, .int (nI p1)), (6, .int (nI q1))]) ?_ (fun K => ?_)
  · rintro ls ⟨p1, q1, hp1, hq1, hpay, hl⟩
    refine lv_iconst (v := nI 0) hx hb dX0_few_81 (by decide +kernel) ?_
    refine lv_istore (lv' := [(7, .int (nI 0)), (0, .ref h0), (2, .int (nI j)), (3, .int (-1)), (4, .int (nI g)), (5, .int (nI p1)), (6, .int (nI q1))]) hx hb dX0_few_82 hl (by decide) rfl (fun ls hl => ?_)
    refine cd_loop (head := 84) (fun n ls => ∃ (x : Nat) (r : Int32), n + x = g ∧ cd_Min (cd_F p1 q1 g j x 0) r ∧ lv_has ls 11 [(0, .ref h0), (2, .int (nI j)), (3, .int r), (4, .int (nI g)), (5, .int (nI p1)), (6, .int (nI q1)), (7, .int (nI x))]) ?_ g ls ⟨0, -1, rfl, Or.inl ⟨rfl, fun n => cd_F_0⟩, lv_sub hl [1, 2, 3, 4, 5, 6, 0] rfl⟩
    rintro n ls ⟨x, r, en, hmin, hl⟩ ih
    have hxp : x * p1 ≤ 32 * 32 := Nat.mul_le_mul (by omega) (by omega)
    refine lv_iload hx hb dX0_few_84 (lv_at hl 6 rfl) ?_
    refine lv_iload hx hb dX0_few_86 (lv_at hl 3 rfl) ?_
    refine cd_icmp_ge (tgt := 186) hx hb dX0_few_88 (by decide) (fun c1 => ?_) (fun c1 => ?_)
    · refine lv_iload_n hx hb dX0_few_186 rfl (lv_at hl 2 rfl) ?_
      exact cd_ret hx hb hr hlocks ((cd_few_to hp1 hq1 hg1 (hmin.by_iff (fun k => cd_F_end (Or.inl (by omega))))).by_iff hpay) dX0_few_187
    · refine lv_iload hx hb dX0_few_91 (lv_at hl 6 rfl) ?_
      refine lv_iload hx hb dX0_few_93 (lv_at hl 4 rfl) ?_
      refine cd_imul hx hb dX0_few_95 ?_
      refine lv_iload_n hx hb dX0_few_96 rfl (lv_at hl 1 rfl) ?_
      refine cd_icmp_gt (tgt := 186) hx hb dX0_few_97 (by decide) (fun c2 => ?_) (fun c2 => ?_)
      · refine lv_iload_n hx hb dX0_few_186 rfl (lv_at hl 2 rfl) ?_
        exact cd_ret hx hb hr hlocks ((cd_few_to hp1 hq1 hg1 (hmin.by_iff (fun k => cd_F_end (Or.inr ⟨c2, by omega⟩)))).by_iff hpay) dX0_few_187
      · refine lv_iconst (v := nI 0) hx hb dX0_few_100 (by decide +kernel) ?_
        refine lv_istore (lv' := [(8, .int (nI 0)), (0, .ref h0), (2, .int (nI j)), (3, .int r), (4, .int (nI g)), (5, .int (nI p1)), (6, .int (nI q1)), (7, .int (nI x))]) hx hb dX0_few_101 hl (by decide) rfl (fun ls hl => ?_)
        refine cd_loop (head := 103) (fun n2 ls => ∃ (y : Nat) (r : Int32), n2 + y = g ∧ cd_Min (cd_F p1 q1 g j x y) r ∧ lv_has ls 11 [(0, .ref h0), (2, .int (nI j)), (3, .int r), (4, .int (nI g)), (5, .int (nI p1)), (6, .int (nI q1)), (7, .int (nI x)), (8, .int (nI y))]) ?_ g ls ⟨0, r, rfl, hmin, lv_sub hl [1, 2, 3, 4, 5, 6, 7, 0] rfl⟩
        clear hmin hl
        rintro n2 ls ⟨y, r, en2, hmin, hl⟩ ih2
        have hyq : y * q1 ≤ 32 * 32 := Nat.mul_le_mul (by omega) (by omega)
        refine lv_iload hx hb dX0_few_103 (lv_at hl 7 rfl) ?_
        refine lv_iload hx hb dX0_few_105 (lv_at hl 3 rfl) ?_
        refine cd_icmp_ge (tgt := 180) hx hb dX0_few_107 (by decide) (fun c3 => ?_) (fun c3 => ?_)
        · refine cd_iinc (k := 6) (lv' := [(7, .int (nI (x + 1))), (0, .ref h0), (2, .int (nI j)), (3, .int r), (4, .int (nI g)), (5, .int (nI p1)), (6, .int (nI q1)), (8, .int (nI y))]) hx hb dX0_few_180 hl rfl (by decide) rfl (fun ls hl => ?_)
          refine lv_goto (tgt := 84) hx hb dX0_few_183 (by decide) ?_
          exact ih (n - 1) ls (by omega) ⟨x + 1, r, by omega, hmin.by_iff (fun k => cd_F_row (Or.inl (by omega))), lv_sub hl [1, 2, 3, 4, 5, 6, 0] rfl⟩
        · refine lv_iload hx hb dX0_few_110 (lv_at hl 6 rfl) ?_
          refine lv_iload hx hb dX0_few_112 (lv_at hl 4 rfl) ?_
          refine cd_imul hx hb dX0_few_114 ?_
          refine lv_iload hx hb dX0_few_115 (lv_at hl 7 rfl) ?_
          refine lv_iload hx hb dX0_few_117 (lv_at hl 5 rfl) ?_
          refine cd_imul hx hb dX0_few_119 ?_
          refine cd_iadd hx hb dX0_few_120 ?_
          refine lv_iload_n hx hb dX0_few_121 rfl (lv_at hl 1 rfl) ?_
          refine cd_icmp_gt (tgt := 180) hx hb dX0_few_122 (by decide) (fun c4 => ?_) (fun c4 => ?_)
          · refine cd_iinc (k := 6) (lv' := [(7, .int (nI (x + 1))), (0, .ref h0), (2, .int (nI j)), (3, .int r), (4, .int (nI g)), (5, .int (nI p1)), (6, .int (nI q1)), (8, .int (nI y))]) hx hb dX0_few_180 hl rfl (by decide) rfl (fun ls hl => ?_)
            refine lv_goto (tgt := 84) hx hb dX0_few_183 (by decide) ?_
            exact ih (n - 1) ls (by omega) ⟨x + 1, r, by omega, hmin.by_iff (fun k => cd_F_row (Or.inr ⟨c4, by omega⟩)), lv_sub hl [1, 2, 3, 4, 5, 6, 0] rfl⟩
          · have hdv : (j - x * p1 - y * q1) / g ≤ j - x * p1 - y * q1 := Nat.div_le_self _ _
            have hmd : (j - x * p1 - y * q1) % g < g := Nat.mod_lt _ hg1
            refine lv_iload_n hx hb dX0_few_125 rfl (lv_at hl 1 rfl) ?_
            refine lv_iload hx hb dX0_few_126 (lv_at hl 6 rfl) ?_
            refine lv_iload hx hb dX0_few_128 (lv_at hl 4 rfl) ?_
            refine cd_imul hx hb dX0_few_130 ?_
            refine cd_isub hx hb dX0_few_131 ?_
            refine lv_iload hx hb dX0_few_132 (lv_at hl 7 rfl) ?_
            refine lv_iload hx hb dX0_few_134 (lv_at hl 5 rfl) ?_
            refine cd_imul hx hb dX0_few_136 ?_
            refine cd_isub hx hb dX0_few_137 ?_
            refine lv_istore (lv' := [(9, .int (nI ((j - (x * p1)) - (y * q1)))), (0, .ref h0), (2, .int (nI j)), (3, .int r), (4, .int (nI g)), (5, .int (nI p1)), (6, .int (nI q1)), (7, .int (nI x)), (8, .int (nI y))]) hx hb dX0_few_138 hl (by decide) rfl (fun ls hl => ?_)
            refine lv_iload hx hb dX0_few_140 (lv_at hl 7 rfl) ?_
            refine lv_iload hx hb dX0_few_142 (lv_at hl 8 rfl) ?_
            refine cd_iadd hx hb dX0_few_144 ?_
            refine lv_iload hx hb dX0_few_145 (lv_at hl 0 rfl) ?_
            refine lv_iload hx hb dX0_few_147 (lv_at hl 4 rfl) ?_
            refine cd_idiv hx hb dX0_few_149 ?_
            refine cd_iadd hx hb dX0_few_150 ?_
            refine lv_istore (lv' := [(10, .int (nI ((x + y) + (((j - (x * p1)) - (y * q1)) / g)))), (9, .int (nI ((j - (x * p1)) - (y * q1)))), (0, .ref h0), (2, .int (nI j)), (3, .int r), (4, .int (nI g)), (5, .int (nI p1)), (6, .int (nI q1)), (7, .int (nI x)), (8, .int (nI y))]) hx hb dX0_few_151 hl (by decide) rfl (fun ls hl => ?_)
            refine lv_iload hx hb dX0_few_153 (lv_at hl 1 rfl) ?_
            refine lv_iload hx hb dX0_few_155 (lv_at hl 5 rfl) ?_
            refine cd_irem hx hb dX0_few_157 ?_
            refine cd_if_ne (tgt := 174) hx hb dX0_few_158 (by decide) (fun c5 => ?_) (fun c5 => ?_)
            · refine cd_iinc (k := 9) (lv' := [(8, .int (nI (y + 1))), (10, .int (nI ((x + y) + (((j - (x * p1)) - (y * q1)) / g)))), (9, .int (nI ((j - (x * p1)) - (y * q1)))), (0, .ref h0), (2, .int (nI j)), (3, .int r), (4, .int (nI g)), (5, .int (nI p1)), (6, .int (nI q1)), (7, .int (nI x))]) hx hb dX0_few_174 hl rfl (by decide) rfl (fun ls hl => ?_)
              refine lv_goto (tgt := 103) hx hb dX0_few_177 (by decide) ?_
              exact ih2 (n2 - 1) ls (by omega) ⟨y + 1, r, by omega, cd_F_no hmin c5, lv_sub hl [3, 4, 5, 6, 7, 8, 9, 0] rfl⟩
            · refine lv_iload_n hx hb dX0_few_161 rfl (lv_at hl 4 rfl) ?_
              refine lv_if_lt (tgt := 171) hx hb dX0_few_162 (by decide) (fun c6 => ?_) (fun c6 => ?_)
              · have hno := (hmin.neg (fun k hk => cd_F_lt (by omega) (by omega) hg2 hj hk) c6).2
                refine lv_iload hx hb dX0_few_171 (lv_at hl 0 rfl) ?_
                refine lv_istore_n (lv' := [(3, .int (nI ((x + y) + (((j - (x * p1)) - (y * q1)) / g)))), (10, .int (nI ((x + y) + (((j - (x * p1)) - (y * q1)) / g)))), (9, .int (nI ((j - (x * p1)) - (y * q1)))), (0, .ref h0), (2, .int (nI j)), (4, .int (nI g)), (5, .int (nI p1)), (6, .int (nI q1)), (7, .int (nI x)), (8, .int (nI y))]) hx hb dX0_few_173 rfl hl (by decide) rfl (fun ls hl => ?_)
                refine cd_iinc (k := 9) (lv' := [(8, .int (nI (y + 1))), (3, .int (nI ((x + y) + (((j - (x * p1)) - (y * q1)) / g)))), (10, .int (nI ((x + y) + (((j - (x * p1)) - (y * q1)) / g)))), (9, .int (nI ((j - (x * p1)) - (y * q1)))), (0, .ref h0), (2, .int (nI j)), (4, .int (nI g)), (5, .int (nI p1)), (6, .int (nI q1)), (7, .int (nI x))]) hx hb dX0_few_174 hl rfl (by decide) rfl (fun ls hl => ?_)
                refine lv_goto (tgt := 103) hx hb dX0_few_177 (by decide) ?_
                exact ih2 (n2 - 1) ls (by omega) ⟨y + 1, nI (x + y + (j - x * p1 - y * q1) / g), by omega, cd_F_add c4 c5 (cd_Min.fresh (fun k hk => absurd hk (hno k))), lv_sub hl [4, 5, 1, 6, 7, 8, 9, 0] rfl⟩
              · obtain ⟨k0, er, hk0, hkl⟩ := hmin.nonneg c6
                have hk9 : k0 < 2 ^ 31 := cd_F_lt (by omega) (by omega) hg2 hj hk0
                subst er
                refine lv_iload hx hb dX0_few_165 (lv_at hl 0 rfl) ?_
                refine lv_iload_n hx hb dX0_few_167 rfl (lv_at hl 4 rfl) ?_
                refine cd_icmp_ge (tgt := 174) hx hb dX0_few_168 (by decide) (fun c7 => ?_) (fun c7 => ?_)
                · refine cd_iinc (k := 9) (lv' := [(8, .int (nI (y + 1))), (10, .int (nI ((x + y) + (((j - (x * p1)) - (y * q1)) / g)))), (9, .int (nI ((j - (x * p1)) - (y * q1)))), (0, .ref h0), (2, .int (nI j)), (3, .int (nI k0)), (4, .int (nI g)), (5, .int (nI p1)), (6, .int (nI q1)), (7, .int (nI x))]) hx hb dX0_few_174 hl rfl (by decide) rfl (fun ls hl => ?_)
                  refine lv_goto (tgt := 103) hx hb dX0_few_177 (by decide) ?_
                  exact ih2 (n2 - 1) ls (by omega) ⟨y + 1, nI k0, by omega, cd_F_add c4 c5 (cd_Min.keep hk0 hkl c7), lv_sub hl [3, 4, 5, 6, 7, 8, 9, 0] rfl⟩
                · refine lv_iload hx hb dX0_few_171 (lv_at hl 0 rfl) ?_
                  refine lv_istore_n (lv' := [(3, .int (nI ((x + y) + (((j - (x * p1)) - (y * q1)) / g)))), (10, .int (nI ((x + y) + (((j - (x * p1)) - (y * q1)) / g)))), (9, .int (nI ((j - (x * p1)) - (y * q1)))), (0, .ref h0), (2, .int (nI j)), (4, .int (nI g)), (5, .int (nI p1)), (6, .int (nI q1)), (7, .int (nI x)), (8, .int (nI y))]) hx hb dX0_few_173 rfl hl (by decide) rfl (fun ls hl => ?_)
                  refine cd_iinc (k := 9) (lv' := [(8, .int (nI (y + 1))), (3, .int (nI ((x + y) + (((j - (x * p1)) - (y * q1)) / g)))), (10, .int (nI ((x + y) + (((j - (x * p1)) - (y * q1)) / g)))), (9, .int (nI ((j - (x * p1)) - (y * q1)))), (0, .ref h0), (2, .int (nI j)), (4, .int (nI g)), (5, .int (nI p1)), (6, .int (nI q1)), (7, .int (nI x))]) hx hb dX0_few_174 hl rfl (by decide) rfl (fun ls hl => ?_)
                  refine lv_goto (tgt := 103) hx hb dX0_few_177 (by decide) ?_
                  exact ih2 (n2 - 1) ls (by omega) ⟨y + 1, nI (x + y + (j - x * p1 - y * q1) / g), by omega, cd_F_add c4 c5 (cd_Min.fresh (fun k hk => Nat.le_trans (Nat.le_of_lt c7) (hkl k hk))), lv_sub hl [4, 5, 1, 6, 7, 8, 9, 0] rfl⟩
  · refine lv_iload hx hb dX0_few_28 (lv_at hl 0 rfl) ?_
    refine lv_aload_n hx hb dX0_few_30 rfl (lv_at hl 3 rfl) ?_
    refine va_get (D := (dC, dI)) (ci := 0) (v := .int (nI a)) (C := RX0) (T := TX0) (N := 4) hx hb hts in_X0 hown hK hP 0 rfl rfl 0 (by decide) (hts _ q18) (fun _ h9 => h9) rfl dX0_few_31 ?_
    refine cd_icmp_ne (tgt := 44) hx hb dX0_few_34 (by decide) (fun c1 => ?_) (fun c1 => ?_)
    · refine lv_aload_n hx hb dX0_few_44 rfl (lv_at hl 3 rfl) ?_
      refine va_get (D := (dC, dI)) (ci := 0) (v := .int (nI a)) (C := RX0) (T := TX0) (N := 4) hx hb hts in_X0 hown hK hP 0 rfl rfl 0 (by decide) (hts _ q18) (fun _ h9 => h9) rfl dX0_few_45 ?_
      refine lv_istore (lv' := [(5, .int (nI a)), (4, .int (nI g)), (3, .int (-1)), (2, .int (nI j)), (0, .ref h0), (1, .int v)]) hx hb dX0_few_48 hl (by decide) rfl (fun ls hl => ?_)
      refine lv_iload hx hb dX0_few_50 (lv_at hl 1 rfl) ?_
      refine lv_aload_n hx hb dX0_few_52 rfl (lv_at hl 4 rfl) ?_
      refine va_get (D := (dC, dI)) (ci := 0) (v := .int (nI a)) (C := RX0) (T := TX0) (N := 4) hx hb hts in_X0 hown hK hP 0 rfl rfl 0 (by decide) (hts _ q18) (fun _ h9 => h9) rfl dX0_few_53 ?_
      refine cd_icmp_eq (tgt := 68) hx hb dX0_few_56 (by decide) (fun c2 => ?_) (fun c2 => ?_)
      · exact absurd c2 c1
      · refine lv_iload hx hb dX0_few_59 (lv_at hl 1 rfl) ?_
        refine lv_aload_n hx hb dX0_few_61 rfl (lv_at hl 4 rfl) ?_
        refine va_get (D := (dC, dI)) (ci := 0) (v := .int (nI b)) (C := RX0) (T := TX0) (N := 4) hx hb hts in_X0 hown hK hP 0 rfl rfl 1 (by decide) (hts _ q19) (fun _ h9 => h9) rfl dX0_few_62 ?_
        refine cd_icmp_ne (tgt := 75) hx hb dX0_few_65 (by decide) (fun c3 => ?_) (fun c3 => ?_)
        · have eg : g = z := by omega
          refine lv_aload_n hx hb dX0_few_75 rfl (lv_at hl 4 rfl) ?_
          refine va_get (D := (dC, dI)) (ci := 0) (v := .int (nI b)) (C := RX0) (T := TX0) (N := 4) hx hb hts in_X0 hown hK hP 0 rfl rfl 1 (by decide) (hts _ q19) (fun _ h9 => h9) rfl dX0_few_76 ?_
          refine lv_istore (lv' := [(6, .int (nI b)), (5, .int (nI a)), (4, .int (nI g)), (3, .int (-1)), (2, .int (nI j)), (0, .ref h0), (1, .int v)]) hx hb dX0_few_79 hl (by decide) rfl (fun ls hl => ?_)
          exact K ls ⟨a, b, by omega, by omega, fun n => by rw [eg], lv_sub hl [5, 4, 3, 2, 1, 0] rfl⟩
        · refine lv_aload_n hx hb dX0_few_68 rfl (lv_at hl 4 rfl) ?_
          refine va_get (D := (dC, dI)) (ci := 0) (v := .int (nI z)) (C := RX0) (T := TX0) (N := 4) hx hb hts in_X0 hown hK hP 0 rfl rfl 2 (by decide) (hts _ q20) (fun _ h9 => h9) rfl dX0_few_69 ?_
          refine lv_goto (tgt := 79) hx hb dX0_few_72 (by decide) ?_
          refine lv_istore (lv' := [(6, .int (nI z)), (5, .int (nI a)), (4, .int (nI g)), (3, .int (-1)), (2, .int (nI j)), (0, .ref h0), (1, .int v)]) hx hb dX0_few_79 hl (by decide) rfl (fun ls hl => ?_)
          exact K ls ⟨a, z, by omega, by omega, fun n => by rw [c3]; exact cd_pay_acb, lv_sub hl [5, 4, 3, 2, 1, 0] rfl⟩
    · refine lv_aload_n hx hb dX0_few_37 rfl (lv_at hl 3 rfl) ?_
      refine va_get (D := (dC, dI)) (ci := 0) (v := .int (nI b)) (C := RX0) (T := TX0) (N := 4) hx hb hts in_X0 hown hK hP 0 rfl rfl 1 (by decide) (hts _ q19) (fun _ h9 => h9) rfl dX0_few_38 ?_
      refine lv_goto (tgt := 48) hx hb dX0_few_41 (by decide) ?_
      refine lv_istore (lv' := [(5, .int (nI b)), (4, .int (nI g)), (3, .int (-1)), (2, .int (nI j)), (0, .ref h0), (1, .int v)]) hx hb dX0_few_48 hl (by decide) rfl (fun ls hl => ?_)
      refine lv_iload hx hb dX0_few_50 (lv_at hl 1 rfl) ?_
      refine lv_aload_n hx hb dX0_few_52 rfl (lv_at hl 4 rfl) ?_
      refine va_get (D := (dC, dI)) (ci := 0) (v := .int (nI a)) (C := RX0) (T := TX0) (N := 4) hx hb hts in_X0 hown hK hP 0 rfl rfl 0 (by decide) (hts _ q18) (fun _ h9 => h9) rfl dX0_few_53 ?_
      refine cd_icmp_eq (tgt := 68) hx hb dX0_few_56 (by decide) (fun c2 => ?_) (fun c2 => ?_)
      · refine lv_aload_n hx hb dX0_few_68 rfl (lv_at hl 4 rfl) ?_
        refine va_get (D := (dC, dI)) (ci := 0) (v := .int (nI z)) (C := RX0) (T := TX0) (N := 4) hx hb hts in_X0 hown hK hP 0 rfl rfl 2 (by decide) (hts _ q20) (fun _ h9 => h9) rfl dX0_few_69 ?_
        refine lv_goto (tgt := 79) hx hb dX0_few_72 (by decide) ?_
        refine lv_istore (lv' := [(6, .int (nI z)), (5, .int (nI b)), (4, .int (nI g)), (3, .int (-1)), (2, .int (nI j)), (0, .ref h0), (1, .int v)]) hx hb dX0_few_79 hl (by decide) rfl (fun ls hl => ?_)
        exact K ls ⟨b, z, by omega, by omega, fun n => by rw [c1]; exact cd_pay_bca, lv_sub hl [5, 4, 3, 2, 1, 0] rfl⟩
      · exact absurd c1 c2
end
section
/-! ChangeDeskModel: the methods that change nothing (printed by gen/pure.py) -/
set_option maxHeartbeats 4000000 in
set_option maxRecDepth 100000 in
theorem mt_X1_divisor (l : Launch) (x y : Nat) (hx0 : x < 2 ^ 31) (hy0 : y < 2 ^ 31) : Met l yX1_divisor (ws_ yX1_divisor cX1_divisor 5 (some .int)) ({ frames := 0, cells := 0, slots := 0, locals := 0 }) (va_Pc [.int (nI x), .int (nI y)] (fun _ => True)) (cd_Q (fun r => r = nI (Nat.gcd x y))) 0 0 cd_no := by
  refine Met.ofW (cc := cX1_divisor) (maxL := 5) (ret := (some .int)) (by decide) rfl ?_
  intro p e s m args below meth c s₁ B hml hv
  obtain ⟨rfl, -⟩ := hv
  have hx := B.exec
  have hb := B.bytes
  have hr := B.returns
  have hts := atoms_spec (ws := ws_ yX1_divisor cX1_divisor 5 (some .int)) B.pre
  have hts : ∀ w ∈ lw_all, w.before _ s = true := fun w h => hts w (List.mem_cons_of_mem _ h)
  have hown : s.vm.findClass RX1 = some m.cls := findClass_of_methodNamed B.named
  have hlocks := B.notSynchronized
  have hl := lv_entry ([.int (nI x), .int (nI y)]) (n := 5) (Nat.le_of_ble_eq_true rfl)
  rw [lg_entry_eq]
  generalize (lg_sl ([.int (nI x), .int (nI y)]) ++ List.replicate (5 - (lg_sl ([.int (nI x), .int (nI y)])).length) Slot.unset).toArray = ls at hl ⊢
  have hl : lv_has ls 5 [(0, .int (nI x)), (1, .int (nI y))] := hl
  refine lv_iload_n hx hb dX1_divisor_0 rfl (lv_at hl 0 rfl) ?_
  refine lv_istore_n (lv' := [(2, .int (nI x)), (0, .int (nI x)), (1, .int (nI y))]) hx hb dX1_divisor_1 rfl hl (by decide) rfl (fun ls hl => ?_)
  refine lv_iload_n hx hb dX1_divisor_2 rfl (lv_at hl 2 rfl) ?_
  refine lv_istore_n (lv' := [(3, .int (nI y)), (2, .int (nI x)), (0, .int (nI x)), (1, .int (nI y))]) hx hb dX1_divisor_3 rfl hl (by decide) rfl (fun ls hl => ?_)
  refine cd_loop (head := 4) (fun n ls => ∃ u v : Nat, n = v ∧ u < 2 ^ 31 ∧ v < 2 ^ 31 ∧ Nat.gcd u v = Nat.gcd x y ∧ lv_has ls 5 [(2, .int (nI u)), (3, .int (nI v))]) ?_ y ls ⟨x, y, rfl, hx0, hy0, rfl, lv_sub hl [1, 0] rfl⟩
  rintro n ls ⟨u, v, e1, hu, hv, eg, hl⟩ ih
  subst e1
  refine lv_iload_n hx hb dX1_divisor_4 rfl (lv_at hl 1 rfl) ?_
  refine cd_if_eq (tgt := 21) hx hb dX1_divisor_5 (by decide) (fun c1 => ?_) (fun c1 => ?_)
  · refine lv_iload_n hx hb dX1_divisor_21 rfl (lv_at hl 0 rfl) ?_
    exact cd_ret hx hb hr hlocks (by rw [← eg, c1, Nat.gcd_zero_right]) dX1_divisor_22
  · have hm : u % n < n := Nat.mod_lt u c1
    have hm2 : Nat.gcd n (u % n) = Nat.gcd u n := cd_gcd_step u n
    refine lv_iload_n hx hb dX1_divisor_8 rfl (lv_at hl 0 rfl) ?_
    refine lv_iload_n hx hb dX1_divisor_9 rfl (lv_at hl 1 rfl) ?_
    refine cd_irem hx hb dX1_divisor_10 ?_
    refine lv_istore (lv' := [(4, .int (nI (u % n))), (2, .int (nI u)), (3, .int (nI n))]) hx hb dX1_divisor_11 hl (by decide) rfl (fun ls hl => ?_)
    refine lv_iload_n hx hb dX1_divisor_13 rfl (lv_at hl 2 rfl) ?_
    refine lv_istore_n (lv' := [(2, .int (nI n)), (4, .int (nI (u % n))), (3, .int (nI n))]) hx hb dX1_divisor_14 rfl hl (by decide) rfl (fun ls hl => ?_)
    refine lv_iload hx hb dX1_divisor_15 (lv_at hl 1 rfl) ?_
    refine lv_istore_n (lv' := [(3, .int (nI (u % n))), (2, .int (nI n)), (4, .int (nI (u % n)))]) hx hb dX1_divisor_17 rfl hl (by decide) rfl (fun ls hl => ?_)
    refine lv_goto (tgt := 4) hx hb dX1_divisor_18 (by decide) ?_
    exact ih (u % n) ls hm ⟨n, u % n, rfl, hv, by omega, by rw [hm2]; exact eg, lv_sub hl [1, 0] rfl⟩
set_option maxHeartbeats 4000000 in
set_option maxRecDepth 100000 in
theorem mt_X1_pays (l : Launch) (dC : Nat → ClassId) (dI : Nat → Nat → Nat) (h0 h1 a b z : Nat) (kn : Int32) (j : Nat) (ha1 : 0 < a) (ha2 : a ≤ 32) (hb1 : 0 < b) (hb2 : b ≤ 32) (hj : j ≤ 1024) : Met l yX1_pays (ws_ yX1_pays cX1_pays 3 (some .boolean)) ({ frames := 0, cells := 0, slots := 0, locals := 0 }) (va_Pc [.ref h0, .int (nI j)] (fun U => va_P (dC, dI) vwCl [(h0, .inr (1, [.int (nI a), .int (nI b), .int (nI z), .ref h1, .int kn]))] U.heap ∧ va_K (dC, dI) vwCl [] U)) (cd_Q (cd_B (cd_Two a b j))) 0 0 cd_no := by
  refine Met.ofW (cc := cX1_pays) (maxL := 3) (ret := (some .boolean)) (by decide) rfl ?_
  intro p e s m args below meth c s₁ B hml hv
  obtain ⟨rfl, hP, hK⟩ := hv
  have hx := B.exec
  have hb := B.bytes
  have hr := B.returns
  have hts := atoms_spec (ws := ws_ yX1_pays cX1_pays 3 (some .boolean)) B.pre
  have hts : ∀ w ∈ lw_all, w.before _ s = true := fun w h => hts w (List.mem_cons_of_mem _ h)
  have hown : s.vm.findClass RX1 = some m.cls := findClass_of_methodNamed B.named
  have hlocks := B.notSynchronized
  have hl := lv_entry ([.ref h0, .int (nI j)]) (n := 3) (Nat.le_of_ble_eq_true rfl)
  rw [lg_entry_eq]
  generalize (lg_sl ([.ref h0, .int (nI j)]) ++ List.replicate (3 - (lg_sl ([.ref h0, .int (nI j)])).length) Slot.unset).toArray = ls at hl ⊢
  have hl : lv_has ls 3 [(0, .ref h0), (1, .int (nI j))] := hl
  refine lv_iconst (v := nI 0) hx hb dX1_pays_0 (by decide +kernel) ?_
  refine lv_istore_n (lv' := [(2, .int (nI 0)), (0, .ref h0), (1, .int (nI j))]) hx hb dX1_pays_1 rfl hl (by decide) rfl (fun ls hl => ?_)
  refine cd_loop (head := 2) (fun n ls => ∃ x : Nat, n + x = 1025 ∧ (x = 0 ∨ (x - 1) * a ≤ j) ∧ (∀ y, y < x → (j - y * a) % b ≠ 0) ∧ lv_has ls 3 [(0, .ref h0), (1, .int (nI j)), (2, .int (nI x))]) ?_ 1025 ls ⟨0, rfl, Or.inl rfl, fun y hy => absurd hy (Nat.not_lt_zero y), lv_sub hl [1, 2, 0] rfl⟩
  rintro n ls ⟨x, en, hxj, hin, hl⟩ ih
  have hxa : x * a ≤ 1025 * 32 := Nat.mul_le_mul (by omega) ha2
  refine lv_iload_n hx hb dX1_pays_2 rfl (lv_at hl 2 rfl) ?_
  refine lv_aload_n hx hb dX1_pays_3 rfl (lv_at hl 0 rfl) ?_
  refine va_get (D := (dC, dI)) (ci := 1) (v := .int (nI a)) (C := RX1) (T := TX1) (N := 5) hx hb hts in_X1 hown hK hP 0 rfl rfl 0 (by decide) (hts _ q95) (fun _ h9 => h9) rfl dX1_pays_4 ?_
  refine cd_imul hx hb dX1_pays_7 ?_
  refine lv_iload_n hx hb dX1_pays_8 rfl (lv_at hl 1 rfl) ?_
  refine cd_icmp_gt (tgt := 36) hx hb dX1_pays_9 (by decide) (fun c2 => ?_) (fun c2 => ?_)
  · refine lv_iconst (v := nI 0) hx hb dX1_pays_36 (by decide +kernel) ?_
    exact cd_zret hx hb hr hlocks rfl (Or.inr ⟨rfl, cd_first_s c2 hin⟩) dX1_pays_37
  · have hxx : x ≤ x * a := Nat.le_mul_of_pos_right x ha1
    have hmb : (j - x * a) % b < b := Nat.mod_lt _ hb1
    refine lv_iload_n hx hb dX1_pays_12 rfl (lv_at hl 1 rfl) ?_
    refine lv_iload_n hx hb dX1_pays_13 rfl (lv_at hl 2 rfl) ?_
    refine lv_aload_n hx hb dX1_pays_14 rfl (lv_at hl 0 rfl) ?_
    refine va_get (D := (dC, dI)) (ci := 1) (v := .int (nI a)) (C := RX1) (T := TX1) (N := 5) hx hb hts in_X1 hown hK hP 0 rfl rfl 0 (by decide) (hts _ q95) (fun _ h9 => h9) rfl dX1_pays_15 ?_
    refine cd_imul hx hb dX1_pays_18 ?_
    refine cd_isub hx hb dX1_pays_19 ?_
    refine lv_aload_n hx hb dX1_pays_20 rfl (lv_at hl 0 rfl) ?_
    refine va_get (D := (dC, dI)) (ci := 1) (v := .int (nI b)) (C := RX1) (T := TX1) (N := 5) hx hb hts in_X1 hown hK hP 0 rfl rfl 1 (by decide) (hts _ q96) (fun _ h9 => h9) rfl dX1_pays_21 ?_
    refine cd_irem hx hb dX1_pays_24 ?_
    refine cd_if_ne (tgt := 30) hx hb dX1_pays_25 (by decide) (fun c3 => ?_) (fun c3 => ?_)
    · refine cd_iinc (k := 2) (lv' := [(2, .int (nI (x + 1))), (0, .ref h0), (1, .int (nI j))]) hx hb dX1_pays_30 hl rfl (by decide) rfl (fun ls hl => ?_)
      refine lv_goto (tgt := 2) hx hb dX1_pays_33 (by decide) ?_
      exact ih (n - 1) ls (by omega) ⟨x + 1, by omega, Or.inr (by rw [Nat.add_sub_cancel]; exact c2), fun y hy => by
        by_cases q : y = x
        · rw [q]; omega
        · exact hin y (by omega), lv_sub hl [1, 2, 0] rfl⟩
    · refine lv_iconst (v := nI 1) hx hb dX1_pays_28 (by decide +kernel) ?_
      exact cd_zret hx hb hr hlocks rfl (Or.inl ⟨rfl, x, c2, c3⟩) dX1_pays_29
set_option maxHeartbeats 4000000 in
set_option maxRecDepth 100000 in
theorem mt_X1_two (l : Launch) (dC : Nat → ClassId) (dI : Nat → Nat → Nat) (h0 h1 a b z : Nat) (kn : Int32) (v : Int32) (j : Nat) (hj : j < 1024) (hv : v &&& nI 1023 = nI j) (ha1 : 0 < a) (ha2 : a ≤ 32) (hb1 : 0 < b) (hb2 : b ≤ 32) : Met l yX1_two (ws_ yX1_two cX1_two 4 (some .boolean)) ({ frames := 0, cells := 0, slots := 0, locals := 0 }) (va_Pc [.ref h0, .int v] (fun U => va_P (dC, dI) vwCl [(h0, .inr (1, [.int (nI a), .int (nI b), .int (nI z), .ref h1, .int kn]))] U.heap ∧ va_K (dC, dI) vwCl [] U)) (cd_Q (cd_B (cd_Two a b j))) 0 0 cd_no := by
  refine Met.ofW (cc := cX1_two) (maxL := 4) (ret := (some .boolean)) (by decide) rfl ?_
  intro p e s m args below meth c s₁ B hml hv
  obtain ⟨rfl, hP, hK⟩ := hv
  have hx := B.exec
  have hb := B.bytes
  have hr := B.returns
  have hts := atoms_spec (ws := ws_ yX1_two cX1_two 4 (some .boolean)) B.pre
  have hts : ∀ w ∈ lw_all, w.before _ s = true := fun w h => hts w (List.mem_cons_of_mem _ h)
  have hown : s.vm.findClass RX1 = some m.cls := findClass_of_methodNamed B.named
  have hlocks := B.notSynchronized
  have hl := lv_entry ([.ref h0, .int v]) (n := 4) (Nat.le_of_ble_eq_true rfl)
  rw [lg_entry_eq]
  generalize (lg_sl ([.ref h0, .int v]) ++ List.replicate (4 - (lg_sl ([.ref h0, .int v])).length) Slot.unset).toArray = ls at hl ⊢
  have hl : lv_has ls 4 [(0, .ref h0), (1, .int v)] := hl
  refine lv_iload_n hx hb dX1_two_0 rfl (lv_at hl 1 rfl) ?_
  refine lv_sipush (v := nI 1023) hx hb dX1_two_1 (by decide +kernel) ?_
  refine lv_iand hx hb dX1_two_4 ?_
  refine cd_v (y := nI j) hv ?_
  refine lv_istore_n (lv' := [(2, .int (nI j)), (0, .ref h0), (1, .int v)]) hx hb dX1_two_5 rfl hl (by decide) rfl (fun ls hl => ?_)
  refine lv_iconst (v := nI 0) hx hb dX1_two_6 (by decide +kernel) ?_
  refine lv_istore_n (lv' := [(3, .int (nI 0)), (2, .int (nI j)), (0, .ref h0), (1, .int v)]) hx hb dX1_two_7 rfl hl (by decide) rfl (fun ls hl => ?_)
  refine cd_loop (head := 8) (fun n ls => ∃ x : Nat, n + x = 1025 ∧ (x = 0 ∨ (x - 1) * a ≤ j) ∧ (∀ y, y < x → (j - y * a) % b ≠ 0) ∧ lv_has ls 4 [(0, .ref h0), (2, .int (nI j)), (3, .int (nI x))]) ?_ 1025 ls ⟨0, rfl, Or.inl rfl, fun y hy => absurd hy (Nat.not_lt_zero y), lv_sub hl [2, 1, 0] rfl⟩
  rintro n ls ⟨x, en, hxj, hin, hl⟩ ih
  have hxa : x * a ≤ 1025 * 32 := Nat.mul_le_mul (by omega) ha2
  refine lv_iload_n hx hb dX1_two_8 rfl (lv_at hl 2 rfl) ?_
  refine lv_aload_n hx hb dX1_two_9 rfl (lv_at hl 0 rfl) ?_
  refine va_get (D := (dC, dI)) (ci := 1) (v := .int (nI a)) (C := RX1) (T := TX1) (N := 5) hx hb hts in_X1 hown hK hP 0 rfl rfl 0 (by decide) (hts _ q95) (fun _ h9 => h9) rfl dX1_two_10 ?_
  refine cd_imul hx hb dX1_two_13 ?_
  refine lv_iload_n hx hb dX1_two_14 rfl (lv_at hl 1 rfl) ?_
  refine cd_icmp_gt (tgt := 42) hx hb dX1_two_15 (by decide) (fun c2 => ?_) (fun c2 => ?_)
  · refine lv_iconst (v := nI 0) hx hb dX1_two_42 (by decide +kernel) ?_
    exact cd_zret hx hb hr hlocks rfl (Or.inr ⟨rfl, cd_first_s c2 hin⟩) dX1_two_43
  · have hxx : x ≤ x * a := Nat.le_mul_of_pos_right x ha1
    have hmb : (j - x * a) % b < b := Nat.mod_lt _ hb1
    refine lv_iload_n hx hb dX1_two_18 rfl (lv_at hl 1 rfl) ?_
    refine lv_iload_n hx hb dX1_two_19 rfl (lv_at hl 2 rfl) ?_
    refine lv_aload_n hx hb dX1_two_20 rfl (lv_at hl 0 rfl) ?_
    refine va_get (D := (dC, dI)) (ci := 1) (v := .int (nI a)) (C := RX1) (T := TX1) (N := 5) hx hb hts in_X1 hown hK hP 0 rfl rfl 0 (by decide) (hts _ q95) (fun _ h9 => h9) rfl dX1_two_21 ?_
    refine cd_imul hx hb dX1_two_24 ?_
    refine cd_isub hx hb dX1_two_25 ?_
    refine lv_aload_n hx hb dX1_two_26 rfl (lv_at hl 0 rfl) ?_
    refine va_get (D := (dC, dI)) (ci := 1) (v := .int (nI b)) (C := RX1) (T := TX1) (N := 5) hx hb hts in_X1 hown hK hP 0 rfl rfl 1 (by decide) (hts _ q96) (fun _ h9 => h9) rfl dX1_two_27 ?_
    refine cd_irem hx hb dX1_two_30 ?_
    refine cd_if_ne (tgt := 36) hx hb dX1_two_31 (by decide) (fun c3 => ?_) (fun c3 => ?_)
    · refine cd_iinc (k := 2) (lv' := [(3, .int (nI (x + 1))), (0, .ref h0), (2, .int (nI j))]) hx hb dX1_two_36 hl rfl (by decide) rfl (fun ls hl => ?_)
      refine lv_goto (tgt := 8) hx hb dX1_two_39 (by decide) ?_
      exact ih (n - 1) ls (by omega) ⟨x + 1, by omega, Or.inr (by rw [Nat.add_sub_cancel]; exact c2), fun y hy => by
        by_cases q : y = x
        · rw [q]; omega
        · exact hin y (by omega), lv_sub hl [1, 2, 0] rfl⟩
    · refine lv_iconst (v := nI 1) hx hb dX1_two_34 (by decide +kernel) ?_
      exact cd_zret hx hb hr hlocks rfl (Or.inl ⟨rfl, x, c2, c3⟩) dX1_two_35
set_option maxHeartbeats 4000000 in
set_option maxRecDepth 100000 in
theorem mt_X1_ways (l : Launch) (dC : Nat → ClassId) (dI : Nat → Nat → Nat) (h0 h1 a b z : Nat) (kn : Int32) (v : Int32) (j : Nat) (hj : j < 1024) (hv : v &&& nI 1023 = nI j) (ha1 : 0 < a) (ha2 : a ≤ 32) (hb1 : 0 < b) (hb2 : b ≤ 32) : Met l yX1_ways (ws_ yX1_ways cX1_ways 5 (some .int)) ({ frames := 0, cells := 0, slots := 0, locals := 0 }) (va_Pc [.ref h0, .int v] (fun U => va_P (dC, dI) vwCl [(h0, .inr (1, [.int (nI a), .int (nI b), .int (nI z), .ref h1, .int kn]))] U.heap ∧ va_K (dC, dI) vwCl [] U)) (cd_Q (fun r => r = nI (cd_cnt (cd_Way a b j) 1024))) 0 0 cd_no := by
  refine Met.ofW (cc := cX1_ways) (maxL := 5) (ret := (some .int)) (by decide) rfl ?_
  intro p e s m args below meth c s₁ B hml hv
  obtain ⟨rfl, hP, hK⟩ := hv
  have hx := B.exec
  have hb := B.bytes
  have hr := B.returns
  have hts := atoms_spec (ws := ws_ yX1_ways cX1_ways 5 (some .int)) B.pre
  have hts : ∀ w ∈ lw_all, w.before _ s = true := fun w h => hts w (List.mem_cons_of_mem _ h)
  have hown : s.vm.findClass RX1 = some m.cls := findClass_of_methodNamed B.named
  have hlocks := B.notSynchronized
  have hl := lv_entry ([.ref h0, .int v]) (n := 5) (Nat.le_of_ble_eq_true rfl)
  rw [lg_entry_eq]
  generalize (lg_sl ([.ref h0, .int v]) ++ List.replicate (5 - (lg_sl ([.ref h0, .int v])).length) Slot.unset).toArray = ls at hl ⊢
  have hl : lv_has ls 5 [(0, .ref h0), (1, .int v)] := hl
  refine lv_iload_n hx hb dX1_ways_0 rfl (lv_at hl 1 rfl) ?_
  refine lv_sipush (v := nI 1023) hx hb dX1_ways_1 (by decide +kernel) ?_
  refine lv_iand hx hb dX1_ways_4 ?_
  refine cd_v (y := nI j) hv ?_
  refine lv_istore_n (lv' := [(2, .int (nI j)), (0, .ref h0), (1, .int v)]) hx hb dX1_ways_5 rfl hl (by decide) rfl (fun ls hl => ?_)
  refine lv_iconst (v := nI 0) hx hb dX1_ways_6 (by decide +kernel) ?_
  refine lv_istore_n (lv' := [(3, .int (nI 0)), (2, .int (nI j)), (0, .ref h0), (1, .int v)]) hx hb dX1_ways_7 rfl hl (by decide) rfl (fun ls hl => ?_)
  refine lv_iconst (v := nI 0) hx hb dX1_ways_8 (by decide +kernel) ?_
  refine lv_istore (lv' := [(4, .int (nI 0)), (3, .int (nI 0)), (2, .int (nI j)), (0, .ref h0), (1, .int v)]) hx hb dX1_ways_9 hl (by decide) rfl (fun ls hl => ?_)
  refine cd_loop (head := 11) (fun n ls => ∃ x t : Nat, n + x = 1025 ∧ x ≤ 1024 ∧ t = cd_cnt (cd_Way a b j) x ∧ lv_has ls 5 [(0, .ref h0), (2, .int (nI j)), (3, .int (nI t)), (4, .int (nI x))]) ?_ 1025 ls ⟨0, 0, rfl, by omega, rfl, lv_sub hl [3, 2, 1, 0] rfl⟩
  rintro n ls ⟨x, t, en, hx4, et, hl⟩ ih
  have hxa : x * a ≤ 1025 * 32 := Nat.mul_le_mul (by omega) ha2
  refine lv_iload hx hb dX1_ways_11 (lv_at hl 3 rfl) ?_
  refine lv_aload_n hx hb dX1_ways_13 rfl (lv_at hl 0 rfl) ?_
  refine va_get (D := (dC, dI)) (ci := 1) (v := .int (nI a)) (C := RX1) (T := TX1) (N := 5) hx hb hts in_X1 hown hK hP 0 rfl rfl 0 (by decide) (hts _ q95) (fun _ h9 => h9) rfl dX1_ways_14 ?_
  refine cd_imul hx hb dX1_ways_17 ?_
  refine lv_iload_n hx hb dX1_ways_18 rfl (lv_at hl 1 rfl) ?_
  refine cd_icmp_gt (tgt := 49) hx hb dX1_ways_19 (by decide) (fun c2 => ?_) (fun c2 => ?_)
  · refine lv_iload_n hx hb dX1_ways_49 rfl (lv_at hl 2 rfl) ?_
    exact cd_ret hx hb hr hlocks (by rw [cd_ways_end c2 hx4, et]) dX1_ways_50
  · have hxx : x ≤ x * a := Nat.le_mul_of_pos_right x ha1
    have hmb : (j - x * a) % b < b := Nat.mod_lt _ hb1
    refine lv_iload_n hx hb dX1_ways_22 rfl (lv_at hl 1 rfl) ?_
    refine lv_iload hx hb dX1_ways_23 (lv_at hl 3 rfl) ?_
    refine lv_aload_n hx hb dX1_ways_25 rfl (lv_at hl 0 rfl) ?_
    refine va_get (D := (dC, dI)) (ci := 1) (v := .int (nI a)) (C := RX1) (T := TX1) (N := 5) hx hb hts in_X1 hown hK hP 0 rfl rfl 0 (by decide) (hts _ q95) (fun _ h9 => h9) rfl dX1_ways_26 ?_
    refine cd_imul hx hb dX1_ways_29 ?_
    refine cd_isub hx hb dX1_ways_30 ?_
    refine lv_aload_n hx hb dX1_ways_31 rfl (lv_at hl 0 rfl) ?_
    refine va_get (D := (dC, dI)) (ci := 1) (v := .int (nI b)) (C := RX1) (T := TX1) (N := 5) hx hb hts in_X1 hown hK hP 0 rfl rfl 1 (by decide) (hts _ q96) (fun _ h9 => h9) rfl dX1_ways_32 ?_
    refine cd_irem hx hb dX1_ways_35 ?_
    refine cd_if_ne (tgt := 43) hx hb dX1_ways_36 (by decide) (fun c3 => ?_) (fun c3 => ?_)
    · refine cd_iinc (k := 3) (lv' := [(4, .int (nI (x + 1))), (0, .ref h0), (2, .int (nI j)), (3, .int (nI t))]) hx hb dX1_ways_43 hl rfl (by decide) rfl (fun ls hl => ?_)
      refine lv_goto (tgt := 11) hx hb dX1_ways_46 (by decide) ?_
      exact ih (n - 1) ls (by omega) ⟨x + 1, t, by omega, by omega, by rw [cd_cnt_no (fun q => by have := q.2; omega), et], lv_sub hl [1, 2, 3, 0] rfl⟩
    · refine lv_iload_n hx hb dX1_ways_39 rfl (lv_at hl 2 rfl) ?_
      refine lv_iconst (v := nI 1) hx hb dX1_ways_40 (by decide +kernel) ?_
      refine cd_iadd hx hb dX1_ways_41 ?_
      refine lv_istore_n (lv' := [(3, .int (nI (t + 1))), (0, .ref h0), (2, .int (nI j)), (4, .int (nI x))]) hx hb dX1_ways_42 rfl hl (by decide) rfl (fun ls hl => ?_)
      refine cd_iinc (k := 3) (lv' := [(4, .int (nI (x + 1))), (3, .int (nI (t + 1))), (0, .ref h0), (2, .int (nI j))]) hx hb dX1_ways_43 hl rfl (by decide) rfl (fun ls hl => ?_)
      refine lv_goto (tgt := 11) hx hb dX1_ways_46 (by decide) ?_
      exact ih (n - 1) ls (by omega) ⟨x + 1, t + 1, by omega, by omega, by rw [cd_cnt_yes (P := cd_Way a b j) ⟨c2, c3⟩, et], lv_sub hl [2, 3, 1, 0] rfl⟩
set_option maxHeartbeats 4000000 in
set_option maxRecDepth 100000 in
theorem mt_X1_greatestTwo (l : Launch) (dC : Nat → ClassId) (dI : Nat → Nat → Nat) (h0 h1 a b z : Nat) (kn : Int32) (ha1 : 0 < a) (ha2 : a ≤ 32) (hb1 : 0 < b) (hb2 : b ≤ 32) : Met l yX1_greatestTwo (ws_ yX1_greatestTwo cX1_greatestTwo 2 (some .int)) ({ frames := 1, cells := 0, slots := 0, locals := 24 }) (va_Pc [.ref h0] (fun U => va_P (dC, dI) vwCl [(h0, .inr (1, [.int (nI a), .int (nI b), .int (nI z), .ref h1, .int kn]))] U.heap ∧ va_K (dC, dI) vwCl [] U)) (cd_Q (cd_G (Nat.gcd a b) (cd_Top (a * b) (cd_Two a b)))) 0 0 cd_no := by
  refine Met.ofW (cc := cX1_greatestTwo) (maxL := 2) (ret := (some .int)) (by decide) rfl ?_
  intro p e s m args below meth c s₁ B hml hv
  obtain ⟨rfl, hP, hK⟩ := hv
  have hx := B.exec
  have hb := B.bytes
  have hr := B.returns
  have hts := atoms_spec (ws := ws_ yX1_greatestTwo cX1_greatestTwo 2 (some .int)) B.pre
  have hts : ∀ w ∈ lw_all, w.before _ s = true := fun w h => hts w (List.mem_cons_of_mem _ h)
  have hown : s.vm.findClass RX1 = some m.cls := findClass_of_methodNamed B.named
  have hlocks := B.notSynchronized
  have hl := lv_entry ([.ref h0]) (n := 2) (Nat.le_of_ble_eq_true rfl)
  rw [lg_entry_eq]
  generalize (lg_sl ([.ref h0]) ++ List.replicate (2 - (lg_sl ([.ref h0])).length) Slot.unset).toArray = ls at hl ⊢
  have hl : lv_has ls 2 [(0, .ref h0)] := hl
  have hg1 : 0 < Nat.gcd a b := Nat.gcd_pos_of_pos_left b ha1
  have hg2 : Nat.gcd a b ≤ a := cd_gcd_le ha1
  have hab : a * b ≤ 32 * 32 := Nat.mul_le_mul ha2 hb2
  refine lv_aload_n hx hb dX1_greatestTwo_0 rfl (lv_at hl 0 rfl) ?_
  refine va_get (D := (dC, dI)) (ci := 1) (v := .int (nI a)) (C := RX1) (T := TX1) (N := 5) hx hb hts in_X1 hown hK hP 0 rfl rfl 0 (by decide) (hts _ q95) (fun _ h9 => h9) rfl dX1_greatestTwo_1 ?_
  refine lv_aload_n hx hb dX1_greatestTwo_4 rfl (lv_at hl 0 rfl) ?_
  refine va_get (D := (dC, dI)) (ci := 1) (v := .int (nI b)) (C := RX1) (T := TX1) (N := 5) hx hb hts in_X1 hown hK hP 0 rfl rfl 1 (by decide) (hts _ q96) (fun _ h9 => h9) rfl dX1_greatestTwo_5 ?_
  refine cd_callr (W.runS (As := [.int (nI a), .int (nI b)]) (rest := []) ⟨hx, hb, hml, hown, hts⟩ (mt_X1_divisor l a b (by omega) (by omega)) (va_cwS 2 hts (lw_S q127 q128 q7 q129) rfl rfl rfl (by decide +kernel) ⟨Nat.le_of_ble_eq_true rfl, Nat.le_of_ble_eq_true rfl⟩) cd_preS rfl rfl hl.1 rfl (lv_room (Nat.le_of_ble_eq_true rfl)) dX1_greatestTwo_8 ⟨Nat.le_of_ble_eq_true rfl, Nat.le_of_ble_eq_true rfl⟩) (fun r er => ?_)
  have er : r = nI (Nat.gcd a b) := er
  subst er
  refine lv_iconst (v := nI 1) hx hb dX1_greatestTwo_11 (by decide +kernel) ?_
  refine cd_icmp_eq (tgt := 18) hx hb dX1_greatestTwo_12 (by decide) (fun c1 => ?_) (fun c1 => ?_)
  · refine lv_aload_n hx hb dX1_greatestTwo_18 rfl (lv_at hl 0 rfl) ?_
    refine va_get (D := (dC, dI)) (ci := 1) (v := .int (nI a)) (C := RX1) (T := TX1) (N := 5) hx hb hts in_X1 hown hK hP 0 rfl rfl 0 (by decide) (hts _ q95) (fun _ h9 => h9) rfl dX1_greatestTwo_19 ?_
    refine lv_aload_n hx hb dX1_greatestTwo_22 rfl (lv_at hl 0 rfl) ?_
    refine va_get (D := (dC, dI)) (ci := 1) (v := .int (nI b)) (C := RX1) (T := TX1) (N := 5) hx hb hts in_X1 hown hK hP 0 rfl rfl 1 (by decide) (hts _ q96) (fun _ h9 => h9) rfl dX1_greatestTwo_23 ?_
    refine cd_imul hx hb dX1_greatestTwo_26 ?_
    refine lv_istore_n (lv' := [(1, .int (nI (a * b))), (0, .ref h0)]) hx hb dX1_greatestTwo_27 rfl hl (by decide) rfl (fun ls hl => ?_)
    refine cd_loop (head := 28) (fun n ls => ∃ v : Nat, n = v ∧ v ≤ a * b ∧ (∀ t, v < t → t ≤ a * b → cd_Two a b t) ∧ lv_has ls 2 [(0, .ref h0), (1, .int (nI v))]) ?_ (a * b) ls ⟨a * b, rfl, Nat.le_refl _, fun t h1 h2 => by omega, lv_sub hl [1, 0] rfl⟩
    rintro n ls ⟨v, en, hv, hin, hl⟩ ih
    refine lv_iload_n hx hb dX1_greatestTwo_28 rfl (lv_at hl 1 rfl) ?_
    refine cd_if_le (tgt := 48) hx hb dX1_greatestTwo_29 (by decide) (fun c2 => ?_) (fun c2 => ?_)
    · refine lv_iconst (v := -1) hx hb dX1_greatestTwo_48 (by decide +kernel) ?_
      exact cd_ret hx hb hr hlocks (Or.inr ⟨c1, Or.inr ⟨rfl, fun t h1 h2 => hin t (by omega) h2⟩⟩) dX1_greatestTwo_49
    · obtain ⟨u, eu⟩ : ∃ u, v = u + 1 := ⟨v - 1, by omega⟩
      subst eu
      refine lv_aload_n hx hb dX1_greatestTwo_32 rfl (lv_at hl 0 rfl) ?_
      refine lv_iload_n hx hb dX1_greatestTwo_33 rfl (lv_at hl 1 rfl) ?_
      refine cd_callr (W.runV (As := [.int (nI (u + 1))]) (rest := []) ⟨hx, hb, hml, hown, hts⟩ (mt_X1_pays l dC dI h0 h1 a b z kn (u + 1) ha1 ha2 hb1 hb2 (by omega)) (cwV 1 hts (lw_V q146 q148 qs4 q7 q149) rfl rfl rfl (by decide +kernel) ⟨Nat.le_of_ble_eq_true rfl, Nat.le_of_ble_eq_true rfl⟩) (cd_pre hK hP (ci := 1) (q0 := 0) rfl rfl hP hK) rfl rfl hl.1 rfl (lv_room (Nat.le_of_ble_eq_true rfl)) dX1_greatestTwo_34 ⟨Nat.le_of_ble_eq_true rfl, Nat.le_of_ble_eq_true rfl⟩) (fun r er => ?_)
      rcases er with ⟨er, hyes⟩ | ⟨er, hno⟩
      · subst er
        refine cd_if_ne (tgt := 42) hx hb dX1_greatestTwo_37 (by decide) (fun c3 => ?_) (fun c3 => ?_)
        · refine cd_idec (k := 1) (lv' := [(1, .int (nI u)), (0, .ref h0)]) hx hb dX1_greatestTwo_42 hl rfl (by decide) rfl (fun ls hl => ?_)
          refine lv_goto (tgt := 28) hx hb dX1_greatestTwo_45 (by decide) ?_
          exact ih u ls (by omega) ⟨u, rfl, by omega, fun t h1 h2 => by
            by_cases q : t = u + 1
            · rw [q]; exact hyes
            · exact hin t (by omega) h2, lv_sub hl [1, 0] rfl⟩
        · exact absurd c3 (by omega)
      · subst er
        refine cd_if_ne (tgt := 42) hx hb dX1_greatestTwo_37 (by decide) (fun c3 => ?_) (fun c3 => ?_)
        · exact absurd c3 (by omega)
        · refine lv_iload_n hx hb dX1_greatestTwo_40 rfl (lv_at hl 1 rfl) ?_
          exact cd_ret hx hb hr hlocks (Or.inr ⟨c1, Or.inl ⟨u + 1, rfl, by omega, hv, hno, hin⟩⟩) dX1_greatestTwo_41
  · refine lv_bipush (v := -2) hx hb dX1_greatestTwo_15 (by decide +kernel) ?_
    exact cd_ret hx hb hr hlocks (Or.inl ⟨c1, rfl⟩) dX1_greatestTwo_17
set_option maxHeartbeats 4000000 in
set_option maxRecDepth 100000 in
theorem mt_X1_gapsTwo (l : Launch) (dC : Nat → ClassId) (dI : Nat → Nat → Nat) (h0 h1 a b z : Nat) (kn : Int32) (ha1 : 0 < a) (ha2 : a ≤ 32) (hb1 : 0 < b) (hb2 : b ≤ 32) : Met l yX1_gapsTwo (ws_ yX1_gapsTwo cX1_gapsTwo 3 (some .int)) ({ frames := 1, cells := 0, slots := 0, locals := 24 }) (va_Pc [.ref h0] (fun U => va_P (dC, dI) vwCl [(h0, .inr (1, [.int (nI a), .int (nI b), .int (nI z), .ref h1, .int kn]))] U.heap ∧ va_K (dC, dI) vwCl [] U)) (cd_Q (cd_G (Nat.gcd a b) (fun r => r = nI (cd_cnt (fun v => ¬ cd_Two a b v) (a * b + 1))))) 0 0 cd_no := by
  refine Met.ofW (cc := cX1_gapsTwo) (maxL := 3) (ret := (some .int)) (by decide) rfl ?_
  intro p e s m args below meth c s₁ B hml hv
  obtain ⟨rfl, hP, hK⟩ := hv
  have hx := B.exec
  have hb := B.bytes
  have hr := B.returns
  have hts := atoms_spec (ws := ws_ yX1_gapsTwo cX1_gapsTwo 3 (some .int)) B.pre
  have hts : ∀ w ∈ lw_all, w.before _ s = true := fun w h => hts w (List.mem_cons_of_mem _ h)
  have hown : s.vm.findClass RX1 = some m.cls := findClass_of_methodNamed B.named
  have hlocks := B.notSynchronized
  have hl := lv_entry ([.ref h0]) (n := 3) (Nat.le_of_ble_eq_true rfl)
  rw [lg_entry_eq]
  generalize (lg_sl ([.ref h0]) ++ List.replicate (3 - (lg_sl ([.ref h0])).length) Slot.unset).toArray = ls at hl ⊢
  have hl : lv_has ls 3 [(0, .ref h0)] := hl
  have hg1 : 0 < Nat.gcd a b := Nat.gcd_pos_of_pos_left b ha1
  have hg2 : Nat.gcd a b ≤ a := cd_gcd_le ha1
  have hab : a * b ≤ 32 * 32 := Nat.mul_le_mul ha2 hb2
  refine lv_aload_n hx hb dX1_gapsTwo_0 rfl (lv_at hl 0 rfl) ?_
  refine va_get (D := (dC, dI)) (ci := 1) (v := .int (nI a)) (C := RX1) (T := TX1) (N := 5) hx hb hts in_X1 hown hK hP 0 rfl rfl 0 (by decide) (hts _ q95) (fun _ h9 => h9) rfl dX1_gapsTwo_1 ?_
  refine lv_aload_n hx hb dX1_gapsTwo_4 rfl (lv_at hl 0 rfl) ?_
  refine va_get (D := (dC, dI)) (ci := 1) (v := .int (nI b)) (C := RX1) (T := TX1) (N := 5) hx hb hts in_X1 hown hK hP 0 rfl rfl 1 (by decide) (hts _ q96) (fun _ h9 => h9) rfl dX1_gapsTwo_5 ?_
  refine cd_callr (W.runS (As := [.int (nI a), .int (nI b)]) (rest := []) ⟨hx, hb, hml, hown, hts⟩ (mt_X1_divisor l a b (by omega) (by omega)) (va_cwS 2 hts (lw_S q127 q128 q7 q129) rfl rfl rfl (by decide +kernel) ⟨Nat.le_of_ble_eq_true rfl, Nat.le_of_ble_eq_true rfl⟩) cd_preS rfl rfl hl.1 rfl (lv_room (Nat.le_of_ble_eq_true rfl)) dX1_gapsTwo_8 ⟨Nat.le_of_ble_eq_true rfl, Nat.le_of_ble_eq_true rfl⟩) (fun r er => ?_)
  have er : r = nI (Nat.gcd a b) := er
  subst er
  refine lv_iconst (v := nI 1) hx hb dX1_gapsTwo_11 (by decide +kernel) ?_
  refine cd_icmp_eq (tgt := 18) hx hb dX1_gapsTwo_12 (by decide) (fun c1 => ?_) (fun c1 => ?_)
  · refine lv_iconst (v := nI 0) hx hb dX1_gapsTwo_18 (by decide +kernel) ?_
    refine lv_istore_n (lv' := [(1, .int (nI 0)), (0, .ref h0)]) hx hb dX1_gapsTwo_19 rfl hl (by decide) rfl (fun ls hl => ?_)
    refine lv_iconst (v := nI 0) hx hb dX1_gapsTwo_20 (by decide +kernel) ?_
    refine lv_istore_n (lv' := [(2, .int (nI 0)), (1, .int (nI 0)), (0, .ref h0)]) hx hb dX1_gapsTwo_21 rfl hl (by decide) rfl (fun ls hl => ?_)
    refine cd_loop (head := 22) (fun n ls => ∃ v t : Nat, n + v = a * b + 1 ∧ t = cd_cnt (fun v => ¬ cd_Two a b v) v ∧ lv_has ls 3 [(0, .ref h0), (1, .int (nI t)), (2, .int (nI v))]) ?_ (a * b + 1) ls ⟨0, 0, rfl, rfl, lv_sub hl [2, 1, 0] rfl⟩
    rintro n ls ⟨v, t, en, et, hl⟩ ih
    refine lv_iload_n hx hb dX1_gapsTwo_22 rfl (lv_at hl 2 rfl) ?_
    refine lv_aload_n hx hb dX1_gapsTwo_23 rfl (lv_at hl 0 rfl) ?_
    refine va_get (D := (dC, dI)) (ci := 1) (v := .int (nI a)) (C := RX1) (T := TX1) (N := 5) hx hb hts in_X1 hown hK hP 0 rfl rfl 0 (by decide) (hts _ q95) (fun _ h9 => h9) rfl dX1_gapsTwo_24 ?_
    refine lv_aload_n hx hb dX1_gapsTwo_27 rfl (lv_at hl 0 rfl) ?_
    refine va_get (D := (dC, dI)) (ci := 1) (v := .int (nI b)) (C := RX1) (T := TX1) (N := 5) hx hb hts in_X1 hown hK hP 0 rfl rfl 1 (by decide) (hts _ q96) (fun _ h9 => h9) rfl dX1_gapsTwo_28 ?_
    refine cd_imul hx hb dX1_gapsTwo_31 ?_
    refine cd_icmp_gt (tgt := 53) hx hb dX1_gapsTwo_32 (by decide) (fun c2 => ?_) (fun c2 => ?_)
    · refine lv_iload_n hx hb dX1_gapsTwo_53 rfl (lv_at hl 1 rfl) ?_
      exact cd_ret hx hb hr hlocks (Or.inr ⟨c1, by rw [et, show v = a * b + 1 by omega]⟩) dX1_gapsTwo_54
    · refine lv_aload_n hx hb dX1_gapsTwo_35 rfl (lv_at hl 0 rfl) ?_
      refine lv_iload_n hx hb dX1_gapsTwo_36 rfl (lv_at hl 2 rfl) ?_
      refine cd_callr (W.runV (As := [.int (nI v)]) (rest := []) ⟨hx, hb, hml, hown, hts⟩ (mt_X1_pays l dC dI h0 h1 a b z kn v ha1 ha2 hb1 hb2 (by omega)) (cwV 1 hts (lw_V q146 q148 qs4 q7 q149) rfl rfl rfl (by decide +kernel) ⟨Nat.le_of_ble_eq_true rfl, Nat.le_of_ble_eq_true rfl⟩) (cd_pre hK hP (ci := 1) (q0 := 0) rfl rfl hP hK) rfl rfl hl.1 rfl (lv_room (Nat.le_of_ble_eq_true rfl)) dX1_gapsTwo_37 ⟨Nat.le_of_ble_eq_true rfl, Nat.le_of_ble_eq_true rfl⟩) (fun r er => ?_)
      rcases er with ⟨er, hyes⟩ | ⟨er, hno⟩
      · subst er
        refine cd_if_ne (tgt := 47) hx hb dX1_gapsTwo_40 (by decide) (fun c3 => ?_) (fun c3 => ?_)
        · refine cd_iinc (k := 2) (lv' := [(2, .int (nI (v + 1))), (0, .ref h0), (1, .int (nI t))]) hx hb dX1_gapsTwo_47 hl rfl (by decide) rfl (fun ls hl => ?_)
          refine lv_goto (tgt := 22) hx hb dX1_gapsTwo_50 (by decide) ?_
          exact ih (n - 1) ls (by omega) ⟨v + 1, t, by omega, by rw [cd_cnt_no (P := fun v => ¬ cd_Two a b v) (fun q => q hyes), et], lv_sub hl [1, 2, 0] rfl⟩
        · exact absurd c3 (by omega)
      · subst er
        refine cd_if_ne (tgt := 47) hx hb dX1_gapsTwo_40 (by decide) (fun c3 => ?_) (fun c3 => ?_)
        · exact absurd c3 (by omega)
        · refine lv_iload_n hx hb dX1_gapsTwo_43 rfl (lv_at hl 1 rfl) ?_
          refine lv_iconst (v := nI 1) hx hb dX1_gapsTwo_44 (by decide +kernel) ?_
          refine cd_iadd hx hb dX1_gapsTwo_45 ?_
          refine lv_istore_n (lv' := [(1, .int (nI (t + 1))), (0, .ref h0), (2, .int (nI v))]) hx hb dX1_gapsTwo_46 rfl hl (by decide) rfl (fun ls hl => ?_)
          refine cd_iinc (k := 2) (lv' := [(2, .int (nI (v + 1))), (1, .int (nI (t + 1))), (0, .ref h0)]) hx hb dX1_gapsTwo_47 hl rfl (by decide) rfl (fun ls hl => ?_)
          refine lv_goto (tgt := 22) hx hb dX1_gapsTwo_50 (by decide) ?_
          exact ih (n - 1) ls (by omega) ⟨v + 1, t + 1, by omega, by rw [cd_cnt_yes (P := fun v => ¬ cd_Two a b v) hno, et], lv_sub hl [2, 1, 0] rfl⟩
  · refine lv_bipush (v := -2) hx hb dX1_gapsTwo_15 (by decide +kernel) ?_
    exact cd_ret hx hb hr hlocks (Or.inl ⟨c1, rfl⟩) dX1_gapsTwo_17
end
section
/-! ChangeDesk: the methods that change cells (printed by gen/heap.py) -/
theorem cd_ge0 {r : Int32} : 0 ≤ r ↔ ¬ r < 0 := by
  rw [Int32.le_iff_toInt_le, Int32.lt_iff_toInt_lt]
  omega
theorem cd_maxm1 {mx a : Nat} (hm : mx < 2 ^ 30) (ha : a < 2 ^ 30) : (if (-1 : Int32) < nI mx - nI a then nI mx - nI a else -1) = (if a ≤ mx then nI (mx - a) else -1) := by
  have e1 : (nI mx - nI a).toInt = (mx : Int) - a := pk_sub_toInt hm ha
  have e2 : (-1 : Int32).toInt = -1 := by decide
  by_cases h : a ≤ mx
  · rw [if_pos h, if_pos, pk_sub h]
    rw [Int32.lt_iff_toInt_lt, e1, e2]
    omega
  · rw [if_neg h, if_neg]
    rw [Int32.lt_iff_toInt_lt, e1, e2]
    omega
set_option maxHeartbeats 4000000 in
set_option maxRecDepth 100000 in
theorem mt_X0_coins (l : Launch) (dC : Nat → ClassId) (dI : Nat → Nat → Nat) (h0 h1 sz a b z : Nat) (x y w : Int32) (j1 j2 j3 : Nat) (e1 : x &&& nI 31 = nI j1) (e2 : y &&& nI 31 = nI j2) (e3 : w &&& nI 31 = nI j3) : Met l yX0_coins (ws_ yX0_coins cX0_coins 4 none) ({ frames := 0, cells := 0, slots := 0, locals := 0 }) (va_Pc [.ref h0, .int x, .int y, .int w] (fun U => U.heap.size = sz ∧ va_P (dC, dI) vwCl [(h0, .inr (0, [.int (nI a), .int (nI b), .int (nI z), .ref h1]))] U.heap ∧ va_K (dC, dI) vwCl [] U ∧ va_D (fun _ => True) [(h0, .inr (0, [.int (nI a), .int (nI b), .int (nI z), .ref h1]))])) (va_Qv (fun _ : Unit => True) (fun _ t => va_P (dC, dI) vwCl [(h0, .inr (0, [.int (nI (1 + j1)), .int (nI (1 + j2)), .int (nI (1 + j3)), .ref h1]))] t.heap ∧ va_K (dC, dI) vwCl [] t ∧ va_D (va_A [(h0, .inr (0, [.int (nI a), .int (nI b), .int (nI z), .ref h1]))] sz) [(h0, .inr (0, [.int (nI (1 + j1)), .int (nI (1 + j2)), .int (nI (1 + j3)), .ref h1]))]) (va_A [(h0, .inr (0, [.int (nI a), .int (nI b), .int (nI z), .ref h1]))] sz)) 0 0 (va_A [(h0, .inr (0, [.int (nI a), .int (nI b), .int (nI z), .ref h1]))] sz) := by
  refine Met.ofW (cc := cX0_coins) (maxL := 4) (ret := none) (by decide) rfl ?_
  intro p e s m args below meth c s₁ B hml hv
  obtain ⟨rfl, hsz, hP, hK, hD0⟩ := hv
  have hx := B.exec
  have hb := B.bytes
  have hr := B.returns
  have hts := atoms_spec (ws := ws_ yX0_coins cX0_coins 4 none) B.pre
  have hts : ∀ w ∈ lw_all, w.before _ s = true := fun w h => hts w (List.mem_cons_of_mem _ h)
  have hown : s.vm.findClass RX0 = some m.cls := findClass_of_methodNamed B.named
  have hlocks := B.notSynchronized
  subst hsz
  have hD := hD0.self (sz := s.heap.size)
  generalize hAe : va_A [(h0, .inr (0, [.int (nI a), .int (nI b), .int (nI z), .ref h1]))] s.heap.size = A at hD ⊢
  have hA : ∀ q : Nat, s.heap.size ≤ q → A q := fun q h => by rw [← hAe]; exact Or.inr h
  have hS : va_S A s.heap s.heap [] := va_S.rf
  have hP : va_P (dC, dI) vwCl [(h0, .inr (0, [.int (nI a), .int (nI b), .int (nI z), .ref h1]))] s.heap := hP
  have hl := lv_entry ([.ref h0, .int x, .int y, .int w]) (n := 4) (Nat.le_of_ble_eq_true rfl)
  rw [lg_entry_eq]
  generalize (lg_sl ([.ref h0, .int x, .int y, .int w]) ++ List.replicate (4 - (lg_sl ([.ref h0, .int x, .int y, .int w])).length) Slot.unset).toArray = ls at hl ⊢
  have hl : lv_has ls 4 [(0, .ref h0), (1, .int x), (2, .int y), (3, .int w)] := hl
  refine lv_aload_n hx hb dX0_coins_0 rfl (lv_at hl 0 rfl) ?_
  refine lv_iconst (v := nI 1) hx hb dX0_coins_1 (by decide +kernel) ?_
  refine lv_iload_n hx hb dX0_coins_2 rfl (lv_at hl 1 rfl) ?_
  refine lv_bipush (v := nI 31) hx hb dX0_coins_3 (by decide +kernel) ?_
  refine lv_iand hx hb dX0_coins_5 ?_
  refine cd_v (y := nI j1) e1 ?_
  refine cd_iadd hx hb dX0_coins_6 ?_
  refine va_put (D := (dC, dI)) (ci := 0) (v := .int (nI (1 + j1))) (ty := .int) (C := RX0) (T := TX0) (N := 4) hx hb hts in_X0 tyX0 tyX0_ok nmX0 hown hK hP hD hS 0 rfl rfl 0 (by decide) (hts _ q18) (fun _ h9 => h9) rfl (by decide +kernel) rfl rfl (Nat.le_of_ble_eq_true rfl) dX0_coins_7 (fun H locs hP hD hS => ?_)
  have hP : va_P (dC, dI) vwCl [(h0, .inr (0, [.int (nI (1 + j1)), .int (nI b), .int (nI z), .ref h1]))] H := hP
  have hD : va_D A [(h0, .inr (0, [.int (nI (1 + j1)), .int (nI b), .int (nI z), .ref h1]))] := hD
  refine lv_aload_n hx hb dX0_coins_10 rfl (lv_at hl 0 rfl) ?_
  refine lv_iconst (v := nI 1) hx hb dX0_coins_11 (by decide +kernel) ?_
  refine lv_iload_n hx hb dX0_coins_12 rfl (lv_at hl 2 rfl) ?_
  refine lv_bipush (v := nI 31) hx hb dX0_coins_13 (by decide +kernel) ?_
  refine lv_iand hx hb dX0_coins_15 ?_
  refine cd_v (y := nI j2) e2 ?_
  refine cd_iadd hx hb dX0_coins_16 ?_
  refine va_put (D := (dC, dI)) (ci := 0) (v := .int (nI (1 + j2))) (ty := .int) (C := RX0) (T := TX0) (N := 4) hx hb hts in_X0 tyX0 tyX0_ok nmX0 hown hK hP hD hS 0 rfl rfl 1 (by decide) (hts _ q19) (fun _ h9 => h9) rfl (by decide +kernel) rfl rfl (Nat.le_of_ble_eq_true rfl) dX0_coins_17 (fun H locs hP hD hS => ?_)
  have hP : va_P (dC, dI) vwCl [(h0, .inr (0, [.int (nI (1 + j1)), .int (nI (1 + j2)), .int (nI z), .ref h1]))] H := hP
  have hD : va_D A [(h0, .inr (0, [.int (nI (1 + j1)), .int (nI (1 + j2)), .int (nI z), .ref h1]))] := hD
  refine lv_aload_n hx hb dX0_coins_20 rfl (lv_at hl 0 rfl) ?_
  refine lv_iconst (v := nI 1) hx hb dX0_coins_21 (by decide +kernel) ?_
  refine lv_iload_n hx hb dX0_coins_22 rfl (lv_at hl 3 rfl) ?_
  refine lv_bipush (v := nI 31) hx hb dX0_coins_23 (by decide +kernel) ?_
  refine lv_iand hx hb dX0_coins_25 ?_
  refine cd_v (y := nI j3) e3 ?_
  refine cd_iadd hx hb dX0_coins_26 ?_
  refine va_put (D := (dC, dI)) (ci := 0) (v := .int (nI (1 + j3))) (ty := .int) (C := RX0) (T := TX0) (N := 4) hx hb hts in_X0 tyX0 tyX0_ok nmX0 hown hK hP hD hS 0 rfl rfl 2 (by decide) (hts _ q20) (fun _ h9 => h9) rfl (by decide +kernel) rfl rfl (Nat.le_of_ble_eq_true rfl) dX0_coins_27 (fun H locs hP hD hS => ?_)
  have hP : va_P (dC, dI) vwCl [(h0, .inr (0, [.int (nI (1 + j1)), .int (nI (1 + j2)), .int (nI (1 + j3)), .ref h1]))] H := hP
  have hD : va_D A [(h0, .inr (0, [.int (nI (1 + j1)), .int (nI (1 + j2)), .int (nI (1 + j3)), .ref h1]))] := hD
  exact W.vret hx hb hr (fun t ht hW => ⟨⟨(), rfl, trivial, by rw [ht]; exact hP, va_K.moved hW.alike hK, hD⟩, hS.F ht⟩) hS.2.2 dX0_coins_30
set_option maxHeartbeats 4000000 in
set_option maxRecDepth 100000 in
theorem mt_X0_init (l : Launch) (dC : Nat → ClassId) (dI : Nat → Nat → Nat) (h0 sz : Nat) : Met l yX0_init (ws_ yX0_init cX0_init 1 none) ({ frames := 1, cells := 1, slots := 32, locals := 12 }) (va_Pc [.ref h0] (fun U => U.heap.size = sz ∧ va_P (dC, dI) vwCl [(h0, .inr (0, [.int 0, .int 0, .int 0, .null]))] U.heap ∧ va_K (dC, dI) vwCl [] U ∧ va_D (fun _ => True) [(h0, .inr (0, [.int 0, .int 0, .int 0, .null]))])) (va_Qv (fun _ : Unit => True) (fun (_ : Unit) t => ∃ (h1 : Nat) (d1 : ClassId) (f1 : Nat → Int32), va_P (dC, dI) vwCl [(h0, .inr (0, [.int (nI 3), .int (nI 5), .int (nI 7), .ref h1])), (h1, .inl (d1, 32, .inl f1))] t.heap ∧ va_K (dC, dI) vwCl [(d1, .int)] t ∧ va_D (va_A [(h0, .inr (0, [.int 0, .int 0, .int 0, .null]))] sz) [(h0, .inr (0, [.int (nI 3), .int (nI 5), .int (nI 7), .ref h1])), (h1, .inl (d1, 32, .inl f1))]) (va_A [(h0, .inr (0, [.int 0, .int 0, .int 0, .null]))] sz)) 1 32 (va_A [(h0, .inr (0, [.int 0, .int 0, .int 0, .null]))] sz) := by
  refine Met.ofW (cc := cX0_init) (maxL := 1) (ret := none) (by decide) rfl ?_
  intro p e s m args below meth c s₁ B hml hv
  obtain ⟨rfl, hsz, hP, hK, hD0⟩ := hv
  have hx := B.exec
  have hb := B.bytes
  have hr := B.returns
  have hts := atoms_spec (ws := ws_ yX0_init cX0_init 1 none) B.pre
  have hts : ∀ w ∈ lw_all, w.before _ s = true := fun w h => hts w (List.mem_cons_of_mem _ h)
  have hown : s.vm.findClass RX0 = some m.cls := findClass_of_methodNamed B.named
  have hlocks := B.notSynchronized
  have hin : meth.name = "<init>" := (name_of_methodNamed B.named B.method).1
  subst hsz
  have hD := hD0.self (sz := s.heap.size)
  generalize hAe : va_A [(h0, .inr (0, [.int 0, .int 0, .int 0, .null]))] s.heap.size = A at hD ⊢
  have hA : ∀ q : Nat, s.heap.size ≤ q → A q := fun q h => by rw [← hAe]; exact Or.inr h
  have hS : va_S A s.heap s.heap [] := va_S.rf
  have hP : va_P (dC, dI) vwCl [(h0, .inr (0, [.int 0, .int 0, .int 0, .null]))] s.heap := hP
  have hl := lv_entry ([.ref h0]) (n := 1) (Nat.le_of_ble_eq_true rfl)
  rw [lg_entry_eq]
  generalize (lg_sl ([.ref h0]) ++ List.replicate (1 - (lg_sl ([.ref h0])).length) Slot.unset).toArray = ls at hl ⊢
  have hl : lv_has ls 1 [(0, .ref h0)] := hl
  refine lv_aload_n hx hb dX0_init_0 rfl (lv_at hl 0 rfl) ?_
  refine W.objInit hx hb hown (hts _ q15) (hts _ q16) (hts _ q17) rfl (by rw [hml]; exact hl.1) rfl dX0_init_1 (Nat.le_of_ble_eq_true rfl) (Nat.le_of_ble_eq_true rfl) ?_
  refine W.eq (g2 := F0 m 4 ls []) rfl ?_
  refine lv_aload_n hx hb dX0_init_4 rfl (lv_at hl 0 rfl) ?_
  refine lv_iconst (v := nI 3) hx hb dX0_init_5 (by decide +kernel) ?_
  refine va_put (D := (dC, dI)) (ci := 0) (v := .int (nI 3)) (ty := .int) (C := RX0) (T := TX0) (N := 4) hx hb hts in_X0 tyX0 tyX0_ok nmX0 hown hK hP hD hS 0 rfl rfl 0 (by decide) (hts _ q18) (fun _ h9 => h9) rfl (by decide +kernel) rfl rfl (Nat.le_of_ble_eq_true rfl) dX0_init_6 (fun H locs hP hD hS => ?_)
  have hP : va_P (dC, dI) vwCl [(h0, .inr (0, [.int (nI 3), .int 0, .int 0, .null]))] H := hP
  have hD : va_D A [(h0, .inr (0, [.int (nI 3), .int 0, .int 0, .null]))] := hD
  refine lv_aload_n hx hb dX0_init_9 rfl (lv_at hl 0 rfl) ?_
  refine lv_iconst (v := nI 5) hx hb dX0_init_10 (by decide +kernel) ?_
  refine va_put (D := (dC, dI)) (ci := 0) (v := .int (nI 5)) (ty := .int) (C := RX0) (T := TX0) (N := 4) hx hb hts in_X0 tyX0 tyX0_ok nmX0 hown hK hP hD hS 0 rfl rfl 1 (by decide) (hts _ q19) (fun _ h9 => h9) rfl (by decide +kernel) rfl rfl (Nat.le_of_ble_eq_true rfl) dX0_init_11 (fun H locs hP hD hS => ?_)
  have hP : va_P (dC, dI) vwCl [(h0, .inr (0, [.int (nI 3), .int (nI 5), .int 0, .null]))] H := hP
  have hD : va_D A [(h0, .inr (0, [.int (nI 3), .int (nI 5), .int 0, .null]))] := hD
  refine lv_aload_n hx hb dX0_init_14 rfl (lv_at hl 0 rfl) ?_
  refine lv_bipush (v := nI 7) hx hb dX0_init_15 (by decide +kernel) ?_
  refine va_put (D := (dC, dI)) (ci := 0) (v := .int (nI 7)) (ty := .int) (C := RX0) (T := TX0) (N := 4) hx hb hts in_X0 tyX0 tyX0_ok nmX0 hown hK hP hD hS 0 rfl rfl 2 (by decide) (hts _ q20) (fun _ h9 => h9) rfl (by decide +kernel) rfl rfl (Nat.le_of_ble_eq_true rfl) dX0_init_17 (fun H locs hP hD hS => ?_)
  have hP : va_P (dC, dI) vwCl [(h0, .inr (0, [.int (nI 3), .int (nI 5), .int (nI 7), .null]))] H := hP
  have hD : va_D A [(h0, .inr (0, [.int (nI 3), .int (nI 5), .int (nI 7), .null]))] := hD
  refine lv_aload_n hx hb dX0_init_20 rfl (lv_at hl 0 rfl) ?_
  refine lv_bipush (v := nI 32) hx hb dX0_init_21 (by decide +kernel) ?_
  refine va_newa (atype := .int) (ty := .int) (N' := 32) (a0 := (32, .inl (fun _ => 0))) hx hb (hts _ q31) rfl hK hP hD hS hA (fun _ => rfl) (by decide +kernel) (by decide +kernel) (by decide) (Nat.le_of_ble_eq_true rfl) (Nat.le_of_ble_eq_true rfl) dX0_init_23 (fun h1 d1 H hK hP hD hS => ?_)
  have hP : va_P (dC, dI) vwCl [(h0, .inr (0, [.int (nI 3), .int (nI 5), .int (nI 7), .null])), (h1, .inl (d1, 32, .inl (fun _ => 0)))] H := hP
  have hD : va_D A [(h0, .inr (0, [.int (nI 3), .int (nI 5), .int (nI 7), .null])), (h1, .inl (d1, 32, .inl (fun _ => 0)))] := hD
  refine va_putF (D := (dC, dI)) (ci := 0) (v := .ref h1) (ty := .array .int) (C := RX0) (T := TX0) (N := 4) hx hb hts in_X0 tyX0 tyX0_ok nmX0 hown hK hP hD hS 0 rfl rfl 3 (by decide) (hts _ q21) (fun _ h9 => h9) rfl hin rfl (by decide +kernel) rfl rfl (Nat.le_of_ble_eq_true rfl) dX0_init_25 (fun H locs hP hD hS => ?_)
  have hP : va_P (dC, dI) vwCl [(h0, .inr (0, [.int (nI 3), .int (nI 5), .int (nI 7), .ref h1])), (h1, .inl (d1, 32, .inl (fun _ => 0)))] H := hP
  have hD : va_D A [(h0, .inr (0, [.int (nI 3), .int (nI 5), .int (nI 7), .ref h1])), (h1, .inl (d1, 32, .inl (fun _ => 0)))] := hD
  have hK : va_K (dC, dI) vwCl [(d1, .int)] s := hK
  refine W.widen (k := 1) (n := 32) (Nat.le_refl _) (Nat.le_of_eq (Nat.zero_add _)) ?_
  exact W.vret hx hb hr (fun t ht hW => ⟨⟨(), rfl, trivial, h1, d1, (fun _ => 0), by rw [ht]; exact hP, va_K.moved hW.alike hK, hD⟩, hS.F ht⟩) hS.2.2 dX0_init_28
set_option maxHeartbeats 4000000 in
set_option maxRecDepth 100000 in
theorem mt_J1_fill (l : Launch) (dC : Nat → ClassId) (dI : Nat → Nat → Nat) (h1 sz : Nat) (d1 : ClassId) (f : Nat → Int32) (x0 : Int32) : Met l yJ1_fill (ws_ yJ1_fill cJ1_fill 4 none) ({ frames := 0, cells := 0, slots := 0, locals := 0 }) (va_Pc [.ref h1, .int x0] (fun U => U.heap.size = sz ∧ va_P (dC, dI) vwCl [(h1, .inl (d1, 32, .inl f))] U.heap ∧ va_K (dC, dI) vwCl [(d1, .int)] U ∧ va_D (fun _ => True) [(h1, .inl (d1, 32, .inl f))])) (va_Qv (fun f2 : Nat → Int32 => ∀ j, j < 32 → f2 j = x0) (fun f2 t => va_P (dC, dI) vwCl [(h1, .inl (d1, 32, .inl f2))] t.heap ∧ va_K (dC, dI) vwCl [(d1, .int)] t ∧ va_D (va_A [(h1, .inl (d1, 32, .inl f))] sz) [(h1, .inl (d1, 32, .inl f2))]) (va_A [(h1, .inl (d1, 32, .inl f))] sz)) 0 0 (va_A [(h1, .inl (d1, 32, .inl f))] sz) := by
  refine Met.ofW (cc := cJ1_fill) (maxL := 4) (ret := none) (by decide) rfl ?_
  intro p e s m args below meth c s₁ B hml hv
  obtain ⟨rfl, hsz, hP, hK, hD0⟩ := hv
  have hx := B.exec
  have hb := B.bytes
  have hr := B.returns
  have hts := atoms_spec (ws := ws_ yJ1_fill cJ1_fill 4 none) B.pre
  have hts : ∀ w ∈ lw_all, w.before _ s = true := fun w h => hts w (List.mem_cons_of_mem _ h)
  have hown : s.vm.findClass RJ1 = some m.cls := findClass_of_methodNamed B.named
  have hlocks := B.notSynchronized
  subst hsz
  have hD := hD0.self (sz := s.heap.size)
  generalize hAe : va_A [(h1, .inl (d1, 32, .inl f))] s.heap.size = A at hD ⊢
  have hA : ∀ q : Nat, s.heap.size ≤ q → A q := fun q h => by rw [← hAe]; exact Or.inr h
  have hS : va_S A s.heap s.heap [] := va_S.rf
  have hP : va_P (dC, dI) vwCl [(h1, .inl (d1, 32, .inl f))] s.heap := hP
  have hl := lv_entry ([.ref h1, .int x0]) (n := 4) (Nat.le_of_ble_eq_true rfl)
  rw [lg_entry_eq]
  generalize (lg_sl ([.ref h1, .int x0]) ++ List.replicate (4 - (lg_sl ([.ref h1, .int x0])).length) Slot.unset).toArray = ls at hl ⊢
  have hl : lv_has ls 4 [(0, .ref h1), (1, .int x0)] := hl
  refine lv_iconst (v := nI 0) hx hb dJ1_fill_0 (by decide +kernel) ?_
  refine lv_istore_n (lv' := [(2, .int (nI 0)), (0, .ref h1), (1, .int x0)]) hx hb dJ1_fill_1 rfl hl (by decide) rfl (fun ls hl => ?_)
  refine lv_aload_n hx hb dJ1_fill_2 rfl (lv_at hl 1 rfl) ?_
  refine va_alen (v := nI 32) hx hb hK hP 0 0 rfl rfl rfl dJ1_fill_3 ?_
  refine lv_istore_n (lv' := [(3, .int (nI 32)), (2, .int (nI 0)), (0, .ref h1), (1, .int x0)]) hx hb dJ1_fill_4 rfl hl (by decide) rfl (fun ls hl => ?_)
  refine cd_loopH (head := 5) (fun n H locs ls => ∃ (i : Nat) (f2 : Nat → Int32), n + i = 32 ∧ (∀ j, j < i → f2 j = x0) ∧ va_P (dC, dI) vwCl [(h1, .inl (d1, 32, .inl f2))] H ∧ va_D A [(h1, .inl (d1, 32, .inl f2))] ∧ va_S A s.heap H locs ∧ lv_has ls 4 [(0, .ref h1), (1, .int x0), (2, .int (nI i)), (3, .int (nI 32))]) ?_ 32 _ _ ls ⟨0, f, rfl, fun j hj => absurd hj (Nat.not_lt_zero j), hP, hD, hS, lv_sub hl [2, 3, 1, 0] rfl⟩
  clear hP hD hS hl
  rintro n H locs ls ⟨i, f2, en, hin, hP, hD, hS, hl⟩ ih
  refine lv_iload_n hx hb dJ1_fill_5 rfl (lv_at hl 2 rfl) ?_
  refine lv_iload_n hx hb dJ1_fill_6 rfl (lv_at hl 3 rfl) ?_
  refine cd_icmp_ge (tgt := 20) hx hb dJ1_fill_7 (by decide) (fun c1 => ?_) (fun c1 => ?_)
  · exact W.vret hx hb hr (fun t ht hW => ⟨⟨f2, rfl, fun j hj => hin j (by omega), by rw [ht]; exact hP, va_K.moved hW.alike hK, hD⟩, hS.F ht⟩) hS.2.2 dJ1_fill_20
  · refine lv_aload_n hx hb dJ1_fill_10 rfl (lv_at hl 0 rfl) ?_
    refine lv_iload_n hx hb dJ1_fill_11 rfl (lv_at hl 2 rfl) ?_
    refine lv_iload_n hx hb dJ1_fill_12 rfl (lv_at hl 1 rfl) ?_
    refine cd_iast hx hb hK hP hD hS 0 0 rfl rfl dJ1_fill_13 (fun H locs hP hD hS => ?_)
    have hP : va_P (dC, dI) vwCl [(h1, .inl (d1, 32, .inl (upd f2 i x0)))] H := hP
    have hD : va_D A [(h1, .inl (d1, 32, .inl (upd f2 i x0)))] := hD
    refine cd_iinc (k := 2) (lv' := [(2, .int (nI (i + 1))), (0, .ref h1), (1, .int x0), (3, .int (nI 32))]) hx hb dJ1_fill_14 hl rfl (by decide) rfl (fun ls hl => ?_)
    refine lv_goto (tgt := 5) hx hb dJ1_fill_17 (by decide) ?_
    exact ih (n - 1) H locs ls (by omega) ⟨i + 1, upd f2 i x0, by omega, fun j hj => by
      by_cases q : j = i
      · rw [q]; exact pk_us
      · rw [pk_un q]; exact hin j (by omega), hP, hD, hS, lv_sub hl [1, 2, 0, 3] rfl⟩
end
section
/-! ChangeDesk.turn, reckon (printed by gen/heap.py) -/
set_option maxHeartbeats 4000000 in
set_option maxRecDepth 100000 in
theorem mt_X0_turn (l : Launch) (dC : Nat → ClassId) (dI : Nat → Nat → Nat) (h0 h1 sz a b z : Nat) (d1 : ClassId) (f : Nat → Int32) (q B0 : Nat) (M : Nat → Nat) (ha1 : 0 < a) (ha2 : a ≤ 32) (hq1 : 0 < q) (hq2 : q ≤ 32) (hB : B0 ≤ 65536) (hf : ∀ j, j < a → f j = nI (M j)) (hM : cd_Bnd a B0 M) : Met l yX0_turn (ws_ yX0_turn cX0_turn 8 none) ({ frames := 1, cells := 0, slots := 0, locals := 24 }) (va_Pc [.ref h0, .int (nI q)] (fun U => U.heap.size = sz ∧ va_P (dC, dI) vwCl [(h0, .inr (0, [.int (nI a), .int (nI b), .int (nI z), .ref h1])), (h1, .inl (d1, 32, .inl f))] U.heap ∧ va_K (dC, dI) vwCl [(d1, .int)] U ∧ va_D (fun _ => True) [(h0, .inr (0, [.int (nI a), .int (nI b), .int (nI z), .ref h1])), (h1, .inl (d1, 32, .inl f))])) (va_Qv (fun f2 : Nat → Int32 => ∃ N : Nat → Nat, (∀ j, j < a → f2 j = nI (N j)) ∧ cd_Turn a q M N ∧ cd_Bnd a (B0 + 65536) N) (fun f2 t => va_P (dC, dI) vwCl [(h0, .inr (0, [.int (nI a), .int (nI b), .int (nI z), .ref h1])), (h1, .inl (d1, 32, .inl f2))] t.heap ∧ va_K (dC, dI) vwCl [(d1, .int)] t ∧ va_D (va_A [(h0, .inr (0, [.int (nI a), .int (nI b), .int (nI z), .ref h1])), (h1, .inl (d1, 32, .inl f))] sz) [(h0, .inr (0, [.int (nI a), .int (nI b), .int (nI z), .ref h1])), (h1, .inl (d1, 32, .inl f2))]) (va_A [(h0, .inr (0, [.int (nI a), .int (nI b), .int (nI z), .ref h1])), (h1, .inl (d1, 32, .inl f))] sz)) 0 0 (va_A [(h0, .inr (0, [.int (nI a), .int (nI b), .int (nI z), .ref h1])), (h1, .inl (d1, 32, .inl f))] sz) := by
  refine Met.ofW (cc := cX0_turn) (maxL := 8) (ret := none) (by decide) rfl ?_
  intro p e s m args below meth c s₁ B hml hv
  obtain ⟨rfl, hsz, hP, hK, hD0⟩ := hv
  have hx := B.exec
  have hb := B.bytes
  have hr := B.returns
  have hts := atoms_spec (ws := ws_ yX0_turn cX0_turn 8 none) B.pre
  have hts : ∀ w ∈ lw_all, w.before _ s = true := fun w h => hts w (List.mem_cons_of_mem _ h)
  have hown : s.vm.findClass RX0 = some m.cls := findClass_of_methodNamed B.named
  have hlocks := B.notSynchronized
  subst hsz
  have hD := hD0.self (sz := s.heap.size)
  generalize hAe : va_A [(h0, .inr (0, [.int (nI a), .int (nI b), .int (nI z), .ref h1])), (h1, .inl (d1, 32, .inl f))] s.heap.size = A at hD ⊢
  have hA : ∀ q : Nat, s.heap.size ≤ q → A q := fun q h => by rw [← hAe]; exact Or.inr h
  have hS : va_S A s.heap s.heap [] := va_S.rf
  have hP : va_P (dC, dI) vwCl [(h0, .inr (0, [.int (nI a), .int (nI b), .int (nI z), .ref h1])), (h1, .inl (d1, 32, .inl f))] s.heap := hP
  have hl := lv_entry ([.ref h0, .int (nI q)]) (n := 8) (Nat.le_of_ble_eq_true rfl)
  rw [lg_entry_eq]
  generalize (lg_sl ([.ref h0, .int (nI q)]) ++ List.replicate (8 - (lg_sl ([.ref h0, .int (nI q)])).length) Slot.unset).toArray = ls at hl ⊢
  have hl : lv_has ls 8 [(0, .ref h0), (1, .int (nI q))] := hl
  refine lv_aload_n hx hb dX0_turn_0 rfl (lv_at hl 0 rfl) ?_
  refine va_get (D := (dC, dI)) (ci := 0) (v := .int (nI a)) (C := RX0) (T := TX0) (N := 4) hx hb hts in_X0 hown hK hP 0 rfl rfl 0 (by decide) (hts _ q18) (fun _ h9 => h9) rfl dX0_turn_1 ?_
  refine lv_iload_n hx hb dX0_turn_4 rfl (lv_at hl 1 rfl) ?_
  refine cd_callr (W.runS (As := [.int (nI a), .int (nI q)]) (rest := []) ⟨hx, hb, hml, hown, hts⟩ (mt_X0_common l a q (by omega) (by omega)) (va_cwS 2 hts (lw_S q40 q41 q6 q42) rfl rfl rfl (by decide +kernel) ⟨Nat.le_of_ble_eq_true rfl, Nat.le_of_ble_eq_true rfl⟩) cd_preS rfl rfl hl.1 rfl (lv_room (Nat.le_of_ble_eq_true rfl)) dX0_turn_5 ⟨Nat.le_of_ble_eq_true rfl, Nat.le_of_ble_eq_true rfl⟩) (fun r er => ?_)
  have er : r = nI (Nat.gcd a q) := er
  subst er
  refine cd_topn (fun g hg => ?_)
  have hg1 : 0 < g := by rw [hg]; exact Nat.gcd_pos_of_pos_left q ha1
  have hg2 : g ≤ a := by rw [hg]; exact cd_gcd_le ha1
  refine lv_istore_n (lv' := [(2, .int (nI g)), (0, .ref h0), (1, .int (nI q))]) hx hb dX0_turn_8 rfl hl (by decide) rfl (fun ls hl => ?_)
  refine lv_aload_n hx hb dX0_turn_9 rfl (lv_at hl 1 rfl) ?_
  refine va_get (D := (dC, dI)) (ci := 0) (v := .int (nI a)) (C := RX0) (T := TX0) (N := 4) hx hb hts in_X0 hown hK hP 0 rfl rfl 0 (by decide) (hts _ q18) (fun _ h9 => h9) rfl dX0_turn_10 ?_
  refine lv_iload_n hx hb dX0_turn_13 rfl (lv_at hl 0 rfl) ?_
  refine cd_idiv hx hb dX0_turn_14 ?_
  refine cd_topn (fun L hL => ?_)
  have hL2 : L ≤ 32 := by rw [hL]; exact Nat.le_trans (Nat.div_le_self a g) ha2
  refine lv_istore_n (lv' := [(3, .int (nI L)), (2, .int (nI g)), (0, .ref h0), (1, .int (nI q))]) hx hb dX0_turn_15 rfl hl (by decide) rfl (fun ls hl => ?_)
  refine lv_iconst (v := nI 0) hx hb dX0_turn_16 (by decide +kernel) ?_
  refine lv_istore (lv' := [(4, .int (nI 0)), (3, .int (nI L)), (2, .int (nI g)), (0, .ref h0), (1, .int (nI q))]) hx hb dX0_turn_17 hl (by decide) rfl (fun ls hl => ?_)
  refine cd_loopH (head := 19) (fun n H locs ls => ∃ (o : Nat) (f2 : Nat → Int32) (N : Nat → Nat), n + o = g ∧ (∀ j, j < a → f2 j = nI (N j)) ∧ cd_Inv a q L o 0 B0 M N ∧ va_P (dC, dI) vwCl [(h0, .inr (0, [.int (nI a), .int (nI b), .int (nI z), .ref h1])), (h1, .inl (d1, 32, .inl f2))] H ∧ va_D A [(h0, .inr (0, [.int (nI a), .int (nI b), .int (nI z), .ref h1])), (h1, .inl (d1, 32, .inl f2))] ∧ va_S A s.heap H locs ∧ lv_has ls 8 [(0, .ref h0), (1, .int (nI q)), (2, .int (nI g)), (3, .int (nI L)), (4, .int (nI o))]) ?_ g _ _ ls ⟨0, f, M, rfl, hf, cd_Inv.init ha1 hM, hP, hD, hS, lv_sub hl [3, 4, 2, 1, 0] rfl⟩
  clear hP hD hS hl hf
  rintro n H locs ls ⟨o, f2, N, en, hf, hI, hP, hD, hS, hl⟩ ih
  refine lv_iload hx hb dX0_turn_19 (lv_at hl 4 rfl) ?_
  refine lv_iload_n hx hb dX0_turn_21 rfl (lv_at hl 2 rfl) ?_
  refine cd_icmp_ge (tgt := 105) hx hb dX0_turn_22 (by decide) (fun c1 => ?_) (fun c1 => ?_)
  · have eo : o = g := by omega
    rw [eo, hL, hg] at hI
    exact W.vret hx hb hr (fun t ht hW => ⟨⟨f2, rfl, ⟨N, hf, cd_Inv.done ha1 ha2 hq2 hM (by omega) hI, cd_Inv.bnd hI (by omega)⟩, by rw [ht]; exact hP, va_K.moved hW.alike hK, hD⟩, hS.F ht⟩) hS.2.2 dX0_turn_105
  · refine lv_iload hx hb dX0_turn_25 (lv_at hl 4 rfl) ?_
    refine lv_istore (lv' := [(5, .int (nI o)), (0, .ref h0), (1, .int (nI q)), (2, .int (nI g)), (3, .int (nI L)), (4, .int (nI o))]) hx hb dX0_turn_27 hl (by decide) rfl (fun ls hl => ?_)
    refine lv_iconst (v := nI 0) hx hb dX0_turn_29 (by decide +kernel) ?_
    refine lv_istore (lv' := [(6, .int (nI 0)), (5, .int (nI o)), (0, .ref h0), (1, .int (nI q)), (2, .int (nI g)), (3, .int (nI L)), (4, .int (nI o))]) hx hb dX0_turn_30 hl (by decide) rfl (fun ls hl => ?_)
    have e0 : (o + 0 * q) % a = o := by rw [Nat.zero_mul, Nat.add_zero, Nat.mod_eq_of_lt (by omega)]
    refine cd_loopH (head := 32) (fun n2 H locs ls => ∃ (j : Nat) (f2 : Nat → Int32) (N : Nat → Nat), n2 + j = 2 * L ∧ (∀ j, j < a → f2 j = nI (N j)) ∧ cd_Inv a q L o j B0 M N ∧ va_P (dC, dI) vwCl [(h0, .inr (0, [.int (nI a), .int (nI b), .int (nI z), .ref h1])), (h1, .inl (d1, 32, .inl f2))] H ∧ va_D A [(h0, .inr (0, [.int (nI a), .int (nI b), .int (nI z), .ref h1])), (h1, .inl (d1, 32, .inl f2))] ∧ va_S A s.heap H locs ∧ lv_has ls 8 [(0, .ref h0), (1, .int (nI q)), (2, .int (nI g)), (3, .int (nI L)), (4, .int (nI o)), (5, .int (nI ((o + j * q) % a))), (6, .int (nI j))]) ?_ (2 * L) _ _ ls ⟨0, f2, N, rfl, hf, hI, hP, hD, hS, by rw [e0]; exact lv_sub hl [2, 3, 4, 5, 6, 1, 0] rfl⟩
    clear hP hD hS hl hf hI f2 N
    rintro n2 H locs ls ⟨j, f2, N, en2, hf, hI, hP, hD, hS, hl⟩ ih2
    refine lv_iload hx hb dX0_turn_32 (lv_at hl 6 rfl) ?_
    refine lv_iconst (v := nI 2) hx hb dX0_turn_34 (by decide +kernel) ?_
    refine lv_iload_n hx hb dX0_turn_35 rfl (lv_at hl 3 rfl) ?_
    refine cd_imul hx hb dX0_turn_36 ?_
    refine cd_icmp_ge (tgt := 99) hx hb dX0_turn_37 (by decide) (fun c2 => ?_) (fun c2 => ?_)
    · have ej : j = 2 * L := by omega
      rw [ej] at hI
      refine cd_iinc (k := 4) (lv' := [(4, .int (nI (o + 1))), (0, .ref h0), (1, .int (nI q)), (2, .int (nI g)), (3, .int (nI L)), (5, .int (nI ((o + j * q) % a))), (6, .int (nI j))]) hx hb dX0_turn_99 hl rfl (by decide) rfl (fun ls hl => ?_)
      refine lv_goto (tgt := 19) hx hb dX0_turn_102 (by decide) ?_
      exact ih (n - 1) H locs ls (by omega) ⟨o + 1, f2, N, by omega, hf, cd_Inv.ring ha1 hL2 hI, hP, hD, hS, lv_sub hl [1, 2, 3, 4, 0] rfl⟩
    · have hat : (o + j * q) % a < a := Nat.mod_lt _ ha1
      have hnx : (o + (j + 1) * q) % a < a := Nat.mod_lt _ ha1
      have hb1 := hI.2.2.2.2 _ hat
      have hb2 := hI.2.2.2.2 _ hnx
      refine lv_iload hx hb dX0_turn_40 (lv_at hl 5 rfl) ?_
      refine lv_iload_n hx hb dX0_turn_42 rfl (lv_at hl 1 rfl) ?_
      refine cd_iadd hx hb dX0_turn_43 ?_
      refine lv_aload_n hx hb dX0_turn_44 rfl (lv_at hl 0 rfl) ?_
      refine va_get (D := (dC, dI)) (ci := 0) (v := .int (nI a)) (C := RX0) (T := TX0) (N := 4) hx hb hts in_X0 hown hK hP 0 rfl rfl 0 (by decide) (hts _ q18) (fun _ h9 => h9) rfl dX0_turn_45 ?_
      refine cd_irem hx hb dX0_turn_48 ?_
      refine cd_nv (y := (o + (j + 1) * q) % a) (cd_next a q o j) ?_
      refine lv_istore (lv' := [(7, .int (nI ((o + (j + 1) * q) % a))), (0, .ref h0), (1, .int (nI q)), (2, .int (nI g)), (3, .int (nI L)), (4, .int (nI o)), (5, .int (nI ((o + j * q) % a))), (6, .int (nI j))]) hx hb dX0_turn_49 hl (by decide) rfl (fun ls hl => ?_)
      refine lv_aload_n hx hb dX0_turn_51 rfl (lv_at hl 1 rfl) ?_
      refine va_get (D := (dC, dI)) (ci := 0) (v := .ref h1) (C := RX0) (T := TX0) (N := 4) hx hb hts in_X0 hown hK hP 0 rfl rfl 3 (by decide) (hts _ q21) (fun _ h9 => h9) rfl dX0_turn_52 ?_
      refine lv_iload hx hb dX0_turn_55 (lv_at hl 6 rfl) ?_
      refine cd_iald (f := f2) hx hb hK hP 1 0 rfl rfl dX0_turn_57 ?_
      refine cd_v (y := nI (N ((o + j * q) % a))) (hf _ hat) ?_
      refine lv_ldc hx hb hown (hts _ q47) dX0_turn_58 ?_
      refine cd_v (y := nI 2147483647) (by decide +kernel) ?_
      refine cd_icmp_eq (tgt := 89) hx hb dX0_turn_60 (by decide) (fun c3 => ?_) (fun c3 => ?_)
      · refine lv_iload hx hb dX0_turn_89 (lv_at hl 0 rfl) ?_
        refine lv_istore (lv' := [(5, .int (nI ((o + (j + 1) * q) % a))), (7, .int (nI ((o + (j + 1) * q) % a))), (0, .ref h0), (1, .int (nI q)), (2, .int (nI g)), (3, .int (nI L)), (4, .int (nI o)), (6, .int (nI j))]) hx hb dX0_turn_91 hl (by decide) rfl (fun ls hl => ?_)
        refine cd_iinc (k := 7) (lv' := [(6, .int (nI (j + 1))), (5, .int (nI ((o + (j + 1) * q) % a))), (7, .int (nI ((o + (j + 1) * q) % a))), (0, .ref h0), (1, .int (nI q)), (2, .int (nI g)), (3, .int (nI L)), (4, .int (nI o))]) hx hb dX0_turn_93 hl rfl (by decide) rfl (fun ls hl => ?_)
        refine lv_goto (tgt := 32) hx hb dX0_turn_96 (by decide) ?_
        exact ih2 (n2 - 1) H locs ls (by omega) ⟨j + 1, f2, N, by omega, hf, cd_Inv.no ha1 hq2 hM (by omega) hI c3, hP, hD, hS, lv_sub hl [3, 4, 5, 6, 7, 1, 0] rfl⟩
      · refine lv_aload_n hx hb dX0_turn_63 rfl (lv_at hl 1 rfl) ?_
        refine va_get (D := (dC, dI)) (ci := 0) (v := .ref h1) (C := RX0) (T := TX0) (N := 4) hx hb hts in_X0 hown hK hP 0 rfl rfl 3 (by decide) (hts _ q21) (fun _ h9 => h9) rfl dX0_turn_64 ?_
        refine lv_iload hx hb dX0_turn_67 (lv_at hl 0 rfl) ?_
        refine lv_aload_n hx hb dX0_turn_69 rfl (lv_at hl 1 rfl) ?_
        refine va_get (D := (dC, dI)) (ci := 0) (v := .ref h1) (C := RX0) (T := TX0) (N := 4) hx hb hts in_X0 hown hK hP 0 rfl rfl 3 (by decide) (hts _ q21) (fun _ h9 => h9) rfl dX0_turn_70 ?_
        refine lv_iload hx hb dX0_turn_73 (lv_at hl 0 rfl) ?_
        refine cd_iald (f := f2) hx hb hK hP 1 0 rfl rfl dX0_turn_75 ?_
        refine cd_v (y := nI (N ((o + (j + 1) * q) % a))) (hf _ hnx) ?_
        refine lv_aload_n hx hb dX0_turn_76 rfl (lv_at hl 1 rfl) ?_
        refine va_get (D := (dC, dI)) (ci := 0) (v := .ref h1) (C := RX0) (T := TX0) (N := 4) hx hb hts in_X0 hown hK hP 0 rfl rfl 3 (by decide) (hts _ q21) (fun _ h9 => h9) rfl dX0_turn_77 ?_
        refine lv_iload hx hb dX0_turn_80 (lv_at hl 6 rfl) ?_
        refine cd_iald (f := f2) hx hb hK hP 1 0 rfl rfl dX0_turn_82 ?_
        refine cd_v (y := nI (N ((o + j * q) % a))) (hf _ hat) ?_
        refine lv_iload_n hx hb dX0_turn_83 rfl (lv_at hl 2 rfl) ?_
        refine cd_iadd hx hb dX0_turn_84 ?_
        refine cd_mmin hx hb (hml.trans hl.1.symm) hown hts (Nat.le_of_ble_eq_true rfl) (Nat.le_of_ble_eq_true rfl) (Nat.le_of_ble_eq_true rfl) (Nat.le_of_ble_eq_true rfl) dX0_turn_85 ?_
        refine cd_iast hx hb hK hP hD hS 1 0 rfl rfl dX0_turn_88 (fun H locs hP hD hS => ?_)
        have hP : va_P (dC, dI) vwCl [(h0, .inr (0, [.int (nI a), .int (nI b), .int (nI z), .ref h1])), (h1, .inl (d1, 32, .inl (upd f2 ((o + (j + 1) * q) % a) (nI (if N ((o + j * q) % a) + q < N ((o + (j + 1) * q) % a) then N ((o + j * q) % a) + q else N ((o + (j + 1) * q) % a))))))] H := hP
        have hD : va_D A [(h0, .inr (0, [.int (nI a), .int (nI b), .int (nI z), .ref h1])), (h1, .inl (d1, 32, .inl (upd f2 ((o + (j + 1) * q) % a) (nI (if N ((o + j * q) % a) + q < N ((o + (j + 1) * q) % a) then N ((o + j * q) % a) + q else N ((o + (j + 1) * q) % a))))))] := hD
        refine lv_iload hx hb dX0_turn_89 (lv_at hl 0 rfl) ?_
        refine lv_istore (lv' := [(5, .int (nI ((o + (j + 1) * q) % a))), (7, .int (nI ((o + (j + 1) * q) % a))), (0, .ref h0), (1, .int (nI q)), (2, .int (nI g)), (3, .int (nI L)), (4, .int (nI o)), (6, .int (nI j))]) hx hb dX0_turn_91 hl (by decide) rfl (fun ls hl => ?_)
        refine cd_iinc (k := 7) (lv' := [(6, .int (nI (j + 1))), (5, .int (nI ((o + (j + 1) * q) % a))), (7, .int (nI ((o + (j + 1) * q) % a))), (0, .ref h0), (1, .int (nI q)), (2, .int (nI g)), (3, .int (nI L)), (4, .int (nI o))]) hx hb dX0_turn_93 hl rfl (by decide) rfl (fun ls hl => ?_)
        refine lv_goto (tgt := 32) hx hb dX0_turn_96 (by decide) ?_
        exact ih2 (n2 - 1) H locs ls (by omega) ⟨j + 1, _, (fun r => if r = (o + (j + 1) * q) % a then (if N ((o + j * q) % a) + q < N ((o + (j + 1) * q) % a) then N ((o + j * q) % a) + q else N ((o + (j + 1) * q) % a)) else N r), by omega, fun k hk => by
          by_cases e9 : k = (o + (j + 1) * q) % a
          · rw [e9, pk_us]; exact congrArg nI (if_pos rfl).symm
          · rw [pk_un e9, hf k hk]; exact congrArg nI (if_neg e9).symm, cd_Inv.yes ha1 hq2 hI c3 (by omega) (fun r _ hr9 => if_neg hr9) (if_pos rfl), hP, hD, hS, lv_sub hl [3, 4, 5, 6, 7, 1, 0] rfl⟩
set_option maxHeartbeats 4000000 in
set_option maxRecDepth 100000 in
theorem mt_X0_reckon (l : Launch) (dC : Nat → ClassId) (dI : Nat → Nat → Nat) (h0 h1 sz a b z : Nat) (d1 : ClassId) (f : Nat → Int32) (ha1 : 0 < a) (ha2 : a ≤ 32) (hb1 : 0 < b) (hb2 : b ≤ 32) (hz1 : 0 < z) (hz2 : z ≤ 32) : Met l yX0_reckon (ws_ yX0_reckon cX0_reckon 1 none) ({ frames := 2, cells := 0, slots := 0, locals := 51 }) (va_Pc [.ref h0] (fun U => U.heap.size = sz ∧ va_P (dC, dI) vwCl [(h0, .inr (0, [.int (nI a), .int (nI b), .int (nI z), .ref h1])), (h1, .inl (d1, 32, .inl f))] U.heap ∧ va_K (dC, dI) vwCl [(d1, .int)] U ∧ va_D (fun _ => True) [(h0, .inr (0, [.int (nI a), .int (nI b), .int (nI z), .ref h1])), (h1, .inl (d1, 32, .inl f))])) (va_Qv (fun f2 : Nat → Int32 => ∃ M1 N : Nat → Nat, (∀ j, j < a → f2 j = nI (N j)) ∧ cd_Turn a b cd_M0 M1 ∧ cd_Turn a z M1 N) (fun f2 t => va_P (dC, dI) vwCl [(h0, .inr (0, [.int (nI a), .int (nI b), .int (nI z), .ref h1])), (h1, .inl (d1, 32, .inl f2))] t.heap ∧ va_K (dC, dI) vwCl [(d1, .int)] t ∧ va_D (va_A [(h0, .inr (0, [.int (nI a), .int (nI b), .int (nI z), .ref h1])), (h1, .inl (d1, 32, .inl f))] sz) [(h0, .inr (0, [.int (nI a), .int (nI b), .int (nI z), .ref h1])), (h1, .inl (d1, 32, .inl f2))]) (va_A [(h0, .inr (0, [.int (nI a), .int (nI b), .int (nI z), .ref h1])), (h1, .inl (d1, 32, .inl f))] sz)) 0 0 (va_A [(h0, .inr (0, [.int (nI a), .int (nI b), .int (nI z), .ref h1])), (h1, .inl (d1, 32, .inl f))] sz) := by
  refine Met.ofW (cc := cX0_reckon) (maxL := 1) (ret := none) (by decide) rfl ?_
  intro p e s m args below meth c s₁ B hml hv
  obtain ⟨rfl, hsz, hP, hK, hD0⟩ := hv
  have hx := B.exec
  have hb := B.bytes
  have hr := B.returns
  have hts := atoms_spec (ws := ws_ yX0_reckon cX0_reckon 1 none) B.pre
  have hts : ∀ w ∈ lw_all, w.before _ s = true := fun w h => hts w (List.mem_cons_of_mem _ h)
  have hown : s.vm.findClass RX0 = some m.cls := findClass_of_methodNamed B.named
  have hlocks := B.notSynchronized
  subst hsz
  have hD := hD0.self (sz := s.heap.size)
  generalize hAe : va_A [(h0, .inr (0, [.int (nI a), .int (nI b), .int (nI z), .ref h1])), (h1, .inl (d1, 32, .inl f))] s.heap.size = A at hD ⊢
  have hA : ∀ q : Nat, s.heap.size ≤ q → A q := fun q h => by rw [← hAe]; exact Or.inr h
  have hS : va_S A s.heap s.heap [] := va_S.rf
  have hP : va_P (dC, dI) vwCl [(h0, .inr (0, [.int (nI a), .int (nI b), .int (nI z), .ref h1])), (h1, .inl (d1, 32, .inl f))] s.heap := hP
  have hl := lv_entry ([.ref h0]) (n := 1) (Nat.le_of_ble_eq_true rfl)
  rw [lg_entry_eq]
  generalize (lg_sl ([.ref h0]) ++ List.replicate (1 - (lg_sl ([.ref h0])).length) Slot.unset).toArray = ls at hl ⊢
  have hl : lv_has ls 1 [(0, .ref h0)] := hl
  refine lv_aload_n hx hb dX0_reckon_0 rfl (lv_at hl 0 rfl) ?_
  refine va_get (D := (dC, dI)) (ci := 0) (v := .ref h1) (C := RX0) (T := TX0) (N := 4) hx hb hts in_X0 hown hK hP 0 rfl rfl 3 (by decide) (hts _ q21) (fun _ h9 => h9) rfl dX0_reckon_1 ?_
  refine lv_ldc hx hb hown (hts _ q47) dX0_reckon_4 ?_
  refine cd_v (y := nI 2147483647) (by decide +kernel) ?_
  have hPc := hP.sub (ws' := [(h1, .inl (d1, 32, .inl f))]) [1] rfl
  have hDc := hD.sub (ws' := [(h1, .inl (d1, 32, .inl f))]) [1] (by decide) rfl
  have hKc := hK.sub (tys' := [(d1, .int)]) [0] rfl
  have hFc := va_free (wc := [(h1, .inl (d1, 32, .inl f))]) hD hS hA [1] rfl
  refine va_callv (va_runS (As := [.ref h1, .int (nI 2147483647)]) (rest := []) ⟨hx, hb, hml, hown, hts⟩ (mt_J1_fill l dC dI h1 s.heap.size d1 f (nI 2147483647)) (va_cwS 2 hts (lw_S q48 q49 q9 q50) rfl rfl rfl (by decide +kernel) ⟨Nat.le_of_ble_eq_true rfl, Nat.le_of_ble_eq_true rfl⟩) ⟨fun a U g mk q => by obtain ⟨q0, q1, qP, qK, qD⟩ := q; exact ⟨q0, q1, qP, va_K.moved (u := U) (U := U.calling g mk a) (Vm.Alike.refl U.vm) qK, qD⟩, fun U hU hW => ⟨rfl, by rw [hU], by rw [hU]; exact hPc, va_K.moved hW.alike hKc, hDc.weaken (fun _ _ _ _ => trivial)⟩⟩ rfl rfl hl.1 rfl (lv_room (Nat.le_of_ble_eq_true rfl)) dX0_reckon_6 ⟨Nat.le_of_ble_eq_true rfl, Nat.le_of_ble_eq_true rfl⟩) hS (fun q _ h => hFc q h) hFc (fun f2 t H1 locs ht hvm hw hB hsz1 hk1 hS => ?_)
  obtain ⟨hP1, hK1, hD1⟩ := hB
  rw [ht] at hP1
  have hK1 := va_K.moved hvm.symm hK1
  obtain ⟨hP, hD⟩ := va_join (wr := [(h0, .inr (0, [.int (nI a), .int (nI b), .int (nI z), .ref h1]))]) (w1 := [(h1, .inl (d1, 32, .inl f2))]) hP hD [1] [0] rfl rfl (by decide) (by decide) hk1 hFc hP1 hD1
  generalize H1 = H at hP hS ⊢
  have hP : va_P (dC, dI) vwCl [(h0, .inr (0, [.int (nI a), .int (nI b), .int (nI z), .ref h1])), (h1, .inl (d1, 32, .inl f2))] H := hP
  have hD : va_D A [(h0, .inr (0, [.int (nI a), .int (nI b), .int (nI z), .ref h1])), (h1, .inl (d1, 32, .inl f2))] := hD
  have hw : ∀ j, j < 32 → f2 j = nI 2147483647 := hw
  refine lv_aload_n hx hb dX0_reckon_9 rfl (lv_at hl 0 rfl) ?_
  refine va_get (D := (dC, dI)) (ci := 0) (v := .ref h1) (C := RX0) (T := TX0) (N := 4) hx hb hts in_X0 hown hK hP 0 rfl rfl 3 (by decide) (hts _ q21) (fun _ h9 => h9) rfl dX0_reckon_10 ?_
  refine lv_iconst (v := nI 0) hx hb dX0_reckon_13 (by decide +kernel) ?_
  refine lv_iconst (v := nI 0) hx hb dX0_reckon_14 (by decide +kernel) ?_
  refine cd_iast hx hb hK hP hD hS 1 0 rfl rfl dX0_reckon_15 (fun H locs hP hD hS => ?_)
  have hf3 : ∀ j, j < a → upd f2 0 (nI 0) j = nI (cd_M0 j) := fun j hj => by
    by_cases e9 : j = 0
    · rw [e9, pk_us]; rfl
    · rw [pk_un e9, hw j (by omega)]
      unfold cd_M0
      rw [if_neg e9]
  generalize upd f2 0 (nI 0) = f3 at hP hD hf3
  have hP : va_P (dC, dI) vwCl [(h0, .inr (0, [.int (nI a), .int (nI b), .int (nI z), .ref h1])), (h1, .inl (d1, 32, .inl f3))] H := hP
  have hD : va_D A [(h0, .inr (0, [.int (nI a), .int (nI b), .int (nI z), .ref h1])), (h1, .inl (d1, 32, .inl f3))] := hD
  refine lv_aload_n hx hb dX0_reckon_16 rfl (lv_at hl 0 rfl) ?_
  refine lv_aload_n hx hb dX0_reckon_17 rfl (lv_at hl 0 rfl) ?_
  refine va_get (D := (dC, dI)) (ci := 0) (v := .int (nI b)) (C := RX0) (T := TX0) (N := 4) hx hb hts in_X0 hown hK hP 0 rfl rfl 1 (by decide) (hts _ q19) (fun _ h9 => h9) rfl dX0_reckon_18 ?_
  have hPc := hP.sub (ws' := [(h0, .inr (0, [.int (nI a), .int (nI b), .int (nI z), .ref h1])), (h1, .inl (d1, 32, .inl f3))]) [0, 1] rfl
  have hDc := hD.sub (ws' := [(h0, .inr (0, [.int (nI a), .int (nI b), .int (nI z), .ref h1])), (h1, .inl (d1, 32, .inl f3))]) [0, 1] (by decide) rfl
  have hKc := hK.sub (tys' := [(d1, .int)]) [0] rfl
  have hFc := va_free (wc := [(h0, .inr (0, [.int (nI a), .int (nI b), .int (nI z), .ref h1])), (h1, .inl (d1, 32, .inl f3))]) hD hS hA [0, 1] rfl
  refine va_callv (va_runV (As := [.int (nI b)]) (rest := []) ⟨hx, hb, hml, hown, hts⟩ (mt_X0_turn l dC dI h0 h1 H.size a b z d1 f3 b 0 cd_M0 ha1 ha2 hb1 hb2 (by omega) hf3 (cd_M0_bnd a)) (cwV 1 hts (lw_V q51 q53 qs1 q6 q54) rfl rfl rfl (by decide +kernel) ⟨Nat.le_of_ble_eq_true rfl, Nat.le_of_ble_eq_true rfl⟩) ⟨fun a U g mk q => by obtain ⟨q0, q1, qP, qK, qD⟩ := q; exact ⟨q0, q1, qP, va_K.moved (u := U) (U := U.calling g mk a) (Vm.Alike.refl U.vm) qK, qD⟩, va_recv hKc hPc (ci := 0) (q0 := 0) rfl rfl, fun U hU hW => ⟨rfl, by rw [hU], by rw [hU]; exact hPc, va_K.moved hW.alike hKc, hDc.weaken (fun _ _ _ _ => trivial)⟩⟩ rfl rfl hl.1 rfl (lv_room (Nat.le_of_ble_eq_true rfl)) dX0_reckon_21 ⟨Nat.le_of_ble_eq_true rfl, Nat.le_of_ble_eq_true rfl⟩) hS (fun q _ h => hFc q h) hFc (fun f4 t H1 locs ht hvm hw hB hsz1 hk1 hS => ?_)
  obtain ⟨hP1, hK1, hD1⟩ := hB
  rw [ht] at hP1
  have hK1 := va_K.moved hvm.symm hK1
  obtain ⟨hP, hD⟩ := va_join (wr := []) (w1 := [(h0, .inr (0, [.int (nI a), .int (nI b), .int (nI z), .ref h1])), (h1, .inl (d1, 32, .inl f4))]) hP hD [0, 1] [] rfl rfl (by decide) (by decide) hk1 hFc hP1 hD1
  generalize H1 = H at hP hS ⊢
  have hP : va_P (dC, dI) vwCl [(h0, .inr (0, [.int (nI a), .int (nI b), .int (nI z), .ref h1])), (h1, .inl (d1, 32, .inl f4))] H := hP
  have hD : va_D A [(h0, .inr (0, [.int (nI a), .int (nI b), .int (nI z), .ref h1])), (h1, .inl (d1, 32, .inl f4))] := hD
  obtain ⟨M1, hf4, hT1, hB1⟩ := hw
  refine lv_aload_n hx hb dX0_reckon_24 rfl (lv_at hl 0 rfl) ?_
  refine lv_aload_n hx hb dX0_reckon_25 rfl (lv_at hl 0 rfl) ?_
  refine va_get (D := (dC, dI)) (ci := 0) (v := .int (nI z)) (C := RX0) (T := TX0) (N := 4) hx hb hts in_X0 hown hK hP 0 rfl rfl 2 (by decide) (hts _ q20) (fun _ h9 => h9) rfl dX0_reckon_26 ?_
  have hPc := hP.sub (ws' := [(h0, .inr (0, [.int (nI a), .int (nI b), .int (nI z), .ref h1])), (h1, .inl (d1, 32, .inl f4))]) [0, 1] rfl
  have hDc := hD.sub (ws' := [(h0, .inr (0, [.int (nI a), .int (nI b), .int (nI z), .ref h1])), (h1, .inl (d1, 32, .inl f4))]) [0, 1] (by decide) rfl
  have hKc := hK.sub (tys' := [(d1, .int)]) [0] rfl
  have hFc := va_free (wc := [(h0, .inr (0, [.int (nI a), .int (nI b), .int (nI z), .ref h1])), (h1, .inl (d1, 32, .inl f4))]) hD hS hA [0, 1] rfl
  refine va_callv (va_runV (As := [.int (nI z)]) (rest := []) ⟨hx, hb, hml, hown, hts⟩ (mt_X0_turn l dC dI h0 h1 H.size a b z d1 f4 z (0 + 65536) M1 ha1 ha2 hz1 hz2 (by omega) hf4 hB1) (cwV 1 hts (lw_V q51 q53 qs1 q6 q54) rfl rfl rfl (by decide +kernel) ⟨Nat.le_of_ble_eq_true rfl, Nat.le_of_ble_eq_true rfl⟩) ⟨fun a U g mk q => by obtain ⟨q0, q1, qP, qK, qD⟩ := q; exact ⟨q0, q1, qP, va_K.moved (u := U) (U := U.calling g mk a) (Vm.Alike.refl U.vm) qK, qD⟩, va_recv hKc hPc (ci := 0) (q0 := 0) rfl rfl, fun U hU hW => ⟨rfl, by rw [hU], by rw [hU]; exact hPc, va_K.moved hW.alike hKc, hDc.weaken (fun _ _ _ _ => trivial)⟩⟩ rfl rfl hl.1 rfl (lv_room (Nat.le_of_ble_eq_true rfl)) dX0_reckon_29 ⟨Nat.le_of_ble_eq_true rfl, Nat.le_of_ble_eq_true rfl⟩) hS (fun q _ h => hFc q h) hFc (fun f5 t H1 locs ht hvm hw hB hsz1 hk1 hS => ?_)
  obtain ⟨hP1, hK1, hD1⟩ := hB
  rw [ht] at hP1
  have hK1 := va_K.moved hvm.symm hK1
  obtain ⟨hP, hD⟩ := va_join (wr := []) (w1 := [(h0, .inr (0, [.int (nI a), .int (nI b), .int (nI z), .ref h1])), (h1, .inl (d1, 32, .inl f5))]) hP hD [0, 1] [] rfl rfl (by decide) (by decide) hk1 hFc hP1 hD1
  generalize H1 = H at hP hS ⊢
  have hP : va_P (dC, dI) vwCl [(h0, .inr (0, [.int (nI a), .int (nI b), .int (nI z), .ref h1])), (h1, .inl (d1, 32, .inl f5))] H := hP
  have hD : va_D A [(h0, .inr (0, [.int (nI a), .int (nI b), .int (nI z), .ref h1])), (h1, .inl (d1, 32, .inl f5))] := hD
  obtain ⟨N, hf5, hT2, -⟩ := hw
  exact W.vret hx hb hr (fun t ht hW => ⟨⟨f5, rfl, ⟨M1, N, hf5, hT1, hT2⟩, by rw [ht]; exact hP, va_K.moved hW.alike hK, hD⟩, hS.F ht⟩) hS.2.2 dX0_reckon_32
end
section
/-! ChangeDesk.greatest, gaps (printed by gen/heap.py) -/
set_option maxHeartbeats 4000000 in
set_option maxRecDepth 100000 in
theorem mt_X0_greatest (l : Launch) (dC : Nat → ClassId) (dI : Nat → Nat → Nat) (h0 h1 sz a b z : Nat) (d1 : ClassId) (f : Nat → Int32) (ha1 : 0 < a) (ha2 : a ≤ 32) (hb1 : 0 < b) (hb2 : b ≤ 32) (hz1 : 0 < z) (hz2 : z ≤ 32) : Met l yX0_greatest (ws_ yX0_greatest cX0_greatest 3 (some .int)) ({ frames := 3, cells := 0, slots := 0, locals := 71 }) (va_Pc [.ref h0] (fun U => U.heap.size = sz ∧ va_P (dC, dI) vwCl [(h0, .inr (0, [.int (nI a), .int (nI b), .int (nI z), .ref h1])), (h1, .inl (d1, 32, .inl f))] U.heap ∧ va_K (dC, dI) vwCl [(d1, .int)] U ∧ va_D (fun _ => True) [(h0, .inr (0, [.int (nI a), .int (nI b), .int (nI z), .ref h1])), (h1, .inl (d1, 32, .inl f))])) (va_Qi (fun (r : Int32) (_ : Nat → Int32) => cd_G (Nat.gcd (Nat.gcd a b) z) (cd_Top 2000 (cd_Can a b z)) r) (fun f2 t => va_P (dC, dI) vwCl [(h0, .inr (0, [.int (nI a), .int (nI b), .int (nI z), .ref h1])), (h1, .inl (d1, 32, .inl f2))] t.heap ∧ va_K (dC, dI) vwCl [(d1, .int)] t ∧ va_D (va_A [(h0, .inr (0, [.int (nI a), .int (nI b), .int (nI z), .ref h1])), (h1, .inl (d1, 32, .inl f))] sz) [(h0, .inr (0, [.int (nI a), .int (nI b), .int (nI z), .ref h1])), (h1, .inl (d1, 32, .inl f2))]) (va_A [(h0, .inr (0, [.int (nI a), .int (nI b), .int (nI z), .ref h1])), (h1, .inl (d1, 32, .inl f))] sz)) 0 0 (va_A [(h0, .inr (0, [.int (nI a), .int (nI b), .int (nI z), .ref h1])), (h1, .inl (d1, 32, .inl f))] sz) := by
  refine Met.ofW (cc := cX0_greatest) (maxL := 3) (ret := (some .int)) (by decide) rfl ?_
  intro p e s m args below meth c s₁ B hml hv
  obtain ⟨rfl, hsz, hP, hK, hD0⟩ := hv
  have hx := B.exec
  have hb := B.bytes
  have hr := B.returns
  have hts := atoms_spec (ws := ws_ yX0_greatest cX0_greatest 3 (some .int)) B.pre
  have hts : ∀ w ∈ lw_all, w.before _ s = true := fun w h => hts w (List.mem_cons_of_mem _ h)
  have hown : s.vm.findClass RX0 = some m.cls := findClass_of_methodNamed B.named
  have hlocks := B.notSynchronized
  subst hsz
  have hD := hD0.self (sz := s.heap.size)
  generalize hAe : va_A [(h0, .inr (0, [.int (nI a), .int (nI b), .int (nI z), .ref h1])), (h1, .inl (d1, 32, .inl f))] s.heap.size = A at hD ⊢
  have hA : ∀ q : Nat, s.heap.size ≤ q → A q := fun q h => by rw [← hAe]; exact Or.inr h
  have hS : va_S A s.heap s.heap [] := va_S.rf
  have hP : va_P (dC, dI) vwCl [(h0, .inr (0, [.int (nI a), .int (nI b), .int (nI z), .ref h1])), (h1, .inl (d1, 32, .inl f))] s.heap := hP
  have hl := lv_entry ([.ref h0]) (n := 3) (Nat.le_of_ble_eq_true rfl)
  rw [lg_entry_eq]
  generalize (lg_sl ([.ref h0]) ++ List.replicate (3 - (lg_sl ([.ref h0])).length) Slot.unset).toArray = ls at hl ⊢
  have hl : lv_has ls 3 [(0, .ref h0)] := hl
  have hg1 : 0 < Nat.gcd a b := Nat.gcd_pos_of_pos_left b ha1
  have hg2 : Nat.gcd a b ≤ a := cd_gcd_le ha1
  have hg3 : 0 < Nat.gcd (Nat.gcd a b) z := cd_gcd3_pos ha1
  have hg4 : Nat.gcd (Nat.gcd a b) z ≤ Nat.gcd a b := cd_gcd_le hg1
  refine lv_aload_n hx hb dX0_greatest_0 rfl (lv_at hl 0 rfl) ?_
  refine va_get (D := (dC, dI)) (ci := 0) (v := .int (nI a)) (C := RX0) (T := TX0) (N := 4) hx hb hts in_X0 hown hK hP 0 rfl rfl 0 (by decide) (hts _ q18) (fun _ h9 => h9) rfl dX0_greatest_1 ?_
  refine lv_aload_n hx hb dX0_greatest_4 rfl (lv_at hl 0 rfl) ?_
  refine va_get (D := (dC, dI)) (ci := 0) (v := .int (nI b)) (C := RX0) (T := TX0) (N := 4) hx hb hts in_X0 hown hK hP 0 rfl rfl 1 (by decide) (hts _ q19) (fun _ h9 => h9) rfl dX0_greatest_5 ?_
  refine cd_callr (W.runS (As := [.int (nI a), .int (nI b)]) (rest := []) ⟨hx, hb, hml, hown, hts⟩ (mt_X0_common l a b (by omega) (by omega)) (va_cwS 2 hts (lw_S q40 q41 q6 q42) rfl rfl rfl (by decide +kernel) ⟨Nat.le_of_ble_eq_true rfl, Nat.le_of_ble_eq_true rfl⟩) cd_preS rfl rfl hl.1 rfl (lv_room (Nat.le_of_ble_eq_true rfl)) dX0_greatest_8 ⟨Nat.le_of_ble_eq_true rfl, Nat.le_of_ble_eq_true rfl⟩) (fun r er => ?_)
  have er : r = nI (Nat.gcd a b) := er
  subst er
  refine lv_aload_n hx hb dX0_greatest_11 rfl (lv_at hl 0 rfl) ?_
  refine va_get (D := (dC, dI)) (ci := 0) (v := .int (nI z)) (C := RX0) (T := TX0) (N := 4) hx hb hts in_X0 hown hK hP 0 rfl rfl 2 (by decide) (hts _ q20) (fun _ h9 => h9) rfl dX0_greatest_12 ?_
  refine cd_callr (W.runS (As := [.int (nI (Nat.gcd a b)), .int (nI z)]) (rest := []) ⟨hx, hb, hml, hown, hts⟩ (mt_X0_common l (Nat.gcd a b) z (by omega) (by omega)) (va_cwS 2 hts (lw_S q40 q41 q6 q42) rfl rfl rfl (by decide +kernel) ⟨Nat.le_of_ble_eq_true rfl, Nat.le_of_ble_eq_true rfl⟩) cd_preS rfl rfl hl.1 rfl (lv_room (Nat.le_of_ble_eq_true rfl)) dX0_greatest_15 ⟨Nat.le_of_ble_eq_true rfl, Nat.le_of_ble_eq_true rfl⟩) (fun r er => ?_)
  have er : r = nI (Nat.gcd (Nat.gcd a b) z) := er
  subst er
  refine lv_iconst (v := nI 1) hx hb dX0_greatest_18 (by decide +kernel) ?_
  refine cd_icmp_le (tgt := 25) hx hb dX0_greatest_19 (by decide) (fun c1 => ?_) (fun c1 => ?_)
  · have hg5 : Nat.gcd (Nat.gcd a b) z = 1 := by omega
    refine lv_aload_n hx hb dX0_greatest_25 rfl (lv_at hl 0 rfl) ?_
    have hPc := hP.sub (ws' := [(h0, .inr (0, [.int (nI a), .int (nI b), .int (nI z), .ref h1])), (h1, .inl (d1, 32, .inl f))]) [0, 1] rfl
    have hDc := hD.sub (ws' := [(h0, .inr (0, [.int (nI a), .int (nI b), .int (nI z), .ref h1])), (h1, .inl (d1, 32, .inl f))]) [0, 1] (by decide) rfl
    have hKc := hK.sub (tys' := [(d1, .int)]) [0] rfl
    have hFc := va_free (wc := [(h0, .inr (0, [.int (nI a), .int (nI b), .int (nI z), .ref h1])), (h1, .inl (d1, 32, .inl f))]) hD hS hA [0, 1] rfl
    refine va_callv (va_runV (As := []) (rest := []) ⟨hx, hb, hml, hown, hts⟩ (mt_X0_reckon l dC dI h0 h1 s.heap.size a b z d1 f ha1 ha2 hb1 hb2 hz1 hz2) (cwV 0 hts (lw_V q43 q45 qs0 q6 q46) rfl rfl rfl (by decide +kernel) ⟨Nat.le_of_ble_eq_true rfl, Nat.le_of_ble_eq_true rfl⟩) ⟨fun a U g mk q => by obtain ⟨q0, q1, qP, qK, qD⟩ := q; exact ⟨q0, q1, qP, va_K.moved (u := U) (U := U.calling g mk a) (Vm.Alike.refl U.vm) qK, qD⟩, va_recv hKc hPc (ci := 0) (q0 := 0) rfl rfl, fun U hU hW => ⟨rfl, by rw [hU], by rw [hU]; exact hPc, va_K.moved hW.alike hKc, hDc.weaken (fun _ _ _ _ => trivial)⟩⟩ rfl rfl hl.1 rfl (lv_room (Nat.le_of_ble_eq_true rfl)) dX0_greatest_26 ⟨Nat.le_of_ble_eq_true rfl, Nat.le_of_ble_eq_true rfl⟩) hS (fun q _ h => hFc q h) hFc (fun f2 t H1 locs ht hvm hw hB hsz1 hk1 hS => ?_)
    obtain ⟨hP1, hK1, hD1⟩ := hB
    rw [ht] at hP1
    have hK1 := va_K.moved hvm.symm hK1
    obtain ⟨hP, hD⟩ := va_join (wr := []) (w1 := [(h0, .inr (0, [.int (nI a), .int (nI b), .int (nI z), .ref h1])), (h1, .inl (d1, 32, .inl f2))]) hP hD [0, 1] [] rfl rfl (by decide) (by decide) hk1 hFc hP1 hD1
    generalize H1 = H at hP hS ⊢
    have hP : va_P (dC, dI) vwCl [(h0, .inr (0, [.int (nI a), .int (nI b), .int (nI z), .ref h1])), (h1, .inl (d1, 32, .inl f2))] H := hP
    have hD : va_D A [(h0, .inr (0, [.int (nI a), .int (nI b), .int (nI z), .ref h1])), (h1, .inl (d1, 32, .inl f2))] := hD
    obtain ⟨M1, N, hf, hT1, hT2⟩ := hw
    obtain ⟨hLs, hLb⟩ := cd_least ha1 ha2 hb2 hz2 hg5 hT1 hT2
    refine lv_iconst (v := nI 0) hx hb dX0_greatest_29 (by decide +kernel) ?_
    refine lv_istore_n (lv' := [(1, .int (nI 0)), (0, .ref h0)]) hx hb dX0_greatest_30 rfl hl (by decide) rfl (fun ls hl => ?_)
    refine lv_iconst (v := nI 0) hx hb dX0_greatest_31 (by decide +kernel) ?_
    refine lv_istore_n (lv' := [(2, .int (nI 0)), (1, .int (nI 0)), (0, .ref h0)]) hx hb dX0_greatest_32 rfl hl (by decide) rfl (fun ls hl => ?_)
    refine cd_loop (head := 33) (fun n ls => ∃ i mx : Nat, n + i = a ∧ (∀ r, r < i → N r ≤ mx) ∧ (mx = 0 ∨ ∃ r, r < i ∧ mx = N r) ∧ mx ≤ 1984 ∧ lv_has ls 3 [(0, .ref h0), (1, .int (nI mx)), (2, .int (nI i))]) ?_ a ls ⟨0, 0, rfl, fun r hr9 => absurd hr9 (Nat.not_lt_zero r), Or.inl rfl, by omega, lv_sub hl [2, 1, 0] rfl⟩
    clear hl
    rintro n ls ⟨i, mx, en, hle, hmx, hm4, hl⟩ ih
    refine lv_iload_n hx hb dX0_greatest_33 rfl (lv_at hl 2 rfl) ?_
    refine lv_aload_n hx hb dX0_greatest_34 rfl (lv_at hl 0 rfl) ?_
    refine va_get (D := (dC, dI)) (ci := 0) (v := .int (nI a)) (C := RX0) (T := TX0) (N := 4) hx hb hts in_X0 hown hK hP 0 rfl rfl 0 (by decide) (hts _ q18) (fun _ h9 => h9) rfl dX0_greatest_35 ?_
    refine cd_icmp_ge (tgt := 58) hx hb dX0_greatest_38 (by decide) (fun c2 => ?_) (fun c2 => ?_)
    · refine lv_iconst (v := -1) hx hb dX0_greatest_58 (by decide +kernel) ?_
      refine lv_iload_n hx hb dX0_greatest_59 rfl (lv_at hl 1 rfl) ?_
      refine lv_aload_n hx hb dX0_greatest_60 rfl (lv_at hl 0 rfl) ?_
      refine va_get (D := (dC, dI)) (ci := 0) (v := .int (nI a)) (C := RX0) (T := TX0) (N := 4) hx hb hts in_X0 hown hK hP 0 rfl rfl 0 (by decide) (hts _ q18) (fun _ h9 => h9) rfl dX0_greatest_61 ?_
      refine lv_isub hx hb dX0_greatest_64 ?_
      refine va_mmax hx hb (hml.trans hl.1.symm) hown (hts _ q58) (hts _ q59) (hts _ q8) (hts _ q60) (Nat.le_of_ble_eq_true rfl) (Nat.le_of_ble_eq_true rfl) (Nat.le_of_ble_eq_true rfl) (Nat.le_of_ble_eq_true rfl) dX0_greatest_65 ?_
      refine cd_v (cd_maxm1 (mx := mx) (a := a) (by omega) (by omega)) ?_
      exact W.iret (v := (if a ≤ mx then nI (mx - a) else -1)) hx hb hr (fun t9 ht9 hW => ⟨⟨(if a ≤ mx then nI (mx - a) else -1), f2, rfl, Or.inr ⟨hg5, cd_top_least ha1 hLs hLb (fun r hr9 => hle r (by omega)) (hmx.imp id (fun ⟨r, hr9, e9⟩ => ⟨r, by omega, e9⟩))⟩, by rw [ht9]; exact hP, va_K.moved hW.alike hK, hD⟩, hS.F ht9⟩) hS.2.2 dX0_greatest_68
    · have hNi := hLb i c2
      refine lv_iload_n hx hb dX0_greatest_41 rfl (lv_at hl 1 rfl) ?_
      refine lv_aload_n hx hb dX0_greatest_42 rfl (lv_at hl 0 rfl) ?_
      refine va_get (D := (dC, dI)) (ci := 0) (v := .ref h1) (C := RX0) (T := TX0) (N := 4) hx hb hts in_X0 hown hK hP 0 rfl rfl 3 (by decide) (hts _ q21) (fun _ h9 => h9) rfl dX0_greatest_43 ?_
      refine lv_iload_n hx hb dX0_greatest_46 rfl (lv_at hl 2 rfl) ?_
      refine cd_iald (f := f2) hx hb hK hP 1 0 rfl rfl dX0_greatest_47 ?_
      refine cd_v (y := nI (N i)) (hf i c2) ?_
      refine cd_mmax hx hb (hml.trans hl.1.symm) hown hts (Nat.le_of_ble_eq_true rfl) (Nat.le_of_ble_eq_true rfl) (Nat.le_of_ble_eq_true rfl) (Nat.le_of_ble_eq_true rfl) dX0_greatest_48 ?_
      refine lv_istore_n (lv' := [(1, .int (nI (max mx (N i)))), (0, .ref h0), (2, .int (nI i))]) hx hb dX0_greatest_51 rfl hl (by decide) rfl (fun ls hl => ?_)
      refine cd_iinc (k := 2) (lv' := [(2, .int (nI (i + 1))), (1, .int (nI (max mx (N i)))), (0, .ref h0)]) hx hb dX0_greatest_52 hl rfl (by decide) rfl (fun ls hl => ?_)
      refine lv_goto (tgt := 33) hx hb dX0_greatest_55 (by decide) ?_
      exact ih (n - 1) ls (by omega) ⟨i + 1, max mx (N i), by omega, fun r hr9 => by
        by_cases q : r = i
        · rw [q]; omega
        · have := hle r (by omega)
          omega, by
        by_cases q : N i ≤ mx
        · rw [Nat.max_eq_left q]
          exact hmx.imp id (fun ⟨r, hr9, e9⟩ => ⟨r, by omega, e9⟩)
        · rw [Nat.max_eq_right (by omega)]
          exact Or.inr ⟨i, by omega, rfl⟩, by omega, lv_sub hl [2, 1, 0] rfl⟩
  · refine lv_bipush (v := -2) hx hb dX0_greatest_22 (by decide +kernel) ?_
    exact W.iret (v := (-2)) hx hb hr (fun t9 ht9 hW => ⟨⟨(-2), f, rfl, Or.inl ⟨by omega, rfl⟩, by rw [ht9]; exact hP, va_K.moved hW.alike hK, hD⟩, hS.F ht9⟩) hS.2.2 dX0_greatest_24
set_option maxHeartbeats 4000000 in
set_option maxRecDepth 100000 in
theorem mt_X0_gaps (l : Launch) (dC : Nat → ClassId) (dI : Nat → Nat → Nat) (h0 h1 sz a b z : Nat) (d1 : ClassId) (f : Nat → Int32) (ha1 : 0 < a) (ha2 : a ≤ 32) (hb1 : 0 < b) (hb2 : b ≤ 32) (hz1 : 0 < z) (hz2 : z ≤ 32) : Met l yX0_gaps (ws_ yX0_gaps cX0_gaps 3 (some .int)) ({ frames := 3, cells := 0, slots := 0, locals := 71 }) (va_Pc [.ref h0] (fun U => U.heap.size = sz ∧ va_P (dC, dI) vwCl [(h0, .inr (0, [.int (nI a), .int (nI b), .int (nI z), .ref h1])), (h1, .inl (d1, 32, .inl f))] U.heap ∧ va_K (dC, dI) vwCl [(d1, .int)] U ∧ va_D (fun _ => True) [(h0, .inr (0, [.int (nI a), .int (nI b), .int (nI z), .ref h1])), (h1, .inl (d1, 32, .inl f))])) (va_Qi (fun (r : Int32) (_ : Nat → Int32) => cd_G (Nat.gcd (Nat.gcd a b) z) (fun x => x = nI (cd_cnt (fun v => ¬ cd_Can a b z v) 2001)) r) (fun f2 t => va_P (dC, dI) vwCl [(h0, .inr (0, [.int (nI a), .int (nI b), .int (nI z), .ref h1])), (h1, .inl (d1, 32, .inl f2))] t.heap ∧ va_K (dC, dI) vwCl [(d1, .int)] t ∧ va_D (va_A [(h0, .inr (0, [.int (nI a), .int (nI b), .int (nI z), .ref h1])), (h1, .inl (d1, 32, .inl f))] sz) [(h0, .inr (0, [.int (nI a), .int (nI b), .int (nI z), .ref h1])), (h1, .inl (d1, 32, .inl f2))]) (va_A [(h0, .inr (0, [.int (nI a), .int (nI b), .int (nI z), .ref h1])), (h1, .inl (d1, 32, .inl f))] sz)) 0 0 (va_A [(h0, .inr (0, [.int (nI a), .int (nI b), .int (nI z), .ref h1])), (h1, .inl (d1, 32, .inl f))] sz) := by
  refine Met.ofW (cc := cX0_gaps) (maxL := 3) (ret := (some .int)) (by decide) rfl ?_
  intro p e s m args below meth c s₁ B hml hv
  obtain ⟨rfl, hsz, hP, hK, hD0⟩ := hv
  have hx := B.exec
  have hb := B.bytes
  have hr := B.returns
  have hts := atoms_spec (ws := ws_ yX0_gaps cX0_gaps 3 (some .int)) B.pre
  have hts : ∀ w ∈ lw_all, w.before _ s = true := fun w h => hts w (List.mem_cons_of_mem _ h)
  have hown : s.vm.findClass RX0 = some m.cls := findClass_of_methodNamed B.named
  have hlocks := B.notSynchronized
  subst hsz
  have hD := hD0.self (sz := s.heap.size)
  generalize hAe : va_A [(h0, .inr (0, [.int (nI a), .int (nI b), .int (nI z), .ref h1])), (h1, .inl (d1, 32, .inl f))] s.heap.size = A at hD ⊢
  have hA : ∀ q : Nat, s.heap.size ≤ q → A q := fun q h => by rw [← hAe]; exact Or.inr h
  have hS : va_S A s.heap s.heap [] := va_S.rf
  have hP : va_P (dC, dI) vwCl [(h0, .inr (0, [.int (nI a), .int (nI b), .int (nI z), .ref h1])), (h1, .inl (d1, 32, .inl f))] s.heap := hP
  have hl := lv_entry ([.ref h0]) (n := 3) (Nat.le_of_ble_eq_true rfl)
  rw [lg_entry_eq]
  generalize (lg_sl ([.ref h0]) ++ List.replicate (3 - (lg_sl ([.ref h0])).length) Slot.unset).toArray = ls at hl ⊢
  have hl : lv_has ls 3 [(0, .ref h0)] := hl
  have hg1 : 0 < Nat.gcd a b := Nat.gcd_pos_of_pos_left b ha1
  have hg2 : Nat.gcd a b ≤ a := cd_gcd_le ha1
  have hg3 : 0 < Nat.gcd (Nat.gcd a b) z := cd_gcd3_pos ha1
  have hg4 : Nat.gcd (Nat.gcd a b) z ≤ Nat.gcd a b := cd_gcd_le hg1
  refine lv_aload_n hx hb dX0_gaps_0 rfl (lv_at hl 0 rfl) ?_
  refine va_get (D := (dC, dI)) (ci := 0) (v := .int (nI a)) (C := RX0) (T := TX0) (N := 4) hx hb hts in_X0 hown hK hP 0 rfl rfl 0 (by decide) (hts _ q18) (fun _ h9 => h9) rfl dX0_gaps_1 ?_
  refine lv_aload_n hx hb dX0_gaps_4 rfl (lv_at hl 0 rfl) ?_
  refine va_get (D := (dC, dI)) (ci := 0) (v := .int (nI b)) (C := RX0) (T := TX0) (N := 4) hx hb hts in_X0 hown hK hP 0 rfl rfl 1 (by decide) (hts _ q19) (fun _ h9 => h9) rfl dX0_gaps_5 ?_
  refine cd_callr (W.runS (As := [.int (nI a), .int (nI b)]) (rest := []) ⟨hx, hb, hml, hown, hts⟩ (mt_X0_common l a b (by omega) (by omega)) (va_cwS 2 hts (lw_S q40 q41 q6 q42) rfl rfl rfl (by decide +kernel) ⟨Nat.le_of_ble_eq_true rfl, Nat.le_of_ble_eq_true rfl⟩) cd_preS rfl rfl hl.1 rfl (lv_room (Nat.le_of_ble_eq_true rfl)) dX0_gaps_8 ⟨Nat.le_of_ble_eq_true rfl, Nat.le_of_ble_eq_true rfl⟩) (fun r er => ?_)
  have er : r = nI (Nat.gcd a b) := er
  subst er
  refine lv_aload_n hx hb dX0_gaps_11 rfl (lv_at hl 0 rfl) ?_
  refine va_get (D := (dC, dI)) (ci := 0) (v := .int (nI z)) (C := RX0) (T := TX0) (N := 4) hx hb hts in_X0 hown hK hP 0 rfl rfl 2 (by decide) (hts _ q20) (fun _ h9 => h9) rfl dX0_gaps_12 ?_
  refine cd_callr (W.runS (As := [.int (nI (Nat.gcd a b)), .int (nI z)]) (rest := []) ⟨hx, hb, hml, hown, hts⟩ (mt_X0_common l (Nat.gcd a b) z (by omega) (by omega)) (va_cwS 2 hts (lw_S q40 q41 q6 q42) rfl rfl rfl (by decide +kernel) ⟨Nat.le_of_ble_eq_true rfl, Nat.le_of_ble_eq_true rfl⟩) cd_preS rfl rfl hl.1 rfl (lv_room (Nat.le_of_ble_eq_true rfl)) dX0_gaps_15 ⟨Nat.le_of_ble_eq_true rfl, Nat.le_of_ble_eq_true rfl⟩) (fun r er => ?_)
  have er : r = nI (Nat.gcd (Nat.gcd a b) z) := er
  subst er
  refine lv_iconst (v := nI 1) hx hb dX0_gaps_18 (by decide +kernel) ?_
  refine cd_icmp_le (tgt := 25) hx hb dX0_gaps_19 (by decide) (fun c1 => ?_) (fun c1 => ?_)
  · have hg5 : Nat.gcd (Nat.gcd a b) z = 1 := by omega
    refine lv_aload_n hx hb dX0_gaps_25 rfl (lv_at hl 0 rfl) ?_
    have hPc := hP.sub (ws' := [(h0, .inr (0, [.int (nI a), .int (nI b), .int (nI z), .ref h1])), (h1, .inl (d1, 32, .inl f))]) [0, 1] rfl
    have hDc := hD.sub (ws' := [(h0, .inr (0, [.int (nI a), .int (nI b), .int (nI z), .ref h1])), (h1, .inl (d1, 32, .inl f))]) [0, 1] (by decide) rfl
    have hKc := hK.sub (tys' := [(d1, .int)]) [0] rfl
    have hFc := va_free (wc := [(h0, .inr (0, [.int (nI a), .int (nI b), .int (nI z), .ref h1])), (h1, .inl (d1, 32, .inl f))]) hD hS hA [0, 1] rfl
    refine va_callv (va_runV (As := []) (rest := []) ⟨hx, hb, hml, hown, hts⟩ (mt_X0_reckon l dC dI h0 h1 s.heap.size a b z d1 f ha1 ha2 hb1 hb2 hz1 hz2) (cwV 0 hts (lw_V q43 q45 qs0 q6 q46) rfl rfl rfl (by decide +kernel) ⟨Nat.le_of_ble_eq_true rfl, Nat.le_of_ble_eq_true rfl⟩) ⟨fun a U g mk q => by obtain ⟨q0, q1, qP, qK, qD⟩ := q; exact ⟨q0, q1, qP, va_K.moved (u := U) (U := U.calling g mk a) (Vm.Alike.refl U.vm) qK, qD⟩, va_recv hKc hPc (ci := 0) (q0 := 0) rfl rfl, fun U hU hW => ⟨rfl, by rw [hU], by rw [hU]; exact hPc, va_K.moved hW.alike hKc, hDc.weaken (fun _ _ _ _ => trivial)⟩⟩ rfl rfl hl.1 rfl (lv_room (Nat.le_of_ble_eq_true rfl)) dX0_gaps_26 ⟨Nat.le_of_ble_eq_true rfl, Nat.le_of_ble_eq_true rfl⟩) hS (fun q _ h => hFc q h) hFc (fun f2 t H1 locs ht hvm hw hB hsz1 hk1 hS => ?_)
    obtain ⟨hP1, hK1, hD1⟩ := hB
    rw [ht] at hP1
    have hK1 := va_K.moved hvm.symm hK1
    obtain ⟨hP, hD⟩ := va_join (wr := []) (w1 := [(h0, .inr (0, [.int (nI a), .int (nI b), .int (nI z), .ref h1])), (h1, .inl (d1, 32, .inl f2))]) hP hD [0, 1] [] rfl rfl (by decide) (by decide) hk1 hFc hP1 hD1
    generalize H1 = H at hP hS ⊢
    have hP : va_P (dC, dI) vwCl [(h0, .inr (0, [.int (nI a), .int (nI b), .int (nI z), .ref h1])), (h1, .inl (d1, 32, .inl f2))] H := hP
    have hD : va_D A [(h0, .inr (0, [.int (nI a), .int (nI b), .int (nI z), .ref h1])), (h1, .inl (d1, 32, .inl f2))] := hD
    obtain ⟨M1, N, hf, hT1, hT2⟩ := hw
    obtain ⟨hLs, hLb⟩ := cd_least ha1 ha2 hb2 hz2 hg5 hT1 hT2
    refine lv_iconst (v := nI 0) hx hb dX0_gaps_29 (by decide +kernel) ?_
    refine lv_istore_n (lv' := [(1, .int (nI 0)), (0, .ref h0)]) hx hb dX0_gaps_30 rfl hl (by decide) rfl (fun ls hl => ?_)
    refine lv_iconst (v := nI 0) hx hb dX0_gaps_31 (by decide +kernel) ?_
    refine lv_istore_n (lv' := [(2, .int (nI 0)), (1, .int (nI 0)), (0, .ref h0)]) hx hb dX0_gaps_32 rfl hl (by decide) rfl (fun ls hl => ?_)
    refine cd_loop (head := 33) (fun n ls => ∃ i t : Nat, n + i = a ∧ t = cd_sum (fun r => N r / a) i ∧ lv_has ls 3 [(0, .ref h0), (1, .int (nI t)), (2, .int (nI i))]) ?_ a ls ⟨0, 0, rfl, rfl, lv_sub hl [2, 1, 0] rfl⟩
    clear hl
    rintro n ls ⟨i, t, en, et, hl⟩ ih
    refine lv_iload_n hx hb dX0_gaps_33 rfl (lv_at hl 2 rfl) ?_
    refine lv_aload_n hx hb dX0_gaps_34 rfl (lv_at hl 0 rfl) ?_
    refine va_get (D := (dC, dI)) (ci := 0) (v := .int (nI a)) (C := RX0) (T := TX0) (N := 4) hx hb hts in_X0 hown hK hP 0 rfl rfl 0 (by decide) (hts _ q18) (fun _ h9 => h9) rfl dX0_gaps_35 ?_
    refine cd_icmp_ge (tgt := 61) hx hb dX0_gaps_38 (by decide) (fun c2 => ?_) (fun c2 => ?_)
    · refine lv_iload_n hx hb dX0_gaps_61 rfl (lv_at hl 1 rfl) ?_
      exact W.iret (v := (nI t)) hx hb hr (fun t9 ht9 hW => ⟨⟨(nI t), f2, rfl, Or.inr ⟨hg5, by rw [cd_gaps ha1 hLs hLb, et, show i = a by omega]⟩, by rw [ht9]; exact hP, va_K.moved hW.alike hK, hD⟩, hS.F ht9⟩) hS.2.2 dX0_gaps_62
    · have hNi := hLb i c2
      refine lv_iload_n hx hb dX0_gaps_41 rfl (lv_at hl 1 rfl) ?_
      refine lv_aload_n hx hb dX0_gaps_42 rfl (lv_at hl 0 rfl) ?_
      refine va_get (D := (dC, dI)) (ci := 0) (v := .ref h1) (C := RX0) (T := TX0) (N := 4) hx hb hts in_X0 hown hK hP 0 rfl rfl 3 (by decide) (hts _ q21) (fun _ h9 => h9) rfl dX0_gaps_43 ?_
      refine lv_iload_n hx hb dX0_gaps_46 rfl (lv_at hl 2 rfl) ?_
      refine cd_iald (f := f2) hx hb hK hP 1 0 rfl rfl dX0_gaps_47 ?_
      refine cd_v (y := nI (N i)) (hf i c2) ?_
      refine lv_aload_n hx hb dX0_gaps_48 rfl (lv_at hl 0 rfl) ?_
      refine va_get (D := (dC, dI)) (ci := 0) (v := .int (nI a)) (C := RX0) (T := TX0) (N := 4) hx hb hts in_X0 hown hK hP 0 rfl rfl 0 (by decide) (hts _ q18) (fun _ h9 => h9) rfl dX0_gaps_49 ?_
      refine cd_idiv hx hb dX0_gaps_52 ?_
      refine cd_iadd hx hb dX0_gaps_53 ?_
      refine lv_istore_n (lv' := [(1, .int (nI (t + ((N i) / a)))), (0, .ref h0), (2, .int (nI i))]) hx hb dX0_gaps_54 rfl hl (by decide) rfl (fun ls hl => ?_)
      refine cd_iinc (k := 2) (lv' := [(2, .int (nI (i + 1))), (1, .int (nI (t + ((N i) / a)))), (0, .ref h0)]) hx hb dX0_gaps_55 hl rfl (by decide) rfl (fun ls hl => ?_)
      refine lv_goto (tgt := 33) hx hb dX0_gaps_58 (by decide) ?_
      exact ih (n - 1) ls (by omega) ⟨i + 1, t + N i / a, by omega, by rw [et]; rfl, lv_sub hl [2, 1, 0] rfl⟩
  · refine lv_bipush (v := -2) hx hb dX0_gaps_22 (by decide +kernel) ?_
    exact W.iret (v := (-2)) hx hb hr (fun t9 ht9 hW => ⟨⟨(-2), f, rfl, Or.inl ⟨by omega, rfl⟩, by rw [ht9]; exact hP, va_K.moved hW.alike hK, hD⟩, hS.F ht9⟩) hS.2.2 dX0_gaps_24
end
section
/-! ChangeDeskModel: coins, the constructor, reckon (printed by gen/heap.py) -/
set_option maxHeartbeats 4000000 in
set_option maxRecDepth 100000 in
theorem mt_X1_coins (l : Launch) (dC : Nat → ClassId) (dI : Nat → Nat → Nat) (h0 h1 sz a b z : Nat) (kn : Int32) (x y w : Int32) (j1 j2 j3 : Nat) (e1 : x &&& nI 31 = nI j1) (e2 : y &&& nI 31 = nI j2) (e3 : w &&& nI 31 = nI j3) : Met l yX1_coins (ws_ yX1_coins cX1_coins 4 none) ({ frames := 0, cells := 0, slots := 0, locals := 0 }) (va_Pc [.ref h0, .int x, .int y, .int w] (fun U => U.heap.size = sz ∧ va_P (dC, dI) vwCl [(h0, .inr (1, [.int (nI a), .int (nI b), .int (nI z), .ref h1, .int kn]))] U.heap ∧ va_K (dC, dI) vwCl [] U ∧ va_D (fun _ => True) [(h0, .inr (1, [.int (nI a), .int (nI b), .int (nI z), .ref h1, .int kn]))])) (va_Qv (fun _ : Unit => True) (fun _ t => va_P (dC, dI) vwCl [(h0, .inr (1, [.int (nI (1 + j1)), .int (nI (1 + j2)), .int (nI (1 + j3)), .ref h1, .int (nI 0)]))] t.heap ∧ va_K (dC, dI) vwCl [] t ∧ va_D (va_A [(h0, .inr (1, [.int (nI a), .int (nI b), .int (nI z), .ref h1, .int kn]))] sz) [(h0, .inr (1, [.int (nI (1 + j1)), .int (nI (1 + j2)), .int (nI (1 + j3)), .ref h1, .int (nI 0)]))]) (va_A [(h0, .inr (1, [.int (nI a), .int (nI b), .int (nI z), .ref h1, .int kn]))] sz)) 0 0 (va_A [(h0, .inr (1, [.int (nI a), .int (nI b), .int (nI z), .ref h1, .int kn]))] sz) := by
  refine Met.ofW (cc := cX1_coins) (maxL := 4) (ret := none) (by decide) rfl ?_
  intro p e s m args below meth c s₁ B hml hv
  obtain ⟨rfl, hsz, hP, hK, hD0⟩ := hv
  have hx := B.exec
  have hb := B.bytes
  have hr := B.returns
  have hts := atoms_spec (ws := ws_ yX1_coins cX1_coins 4 none) B.pre
  have hts : ∀ w ∈ lw_all, w.before _ s = true := fun w h => hts w (List.mem_cons_of_mem _ h)
  have hown : s.vm.findClass RX1 = some m.cls := findClass_of_methodNamed B.named
  have hlocks := B.notSynchronized
  subst hsz
  have hD := hD0.self (sz := s.heap.size)
  generalize hAe : va_A [(h0, .inr (1, [.int (nI a), .int (nI b), .int (nI z), .ref h1, .int kn]))] s.heap.size = A at hD ⊢
  have hA : ∀ q : Nat, s.heap.size ≤ q → A q := fun q h => by rw [← hAe]; exact Or.inr h
  have hS : va_S A s.heap s.heap [] := va_S.rf
  have hP : va_P (dC, dI) vwCl [(h0, .inr (1, [.int (nI a), .int (nI b), .int (nI z), .ref h1, .int kn]))] s.heap := hP
  have hl := lv_entry ([.ref h0, .int x, .int y, .int w]) (n := 4) (Nat.le_of_ble_eq_true rfl)
  rw [lg_entry_eq]
  generalize (lg_sl ([.ref h0, .int x, .int y, .int w]) ++ List.replicate (4 - (lg_sl ([.ref h0, .int x, .int y, .int w])).length) Slot.unset).toArray = ls at hl ⊢
  have hl : lv_has ls 4 [(0, .ref h0), (1, .int x), (2, .int y), (3, .int w)] := hl
  refine lv_aload_n hx hb dX1_coins_0 rfl (lv_at hl 0 rfl) ?_
  refine lv_iconst (v := nI 1) hx hb dX1_coins_1 (by decide +kernel) ?_
  refine lv_iload_n hx hb dX1_coins_2 rfl (lv_at hl 1 rfl) ?_
  refine lv_bipush (v := nI 31) hx hb dX1_coins_3 (by decide +kernel) ?_
  refine lv_iand hx hb dX1_coins_5 ?_
  refine cd_v (y := nI j1) e1 ?_
  refine cd_iadd hx hb dX1_coins_6 ?_
  refine va_put (D := (dC, dI)) (ci := 1) (v := .int (nI (1 + j1))) (ty := .int) (C := RX1) (T := TX1) (N := 5) hx hb hts in_X1 tyX1 tyX1_ok nmX1 hown hK hP hD hS 0 rfl rfl 0 (by decide) (hts _ q95) (fun _ h9 => h9) rfl (by decide +kernel) rfl rfl (Nat.le_of_ble_eq_true rfl) dX1_coins_7 (fun H locs hP hD hS => ?_)
  have hP : va_P (dC, dI) vwCl [(h0, .inr (1, [.int (nI (1 + j1)), .int (nI b), .int (nI z), .ref h1, .int kn]))] H := hP
  have hD : va_D A [(h0, .inr (1, [.int (nI (1 + j1)), .int (nI b), .int (nI z), .ref h1, .int kn]))] := hD
  refine lv_aload_n hx hb dX1_coins_10 rfl (lv_at hl 0 rfl) ?_
  refine lv_iconst (v := nI 1) hx hb dX1_coins_11 (by decide +kernel) ?_
  refine lv_iload_n hx hb dX1_coins_12 rfl (lv_at hl 2 rfl) ?_
  refine lv_bipush (v := nI 31) hx hb dX1_coins_13 (by decide +kernel) ?_
  refine lv_iand hx hb dX1_coins_15 ?_
  refine cd_v (y := nI j2) e2 ?_
  refine cd_iadd hx hb dX1_coins_16 ?_
  refine va_put (D := (dC, dI)) (ci := 1) (v := .int (nI (1 + j2))) (ty := .int) (C := RX1) (T := TX1) (N := 5) hx hb hts in_X1 tyX1 tyX1_ok nmX1 hown hK hP hD hS 0 rfl rfl 1 (by decide) (hts _ q96) (fun _ h9 => h9) rfl (by decide +kernel) rfl rfl (Nat.le_of_ble_eq_true rfl) dX1_coins_17 (fun H locs hP hD hS => ?_)
  have hP : va_P (dC, dI) vwCl [(h0, .inr (1, [.int (nI (1 + j1)), .int (nI (1 + j2)), .int (nI z), .ref h1, .int kn]))] H := hP
  have hD : va_D A [(h0, .inr (1, [.int (nI (1 + j1)), .int (nI (1 + j2)), .int (nI z), .ref h1, .int kn]))] := hD
  refine lv_aload_n hx hb dX1_coins_20 rfl (lv_at hl 0 rfl) ?_
  refine lv_iconst (v := nI 1) hx hb dX1_coins_21 (by decide +kernel) ?_
  refine lv_iload_n hx hb dX1_coins_22 rfl (lv_at hl 3 rfl) ?_
  refine lv_bipush (v := nI 31) hx hb dX1_coins_23 (by decide +kernel) ?_
  refine lv_iand hx hb dX1_coins_25 ?_
  refine cd_v (y := nI j3) e3 ?_
  refine cd_iadd hx hb dX1_coins_26 ?_
  refine va_put (D := (dC, dI)) (ci := 1) (v := .int (nI (1 + j3))) (ty := .int) (C := RX1) (T := TX1) (N := 5) hx hb hts in_X1 tyX1 tyX1_ok nmX1 hown hK hP hD hS 0 rfl rfl 2 (by decide) (hts _ q97) (fun _ h9 => h9) rfl (by decide +kernel) rfl rfl (Nat.le_of_ble_eq_true rfl) dX1_coins_27 (fun H locs hP hD hS => ?_)
  have hP : va_P (dC, dI) vwCl [(h0, .inr (1, [.int (nI (1 + j1)), .int (nI (1 + j2)), .int (nI (1 + j3)), .ref h1, .int kn]))] H := hP
  have hD : va_D A [(h0, .inr (1, [.int (nI (1 + j1)), .int (nI (1 + j2)), .int (nI (1 + j3)), .ref h1, .int kn]))] := hD
  refine lv_aload_n hx hb dX1_coins_30 rfl (lv_at hl 0 rfl) ?_
  refine lv_iconst (v := nI 0) hx hb dX1_coins_31 (by decide +kernel) ?_
  refine va_put (D := (dC, dI)) (ci := 1) (v := .int (nI 0)) (ty := .boolean) (C := RX1) (T := TX1) (N := 5) hx hb hts in_X1 tyX1 tyX1_ok nmX1 hown hK hP hD hS 0 rfl rfl 4 (by decide) (hts _ q99) (fun _ h9 => h9) rfl (by decide +kernel) rfl rfl (Nat.le_of_ble_eq_true rfl) dX1_coins_32 (fun H locs hP hD hS => ?_)
  have hP : va_P (dC, dI) vwCl [(h0, .inr (1, [.int (nI (1 + j1)), .int (nI (1 + j2)), .int (nI (1 + j3)), .ref h1, .int (nI 0)]))] H := hP
  have hD : va_D A [(h0, .inr (1, [.int (nI (1 + j1)), .int (nI (1 + j2)), .int (nI (1 + j3)), .ref h1, .int (nI 0)]))] := hD
  exact W.vret hx hb hr (fun t9 ht9 hW => ⟨⟨(), rfl, trivial, by rw [ht9]; exact hP, va_K.moved hW.alike hK, hD⟩, hS.F ht9⟩) hS.2.2 dX1_coins_35
set_option maxHeartbeats 4000000 in
set_option maxRecDepth 100000 in
theorem mt_X1_init (l : Launch) (dC : Nat → ClassId) (dI : Nat → Nat → Nat) (h0 sz : Nat) : Met l yX1_init (ws_ yX1_init cX1_init 1 none) ({ frames := 1, cells := 1, slots := 2001, locals := 12 }) (va_Pc [.ref h0] (fun U => U.heap.size = sz ∧ va_P (dC, dI) vwCl [(h0, .inr (1, [.int 0, .int 0, .int 0, .null, .int 0]))] U.heap ∧ va_K (dC, dI) vwCl [] U ∧ va_D (fun _ => True) [(h0, .inr (1, [.int 0, .int 0, .int 0, .null, .int 0]))])) (va_Qv (fun _ : Unit => True) (fun (_ : Unit) t => ∃ (h1 : Nat) (d1 : ClassId) (f1 : Nat → Int32), va_P (dC, dI) vwCl [(h0, .inr (1, [.int (nI 3), .int (nI 5), .int (nI 7), .ref h1, .int 0])), (h1, .inl (d1, 2001, .inl f1))] t.heap ∧ va_K (dC, dI) vwCl [(d1, .int)] t ∧ va_D (va_A [(h0, .inr (1, [.int 0, .int 0, .int 0, .null, .int 0]))] sz) [(h0, .inr (1, [.int (nI 3), .int (nI 5), .int (nI 7), .ref h1, .int 0])), (h1, .inl (d1, 2001, .inl f1))]) (va_A [(h0, .inr (1, [.int 0, .int 0, .int 0, .null, .int 0]))] sz)) 1 2001 (va_A [(h0, .inr (1, [.int 0, .int 0, .int 0, .null, .int 0]))] sz) := by
  refine Met.ofW (cc := cX1_init) (maxL := 1) (ret := none) (by decide) rfl ?_
  intro p e s m args below meth c s₁ B hml hv
  obtain ⟨rfl, hsz, hP, hK, hD0⟩ := hv
  have hx := B.exec
  have hb := B.bytes
  have hr := B.returns
  have hts := atoms_spec (ws := ws_ yX1_init cX1_init 1 none) B.pre
  have hts : ∀ w ∈ lw_all, w.before _ s = true := fun w h => hts w (List.mem_cons_of_mem _ h)
  have hown : s.vm.findClass RX1 = some m.cls := findClass_of_methodNamed B.named
  have hlocks := B.notSynchronized
  have hin : meth.name = "<init>" := (name_of_methodNamed B.named B.method).1
  subst hsz
  have hD := hD0.self (sz := s.heap.size)
  generalize hAe : va_A [(h0, .inr (1, [.int 0, .int 0, .int 0, .null, .int 0]))] s.heap.size = A at hD ⊢
  have hA : ∀ q : Nat, s.heap.size ≤ q → A q := fun q h => by rw [← hAe]; exact Or.inr h
  have hS : va_S A s.heap s.heap [] := va_S.rf
  have hP : va_P (dC, dI) vwCl [(h0, .inr (1, [.int 0, .int 0, .int 0, .null, .int 0]))] s.heap := hP
  have hl := lv_entry ([.ref h0]) (n := 1) (Nat.le_of_ble_eq_true rfl)
  rw [lg_entry_eq]
  generalize (lg_sl ([.ref h0]) ++ List.replicate (1 - (lg_sl ([.ref h0])).length) Slot.unset).toArray = ls at hl ⊢
  have hl : lv_has ls 1 [(0, .ref h0)] := hl
  refine lv_aload_n hx hb dX1_init_0 rfl (lv_at hl 0 rfl) ?_
  refine W.objInit hx hb hown (hts _ q94) (hts _ q16) (hts _ q17) rfl (by rw [hml]; exact hl.1) rfl dX1_init_1 (Nat.le_of_ble_eq_true rfl) (Nat.le_of_ble_eq_true rfl) ?_
  refine W.eq (g2 := F0 m 4 ls []) rfl ?_
  refine lv_aload_n hx hb dX1_init_4 rfl (lv_at hl 0 rfl) ?_
  refine lv_iconst (v := nI 3) hx hb dX1_init_5 (by decide +kernel) ?_
  refine va_put (D := (dC, dI)) (ci := 1) (v := .int (nI 3)) (ty := .int) (C := RX1) (T := TX1) (N := 5) hx hb hts in_X1 tyX1 tyX1_ok nmX1 hown hK hP hD hS 0 rfl rfl 0 (by decide) (hts _ q95) (fun _ h9 => h9) rfl (by decide +kernel) rfl rfl (Nat.le_of_ble_eq_true rfl) dX1_init_6 (fun H locs hP hD hS => ?_)
  have hP : va_P (dC, dI) vwCl [(h0, .inr (1, [.int (nI 3), .int 0, .int 0, .null, .int 0]))] H := hP
  have hD : va_D A [(h0, .inr (1, [.int (nI 3), .int 0, .int 0, .null, .int 0]))] := hD
  refine lv_aload_n hx hb dX1_init_9 rfl (lv_at hl 0 rfl) ?_
  refine lv_iconst (v := nI 5) hx hb dX1_init_10 (by decide +kernel) ?_
  refine va_put (D := (dC, dI)) (ci := 1) (v := .int (nI 5)) (ty := .int) (C := RX1) (T := TX1) (N := 5) hx hb hts in_X1 tyX1 tyX1_ok nmX1 hown hK hP hD hS 0 rfl rfl 1 (by decide) (hts _ q96) (fun _ h9 => h9) rfl (by decide +kernel) rfl rfl (Nat.le_of_ble_eq_true rfl) dX1_init_11 (fun H locs hP hD hS => ?_)
  have hP : va_P (dC, dI) vwCl [(h0, .inr (1, [.int (nI 3), .int (nI 5), .int 0, .null, .int 0]))] H := hP
  have hD : va_D A [(h0, .inr (1, [.int (nI 3), .int (nI 5), .int 0, .null, .int 0]))] := hD
  refine lv_aload_n hx hb dX1_init_14 rfl (lv_at hl 0 rfl) ?_
  refine lv_bipush (v := nI 7) hx hb dX1_init_15 (by decide +kernel) ?_
  refine va_put (D := (dC, dI)) (ci := 1) (v := .int (nI 7)) (ty := .int) (C := RX1) (T := TX1) (N := 5) hx hb hts in_X1 tyX1 tyX1_ok nmX1 hown hK hP hD hS 0 rfl rfl 2 (by decide) (hts _ q97) (fun _ h9 => h9) rfl (by decide +kernel) rfl rfl (Nat.le_of_ble_eq_true rfl) dX1_init_17 (fun H locs hP hD hS => ?_)
  have hP : va_P (dC, dI) vwCl [(h0, .inr (1, [.int (nI 3), .int (nI 5), .int (nI 7), .null, .int 0]))] H := hP
  have hD : va_D A [(h0, .inr (1, [.int (nI 3), .int (nI 5), .int (nI 7), .null, .int 0]))] := hD
  refine lv_aload_n hx hb dX1_init_20 rfl (lv_at hl 0 rfl) ?_
  refine lv_sipush (v := nI 2001) hx hb dX1_init_21 (by decide +kernel) ?_
  refine va_newa (atype := .int) (ty := .int) (N' := 2001) (a0 := (2001, .inl (fun _ => 0))) hx hb (hts _ q31) rfl hK hP hD hS hA (fun _ => rfl) (by decide +kernel) (by decide +kernel) (by decide) (Nat.le_of_ble_eq_true rfl) (Nat.le_of_ble_eq_true rfl) dX1_init_24 (fun h1 d1 H hK hP hD hS => ?_)
  have hP : va_P (dC, dI) vwCl [(h0, .inr (1, [.int (nI 3), .int (nI 5), .int (nI 7), .null, .int 0])), (h1, .inl (d1, 2001, .inl (fun _ => 0)))] H := hP
  have hD : va_D A [(h0, .inr (1, [.int (nI 3), .int (nI 5), .int (nI 7), .null, .int 0])), (h1, .inl (d1, 2001, .inl (fun _ => 0)))] := hD
  refine va_putF (D := (dC, dI)) (ci := 1) (v := .ref h1) (ty := .array .int) (C := RX1) (T := TX1) (N := 5) hx hb hts in_X1 tyX1 tyX1_ok nmX1 hown hK hP hD hS 0 rfl rfl 3 (by decide) (hts _ q98) (fun _ h9 => h9) rfl hin rfl (by decide +kernel) rfl rfl (Nat.le_of_ble_eq_true rfl) dX1_init_26 (fun H locs hP hD hS => ?_)
  have hP : va_P (dC, dI) vwCl [(h0, .inr (1, [.int (nI 3), .int (nI 5), .int (nI 7), .ref h1, .int 0])), (h1, .inl (d1, 2001, .inl (fun _ => 0)))] H := hP
  have hD : va_D A [(h0, .inr (1, [.int (nI 3), .int (nI 5), .int (nI 7), .ref h1, .int 0])), (h1, .inl (d1, 2001, .inl (fun _ => 0)))] := hD
  have hK : va_K (dC, dI) vwCl [(d1, .int)] s := hK
  refine W.widen (k := 1) (n := 2001) (Nat.le_refl _) (Nat.le_of_eq (Nat.zero_add _)) ?_
  exact W.vret hx hb hr (fun t9 ht9 hW => ⟨⟨(), rfl, trivial, h1, d1, (fun _ => 0), by rw [ht9]; exact hP, va_K.moved hW.alike hK, hD⟩, hS.F ht9⟩) hS.2.2 dX1_init_29
set_option maxHeartbeats 4000000 in
set_option maxRecDepth 100000 in
theorem mt_X1_reckon (l : Launch) (dC : Nat → ClassId) (dI : Nat → Nat → Nat) (h0 h1 sz a b z : Nat) (kn : Int32) (d1 : ClassId) (f : Nat → Int32) (ha1 : 0 < a) (ha2 : a ≤ 32) (hb1 : 0 < b) (hb2 : b ≤ 32) (hz1 : 0 < z) (hz2 : z ≤ 32) (hkn : cd_Kn a b z kn f) : Met l yX1_reckon (ws_ yX1_reckon cX1_reckon 5 none) ({ frames := 0, cells := 0, slots := 0, locals := 0 }) (va_Pc [.ref h0] (fun U => U.heap.size = sz ∧ va_P (dC, dI) vwCl [(h0, .inr (1, [.int (nI a), .int (nI b), .int (nI z), .ref h1, .int kn])), (h1, .inl (d1, 2001, .inl f))] U.heap ∧ va_K (dC, dI) vwCl [(d1, .int)] U ∧ va_D (fun _ => True) [(h0, .inr (1, [.int (nI a), .int (nI b), .int (nI z), .ref h1, .int kn])), (h1, .inl (d1, 2001, .inl f))])) (va_Qv (fun u : Int32 × (Nat → Int32) => u.1 = 1 ∧ cd_Tab a b z u.2) (fun (u : Int32 × (Nat → Int32)) t => va_P (dC, dI) vwCl [(h0, .inr (1, [.int (nI a), .int (nI b), .int (nI z), .ref h1, .int u.1])), (h1, .inl (d1, 2001, .inl u.2))] t.heap ∧ va_K (dC, dI) vwCl [(d1, .int)] t ∧ va_D (va_A [(h0, .inr (1, [.int (nI a), .int (nI b), .int (nI z), .ref h1, .int kn])), (h1, .inl (d1, 2001, .inl f))] sz) [(h0, .inr (1, [.int (nI a), .int (nI b), .int (nI z), .ref h1, .int u.1])), (h1, .inl (d1, 2001, .inl u.2))]) (va_A [(h0, .inr (1, [.int (nI a), .int (nI b), .int (nI z), .ref h1, .int kn])), (h1, .inl (d1, 2001, .inl f))] sz)) 0 0 (va_A [(h0, .inr (1, [.int (nI a), .int (nI b), .int (nI z), .ref h1, .int kn])), (h1, .inl (d1, 2001, .inl f))] sz) := by
  refine Met.ofW (cc := cX1_reckon) (maxL := 5) (ret := none) (by decide) rfl ?_
  intro p e s m args below meth c s₁ B hml hv
  obtain ⟨rfl, hsz, hP, hK, hD0⟩ := hv
  have hx := B.exec
  have hb := B.bytes
  have hr := B.returns
  have hts := atoms_spec (ws := ws_ yX1_reckon cX1_reckon 5 none) B.pre
  have hts : ∀ w ∈ lw_all, w.before _ s = true := fun w h => hts w (List.mem_cons_of_mem _ h)
  have hown : s.vm.findClass RX1 = some m.cls := findClass_of_methodNamed B.named
  have hlocks := B.notSynchronized
  subst hsz
  have hD := hD0.self (sz := s.heap.size)
  generalize hAe : va_A [(h0, .inr (1, [.int (nI a), .int (nI b), .int (nI z), .ref h1, .int kn])), (h1, .inl (d1, 2001, .inl f))] s.heap.size = A at hD ⊢
  have hA : ∀ q : Nat, s.heap.size ≤ q → A q := fun q h => by rw [← hAe]; exact Or.inr h
  have hS : va_S A s.heap s.heap [] := va_S.rf
  have hP : va_P (dC, dI) vwCl [(h0, .inr (1, [.int (nI a), .int (nI b), .int (nI z), .ref h1, .int kn])), (h1, .inl (d1, 2001, .inl f))] s.heap := hP
  have hl := lv_entry ([.ref h0]) (n := 5) (Nat.le_of_ble_eq_true rfl)
  rw [lg_entry_eq]
  generalize (lg_sl ([.ref h0]) ++ List.replicate (5 - (lg_sl ([.ref h0])).length) Slot.unset).toArray = ls at hl ⊢
  have hl : lv_has ls 5 [(0, .ref h0)] := hl
  refine lv_aload_n hx hb dX1_reckon_0 rfl (lv_at hl 0 rfl) ?_
  refine va_get (D := (dC, dI)) (ci := 1) (v := .int kn) (C := RX1) (T := TX1) (N := 5) hx hb hts in_X1 hown hK hP 0 rfl rfl 4 (by decide) (hts _ q99) (fun _ h9 => h9) rfl dX1_reckon_1 ?_
  refine lv_if_eq (tgt := 8) hx hb dX1_reckon_4 (by decide) (fun c1 => ?_) (fun c1 => ?_)
  · refine lv_aload_n hx hb dX1_reckon_8 rfl (lv_at hl 0 rfl) ?_
    refine lv_iconst (v := nI 1) hx hb dX1_reckon_9 (by decide +kernel) ?_
    refine va_put (D := (dC, dI)) (ci := 1) (v := .int (nI 1)) (ty := .boolean) (C := RX1) (T := TX1) (N := 5) hx hb hts in_X1 tyX1 tyX1_ok nmX1 hown hK hP hD hS 0 rfl rfl 4 (by decide) (hts _ q99) (fun _ h9 => h9) rfl (by decide +kernel) rfl rfl (Nat.le_of_ble_eq_true rfl) dX1_reckon_10 (fun H locs hP hD hS => ?_)
    have hP : va_P (dC, dI) vwCl [(h0, .inr (1, [.int (nI a), .int (nI b), .int (nI z), .ref h1, .int (nI 1)])), (h1, .inl (d1, 2001, .inl f))] H := hP
    have hD : va_D A [(h0, .inr (1, [.int (nI a), .int (nI b), .int (nI z), .ref h1, .int (nI 1)])), (h1, .inl (d1, 2001, .inl f))] := hD
    refine lv_aload_n hx hb dX1_reckon_13 rfl (lv_at hl 0 rfl) ?_
    refine va_get (D := (dC, dI)) (ci := 1) (v := .ref h1) (C := RX1) (T := TX1) (N := 5) hx hb hts in_X1 hown hK hP 0 rfl rfl 3 (by decide) (hts _ q98) (fun _ h9 => h9) rfl dX1_reckon_14 ?_
    refine lv_iconst (v := nI 0) hx hb dX1_reckon_17 (by decide +kernel) ?_
    refine lv_iconst (v := nI 0) hx hb dX1_reckon_18 (by decide +kernel) ?_
    refine cd_iast hx hb hK hP hD hS 1 0 rfl rfl dX1_reckon_19 (fun H locs hP hD hS => ?_)
    have hf3 : ∀ t, t < 1 → cd_Min (cd_Pay a b z t) (upd f 0 (nI 0) t) := fun t ht => by
      rw [show t = 0 by omega, pk_us]; exact cd_min_0 a b z
    generalize upd f 0 (nI 0) = f3 at hP hD hf3
    have hP : va_P (dC, dI) vwCl [(h0, .inr (1, [.int (nI a), .int (nI b), .int (nI z), .ref h1, .int (nI 1)])), (h1, .inl (d1, 2001, .inl f3))] H := hP
    have hD : va_D A [(h0, .inr (1, [.int (nI a), .int (nI b), .int (nI z), .ref h1, .int (nI 1)])), (h1, .inl (d1, 2001, .inl f3))] := hD
    refine lv_iconst (v := nI 1) hx hb dX1_reckon_20 (by decide +kernel) ?_
    refine lv_istore_n (lv' := [(1, .int (nI 1)), (0, .ref h0)]) hx hb dX1_reckon_21 rfl hl (by decide) rfl (fun ls hl => ?_)
    refine cd_loopH (head := 22) (fun n H locs ls => ∃ (v : Nat) (f2 : Nat → Int32), n + v = 2001 ∧ 0 < v ∧ (∀ t, t < v → cd_Min (cd_Pay a b z t) (f2 t)) ∧ va_P (dC, dI) vwCl [(h0, .inr (1, [.int (nI a), .int (nI b), .int (nI z), .ref h1, .int (nI 1)])), (h1, .inl (d1, 2001, .inl f2))] H ∧ va_D A [(h0, .inr (1, [.int (nI a), .int (nI b), .int (nI z), .ref h1, .int (nI 1)])), (h1, .inl (d1, 2001, .inl f2))] ∧ va_S A s.heap H locs ∧ lv_has ls 5 [(0, .ref h0), (1, .int (nI v))]) ?_ 2000 _ _ ls ⟨1, f3, rfl, by omega, hf3, hP, hD, hS, lv_sub hl [1, 0] rfl⟩
    clear hP hD hS hl hf3
    rintro n H locs ls ⟨v, f2, en, hv1, hin, hP, hD, hS, hl⟩ ih
    refine lv_iload_n hx hb dX1_reckon_22 rfl (lv_at hl 1 rfl) ?_
    refine lv_sipush (v := nI 2000) hx hb dX1_reckon_23 (by decide +kernel) ?_
    refine cd_icmp_gt (tgt := 135) hx hb dX1_reckon_26 (by decide) (fun c2 => ?_) (fun c2 => ?_)
    · exact W.vret hx hb hr (fun t9 ht9 hW => ⟨⟨(nI 1, f2), rfl, ⟨(show nI 1 = 1 by decide +kernel), fun t ht => hin t (by omega)⟩, by rw [ht9]; exact hP, va_K.moved hW.alike hK, hD⟩, hS.F ht9⟩) hS.2.2 dX1_reckon_135
    · refine lv_iconst (v := -1) hx hb dX1_reckon_29 (by decide +kernel) ?_
      refine lv_istore_n (lv' := [(2, .int (-1)), (0, .ref h0), (1, .int (nI v))]) hx hb dX1_reckon_30 rfl hl (by decide) rfl (fun ls hl => ?_)
      refine lv_iconst (v := nI 0) hx hb dX1_reckon_31 (by decide +kernel) ?_
      refine lv_istore_n (lv' := [(3, .int (nI 0)), (2, .int (-1)), (0, .ref h0), (1, .int (nI v))]) hx hb dX1_reckon_32 rfl hl (by decide) rfl (fun ls hl => ?_)
      refine cd_loop (head := 33) (fun n2 ls => ∃ (k : Nat) (r : Int32), n2 + k = 3 ∧ cd_Min (cd_S a b z v k) r ∧ lv_has ls 5 [(0, .ref h0), (1, .int (nI v)), (2, .int r), (3, .int (nI k))]) ?_ 3 ls ⟨0, -1, rfl, Or.inl ⟨rfl, fun n => cd_S_0⟩, lv_sub hl [2, 3, 1, 0] rfl⟩
      clear hl
      rintro n2 ls ⟨k, r, en2, hmin, hl⟩ ih2
      refine lv_iload_n hx hb dX1_reckon_33 rfl (lv_at hl 3 rfl) ?_
      refine lv_iconst (v := nI 3) hx hb dX1_reckon_34 (by decide +kernel) ?_
      refine cd_icmp_ge (tgt := 122) hx hb dX1_reckon_35 (by decide) (fun c3 => ?_) (fun c3 => ?_)
      · have ek : k = 3 := by omega
        rw [ek] at hmin
        refine lv_aload_n hx hb dX1_reckon_122 rfl (lv_at hl 0 rfl) ?_
        refine va_get (D := (dC, dI)) (ci := 1) (v := .ref h1) (C := RX1) (T := TX1) (N := 5) hx hb hts in_X1 hown hK hP 0 rfl rfl 3 (by decide) (hts _ q98) (fun _ h9 => h9) rfl dX1_reckon_123 ?_
        refine lv_iload_n hx hb dX1_reckon_126 rfl (lv_at hl 1 rfl) ?_
        refine lv_iload_n hx hb dX1_reckon_127 rfl (lv_at hl 2 rfl) ?_
        refine cd_iast hx hb hK hP hD hS 1 0 rfl rfl dX1_reckon_128 (fun H locs hP hD hS => ?_)
        have hP : va_P (dC, dI) vwCl [(h0, .inr (1, [.int (nI a), .int (nI b), .int (nI z), .ref h1, .int (nI 1)])), (h1, .inl (d1, 2001, .inl (upd f2 v r)))] H := hP
        have hD : va_D A [(h0, .inr (1, [.int (nI a), .int (nI b), .int (nI z), .ref h1, .int (nI 1)])), (h1, .inl (d1, 2001, .inl (upd f2 v r)))] := hD
        refine cd_iinc (k := 1) (lv' := [(1, .int (nI (v + 1))), (0, .ref h0), (2, .int r), (3, .int (nI k))]) hx hb dX1_reckon_129 hl rfl (by decide) rfl (fun ls hl => ?_)
        refine lv_goto (tgt := 22) hx hb dX1_reckon_132 (by decide) ?_
        exact ih (n - 1) H locs ls (by omega) ⟨v + 1, upd f2 v r, by omega, by omega, fun t ht => by
          by_cases q : t = v
          · rw [q, pk_us]; exact hmin.by_iff (fun j => cd_S_3 hv1)
          · rw [pk_un q]; exact hin t (by omega), hP, hD, hS, lv_sub hl [1, 0] rfl⟩
      · have hcf : 0 < cd_cf a b z k ∧ cd_cf a b z k ≤ 32 := by
          rcases (show k = 0 ∨ k = 1 ∨ k = 2 by omega) with e9 | e9 | e9
          · rw [e9]; exact ⟨ha1, ha2⟩
          · rw [e9]; exact ⟨hb1, hb2⟩
          · rw [e9]; exact ⟨hz1, hz2⟩
        refine cd_meet (pc1 := 67) (fun ls => lv_has ls 5 [(0, .ref h0), (1, .int (nI v)), (2, .int r), (3, .int (nI k)), (4, .int (nI (cd_cf a b z k)))]) ?_ (fun K => ?_)
        · clear hl
          intro ls hl
          obtain ⟨hcf1, hcf2⟩ := hcf
          refine lv_iload_n hx hb dX1_reckon_67 rfl (lv_at hl 1 rfl) ?_
          refine lv_iload hx hb dX1_reckon_68 (lv_at hl 4 rfl) ?_
          refine cd_icmp_lt (tgt := 116) hx hb dX1_reckon_70 (by decide) (fun c4 => ?_) (fun c4 => ?_)
          · refine cd_iinc (k := 3) (lv' := [(3, .int (nI (k + 1))), (0, .ref h0), (1, .int (nI v)), (2, .int r), (4, .int (nI (cd_cf a b z k)))]) hx hb dX1_reckon_116 hl rfl (by decide) rfl (fun ls hl => ?_)
            refine lv_goto (tgt := 33) hx hb dX1_reckon_119 (by decide) ?_
            exact ih2 (n2 - 1) ls (by omega) ⟨k + 1, r, by omega, cd_S_big hmin c4, lv_sub hl [1, 2, 3, 0] rfl⟩
          · have hq := hin (v - cd_cf a b z k) (by omega)
            refine lv_aload_n hx hb dX1_reckon_73 rfl (lv_at hl 0 rfl) ?_
            refine va_get (D := (dC, dI)) (ci := 1) (v := .ref h1) (C := RX1) (T := TX1) (N := 5) hx hb hts in_X1 hown hK hP 0 rfl rfl 3 (by decide) (hts _ q98) (fun _ h9 => h9) rfl dX1_reckon_74 ?_
            refine lv_iload_n hx hb dX1_reckon_77 rfl (lv_at hl 1 rfl) ?_
            refine lv_iload hx hb dX1_reckon_78 (lv_at hl 4 rfl) ?_
            refine cd_isub hx hb dX1_reckon_80 ?_
            refine cd_iald (f := f2) hx hb hK hP 1 0 rfl rfl dX1_reckon_81 ?_
            refine lv_if_lt (tgt := 116) hx hb dX1_reckon_82 (by decide) (fun c5 => ?_) (fun c5 => ?_)
            · refine cd_iinc (k := 3) (lv' := [(3, .int (nI (k + 1))), (0, .ref h0), (1, .int (nI v)), (2, .int r), (4, .int (nI (cd_cf a b z k)))]) hx hb dX1_reckon_116 hl rfl (by decide) rfl (fun ls hl => ?_)
              refine lv_goto (tgt := 33) hx hb dX1_reckon_119 (by decide) ?_
              exact ih2 (n2 - 1) ls (by omega) ⟨k + 1, r, by omega, cd_S_none hmin (hq.neg (fun j hj => by have := cd_pay_le ha1 hb1 hz1 hj; omega) c5).2, lv_sub hl [1, 2, 3, 0] rfl⟩
            · obtain ⟨j0, ej, hj0, hjl⟩ := hq.nonneg c5
              have hj9 := cd_pay_le ha1 hb1 hz1 hj0
              refine lv_iload_n hx hb dX1_reckon_85 rfl (lv_at hl 2 rfl) ?_
              refine lv_if_lt (tgt := 104) hx hb dX1_reckon_86 (by decide) (fun c6 => ?_) (fun c6 => ?_)
              · have hno := (hmin.neg (fun j hj => cd_S_lt ha1 hb1 hz1 (by omega) hj) c6).2
                refine lv_aload_n hx hb dX1_reckon_104 rfl (lv_at hl 0 rfl) ?_
                refine va_get (D := (dC, dI)) (ci := 1) (v := .ref h1) (C := RX1) (T := TX1) (N := 5) hx hb hts in_X1 hown hK hP 0 rfl rfl 3 (by decide) (hts _ q98) (fun _ h9 => h9) rfl dX1_reckon_105 ?_
                refine lv_iload_n hx hb dX1_reckon_108 rfl (lv_at hl 1 rfl) ?_
                refine lv_iload hx hb dX1_reckon_109 (lv_at hl 4 rfl) ?_
                refine cd_isub hx hb dX1_reckon_111 ?_
                refine cd_iald (f := f2) hx hb hK hP 1 0 rfl rfl dX1_reckon_112 ?_
                refine cd_v (y := nI j0) ej ?_
                refine lv_iconst (v := nI 1) hx hb dX1_reckon_113 (by decide +kernel) ?_
                refine cd_iadd hx hb dX1_reckon_114 ?_
                refine lv_istore_n (lv' := [(2, .int (nI (j0 + 1))), (0, .ref h0), (1, .int (nI v)), (3, .int (nI k)), (4, .int (nI (cd_cf a b z k)))]) hx hb dX1_reckon_115 rfl hl (by decide) rfl (fun ls hl => ?_)
                refine cd_iinc (k := 3) (lv' := [(3, .int (nI (k + 1))), (2, .int (nI (j0 + 1))), (0, .ref h0), (1, .int (nI v)), (4, .int (nI (cd_cf a b z k)))]) hx hb dX1_reckon_116 hl rfl (by decide) rfl (fun ls hl => ?_)
                refine lv_goto (tgt := 33) hx hb dX1_reckon_119 (by decide) ?_
                exact ih2 (n2 - 1) ls (by omega) ⟨k + 1, nI (j0 + 1), by omega, cd_S_some c4 hj0 hjl (cd_Min.fresh (fun j hj => absurd hj (hno j))), lv_sub hl [2, 3, 1, 0] rfl⟩
              · obtain ⟨k0, er, hk0, hkl⟩ := hmin.nonneg c6
                have hk9 : k0 < 2 ^ 31 := cd_S_lt ha1 hb1 hz1 (by omega) hk0
                subst er
                refine lv_aload_n hx hb dX1_reckon_89 rfl (lv_at hl 0 rfl) ?_
                refine va_get (D := (dC, dI)) (ci := 1) (v := .ref h1) (C := RX1) (T := TX1) (N := 5) hx hb hts in_X1 hown hK hP 0 rfl rfl 3 (by decide) (hts _ q98) (fun _ h9 => h9) rfl dX1_reckon_90 ?_
                refine lv_iload_n hx hb dX1_reckon_93 rfl (lv_at hl 1 rfl) ?_
                refine lv_iload hx hb dX1_reckon_94 (lv_at hl 4 rfl) ?_
                refine cd_isub hx hb dX1_reckon_96 ?_
                refine cd_iald (f := f2) hx hb hK hP 1 0 rfl rfl dX1_reckon_97 ?_
                refine cd_v (y := nI j0) ej ?_
                refine lv_iconst (v := nI 1) hx hb dX1_reckon_98 (by decide +kernel) ?_
                refine cd_iadd hx hb dX1_reckon_99 ?_
                refine lv_iload_n hx hb dX1_reckon_100 rfl (lv_at hl 2 rfl) ?_
                refine cd_icmp_ge (tgt := 116) hx hb dX1_reckon_101 (by decide) (fun c7 => ?_) (fun c7 => ?_)
                · refine cd_iinc (k := 3) (lv' := [(3, .int (nI (k + 1))), (0, .ref h0), (1, .int (nI v)), (2, .int (nI k0)), (4, .int (nI (cd_cf a b z k)))]) hx hb dX1_reckon_116 hl rfl (by decide) rfl (fun ls hl => ?_)
                  refine lv_goto (tgt := 33) hx hb dX1_reckon_119 (by decide) ?_
                  exact ih2 (n2 - 1) ls (by omega) ⟨k + 1, nI k0, by omega, cd_S_some c4 hj0 hjl (cd_Min.keep hk0 hkl c7), lv_sub hl [1, 2, 3, 0] rfl⟩
                · refine lv_aload_n hx hb dX1_reckon_104 rfl (lv_at hl 0 rfl) ?_
                  refine va_get (D := (dC, dI)) (ci := 1) (v := .ref h1) (C := RX1) (T := TX1) (N := 5) hx hb hts in_X1 hown hK hP 0 rfl rfl 3 (by decide) (hts _ q98) (fun _ h9 => h9) rfl dX1_reckon_105 ?_
                  refine lv_iload_n hx hb dX1_reckon_108 rfl (lv_at hl 1 rfl) ?_
                  refine lv_iload hx hb dX1_reckon_109 (lv_at hl 4 rfl) ?_
                  refine cd_isub hx hb dX1_reckon_111 ?_
                  refine cd_iald (f := f2) hx hb hK hP 1 0 rfl rfl dX1_reckon_112 ?_
                  refine cd_v (y := nI j0) ej ?_
                  refine lv_iconst (v := nI 1) hx hb dX1_reckon_113 (by decide +kernel) ?_
                  refine cd_iadd hx hb dX1_reckon_114 ?_
                  refine lv_istore_n (lv' := [(2, .int (nI (j0 + 1))), (0, .ref h0), (1, .int (nI v)), (3, .int (nI k)), (4, .int (nI (cd_cf a b z k)))]) hx hb dX1_reckon_115 rfl hl (by decide) rfl (fun ls hl => ?_)
                  refine cd_iinc (k := 3) (lv' := [(3, .int (nI (k + 1))), (2, .int (nI (j0 + 1))), (0, .ref h0), (1, .int (nI v)), (4, .int (nI (cd_cf a b z k)))]) hx hb dX1_reckon_116 hl rfl (by decide) rfl (fun ls hl => ?_)
                  refine lv_goto (tgt := 33) hx hb dX1_reckon_119 (by decide) ?_
                  exact ih2 (n2 - 1) ls (by omega) ⟨k + 1, nI (j0 + 1), by omega, cd_S_some c4 hj0 hjl (cd_Min.fresh (fun j hj => Nat.le_trans (Nat.le_of_lt c7) (hkl j hj))), lv_sub hl [2, 3, 1, 0] rfl⟩
        · refine lv_iload_n hx hb dX1_reckon_38 rfl (lv_at hl 3 rfl) ?_
          refine cd_if_ne (tgt := 49) hx hb dX1_reckon_39 (by decide) (fun c4 => ?_) (fun c4 => ?_)
          · refine lv_iload_n hx hb dX1_reckon_49 rfl (lv_at hl 3 rfl) ?_
            refine lv_iconst (v := nI 1) hx hb dX1_reckon_50 (by decide +kernel) ?_
            refine cd_icmp_ne (tgt := 61) hx hb dX1_reckon_51 (by decide) (fun c5 => ?_) (fun c5 => ?_)
            · refine lv_aload_n hx hb dX1_reckon_61 rfl (lv_at hl 0 rfl) ?_
              refine va_get (D := (dC, dI)) (ci := 1) (v := .int (nI z)) (C := RX1) (T := TX1) (N := 5) hx hb hts in_X1 hown hK hP 0 rfl rfl 2 (by decide) (hts _ q97) (fun _ h9 => h9) rfl dX1_reckon_62 ?_
              refine lv_istore (lv' := [(4, .int (nI z)), (0, .ref h0), (1, .int (nI v)), (2, .int r), (3, .int (nI k))]) hx hb dX1_reckon_65 hl (by decide) rfl (fun ls hl => ?_)
              have ek : cd_cf a b z k = z := by rw [show k = 2 by omega]; rfl
              exact K ls (by rw [ek]; exact lv_sub hl [1, 2, 3, 4, 0] rfl)
            · refine lv_aload_n hx hb dX1_reckon_54 rfl (lv_at hl 0 rfl) ?_
              refine va_get (D := (dC, dI)) (ci := 1) (v := .int (nI b)) (C := RX1) (T := TX1) (N := 5) hx hb hts in_X1 hown hK hP 0 rfl rfl 1 (by decide) (hts _ q96) (fun _ h9 => h9) rfl dX1_reckon_55 ?_
              refine lv_goto (tgt := 65) hx hb dX1_reckon_58 (by decide) ?_
              refine lv_istore (lv' := [(4, .int (nI b)), (0, .ref h0), (1, .int (nI v)), (2, .int r), (3, .int (nI k))]) hx hb dX1_reckon_65 hl (by decide) rfl (fun ls hl => ?_)
              have ek : cd_cf a b z k = b := by rw [c5]; rfl
              exact K ls (by rw [ek]; exact lv_sub hl [1, 2, 3, 4, 0] rfl)
          · refine lv_aload_n hx hb dX1_reckon_42 rfl (lv_at hl 0 rfl) ?_
            refine va_get (D := (dC, dI)) (ci := 1) (v := .int (nI a)) (C := RX1) (T := TX1) (N := 5) hx hb hts in_X1 hown hK hP 0 rfl rfl 0 (by decide) (hts _ q95) (fun _ h9 => h9) rfl dX1_reckon_43 ?_
            refine lv_goto (tgt := 65) hx hb dX1_reckon_46 (by decide) ?_
            refine lv_istore (lv' := [(4, .int (nI a)), (0, .ref h0), (1, .int (nI v)), (2, .int r), (3, .int (nI k))]) hx hb dX1_reckon_65 hl (by decide) rfl (fun ls hl => ?_)
            have ek : cd_cf a b z k = a := by rw [c4]; rfl
            exact K ls (by rw [ek]; exact lv_sub hl [1, 2, 3, 4, 0] rfl)
  · rcases hkn with h9 | ⟨h9, hT⟩
    · exact absurd h9 c1
    · exact W.vret hx hb hr (fun t9 ht9 hW => ⟨⟨(kn, f), rfl, ⟨h9, hT⟩, by rw [ht9]; exact hP, va_K.moved hW.alike hK, hD⟩, hS.F ht9⟩) hS.2.2 dX1_reckon_7
end
section
/-! ChangeDeskModel: few, greatest, gaps (printed by gen/heap.py) -/
set_option maxHeartbeats 4000000 in
set_option maxRecDepth 100000 in
theorem mt_X1_few (l : Launch) (dC : Nat → ClassId) (dI : Nat → Nat → Nat) (h0 h1 sz a b z : Nat) (kn : Int32) (d1 : ClassId) (f : Nat → Int32) (v : Int32) (j : Nat) (hj : j < 1024) (hv : v &&& nI 1023 = nI j) (ha1 : 0 < a) (ha2 : a ≤ 32) (hb1 : 0 < b) (hb2 : b ≤ 32) (hz1 : 0 < z) (hz2 : z ≤ 32) (hkn : cd_Kn a b z kn f) : Met l yX1_few (ws_ yX1_few cX1_few 2 (some .int)) ({ frames := 1, cells := 0, slots := 0, locals := 24 }) (va_Pc [.ref h0, .int v] (fun U => U.heap.size = sz ∧ va_P (dC, dI) vwCl [(h0, .inr (1, [.int (nI a), .int (nI b), .int (nI z), .ref h1, .int kn])), (h1, .inl (d1, 2001, .inl f))] U.heap ∧ va_K (dC, dI) vwCl [(d1, .int)] U ∧ va_D (fun _ => True) [(h0, .inr (1, [.int (nI a), .int (nI b), .int (nI z), .ref h1, .int kn])), (h1, .inl (d1, 2001, .inl f))])) (va_Qi (fun (r : Int32) (u : Int32 × (Nat → Int32)) => (cd_Min (cd_Pay a b z j) r) ∧ cd_Kn a b z u.1 u.2) (fun (u : Int32 × (Nat → Int32)) t => va_P (dC, dI) vwCl [(h0, .inr (1, [.int (nI a), .int (nI b), .int (nI z), .ref h1, .int u.1])), (h1, .inl (d1, 2001, .inl u.2))] t.heap ∧ va_K (dC, dI) vwCl [(d1, .int)] t ∧ va_D (va_A [(h0, .inr (1, [.int (nI a), .int (nI b), .int (nI z), .ref h1, .int kn])), (h1, .inl (d1, 2001, .inl f))] sz) [(h0, .inr (1, [.int (nI a), .int (nI b), .int (nI z), .ref h1, .int u.1])), (h1, .inl (d1, 2001, .inl u.2))]) (va_A [(h0, .inr (1, [.int (nI a), .int (nI b), .int (nI z), .ref h1, .int kn])), (h1, .inl (d1, 2001, .inl f))] sz)) 0 0 (va_A [(h0, .inr (1, [.int (nI a), .int (nI b), .int (nI z), .ref h1, .int kn])), (h1, .inl (d1, 2001, .inl f))] sz) := by
  refine Met.ofW (cc := cX1_few) (maxL := 2) (ret := (some .int)) (by decide) rfl ?_
  intro p e s m args below meth c s₁ B hml hv
  obtain ⟨rfl, hsz, hP, hK, hD0⟩ := hv
  have hx := B.exec
  have hb := B.bytes
  have hr := B.returns
  have hts := atoms_spec (ws := ws_ yX1_few cX1_few 2 (some .int)) B.pre
  have hts : ∀ w ∈ lw_all, w.before _ s = true := fun w h => hts w (List.mem_cons_of_mem _ h)
  have hown : s.vm.findClass RX1 = some m.cls := findClass_of_methodNamed B.named
  have hlocks := B.notSynchronized
  subst hsz
  have hD := hD0.self (sz := s.heap.size)
  generalize hAe : va_A [(h0, .inr (1, [.int (nI a), .int (nI b), .int (nI z), .ref h1, .int kn])), (h1, .inl (d1, 2001, .inl f))] s.heap.size = A at hD ⊢
  have hA : ∀ q : Nat, s.heap.size ≤ q → A q := fun q h => by rw [← hAe]; exact Or.inr h
  have hS : va_S A s.heap s.heap [] := va_S.rf
  have hP : va_P (dC, dI) vwCl [(h0, .inr (1, [.int (nI a), .int (nI b), .int (nI z), .ref h1, .int kn])), (h1, .inl (d1, 2001, .inl f))] s.heap := hP
  have hl := lv_entry ([.ref h0, .int v]) (n := 2) (Nat.le_of_ble_eq_true rfl)
  rw [lg_entry_eq]
  generalize (lg_sl ([.ref h0, .int v]) ++ List.replicate (2 - (lg_sl ([.ref h0, .int v])).length) Slot.unset).toArray = ls at hl ⊢
  have hl : lv_has ls 2 [(0, .ref h0), (1, .int v)] := hl
  refine lv_aload_n hx hb dX1_few_0 rfl (lv_at hl 0 rfl) ?_
  have hPc := hP.sub (ws' := [(h0, .inr (1, [.int (nI a), .int (nI b), .int (nI z), .ref h1, .int kn])), (h1, .inl (d1, 2001, .inl f))]) [0, 1] rfl
  have hDc := hD.sub (ws' := [(h0, .inr (1, [.int (nI a), .int (nI b), .int (nI z), .ref h1, .int kn])), (h1, .inl (d1, 2001, .inl f))]) [0, 1] (by decide) rfl
  have hKc := hK.sub (tys' := [(d1, .int)]) [0] rfl
  have hFc := va_free (wc := [(h0, .inr (1, [.int (nI a), .int (nI b), .int (nI z), .ref h1, .int kn])), (h1, .inl (d1, 2001, .inl f))]) hD hS hA [0, 1] rfl
  refine va_callv (va_runV (As := []) (rest := []) ⟨hx, hb, hml, hown, hts⟩ (mt_X1_reckon l dC dI h0 h1 s.heap.size a b z kn d1 f ha1 ha2 hb1 hb2 hz1 hz2 hkn) (cwV 0 hts (lw_V q119 q121 qs3 q7 q122) rfl rfl rfl (by decide +kernel) ⟨Nat.le_of_ble_eq_true rfl, Nat.le_of_ble_eq_true rfl⟩) ⟨fun a U g mk q => by obtain ⟨q0, q1, qP, qK, qD⟩ := q; exact ⟨q0, q1, qP, va_K.moved (u := U) (U := U.calling g mk a) (Vm.Alike.refl U.vm) qK, qD⟩, va_recv hKc hPc (ci := 1) (q0 := 0) rfl rfl, fun U hU hW => ⟨rfl, by rw [hU], by rw [hU]; exact hPc, va_K.moved hW.alike hKc, hDc.weaken (fun _ _ _ _ => trivial)⟩⟩ rfl rfl hl.1 rfl (lv_room (Nat.le_of_ble_eq_true rfl)) dX1_few_1 ⟨Nat.le_of_ble_eq_true rfl, Nat.le_of_ble_eq_true rfl⟩) hS (fun q _ h => hFc q h) hFc (fun u t H1 locs ht hvm hw hB hsz1 hk1 hS => ?_)
  obtain ⟨kn2, f2⟩ := u
  obtain ⟨hP1, hK1, hD1⟩ := hB
  rw [ht] at hP1
  have hK1 := va_K.moved hvm.symm hK1
  obtain ⟨hP, hD⟩ := va_join (wr := []) (w1 := [(h0, .inr (1, [.int (nI a), .int (nI b), .int (nI z), .ref h1, .int kn2])), (h1, .inl (d1, 2001, .inl f2))]) hP hD [0, 1] [] rfl rfl (by decide) (by decide) hk1 hFc hP1 hD1
  generalize H1 = H at hP hS ⊢
  have hP : va_P (dC, dI) vwCl [(h0, .inr (1, [.int (nI a), .int (nI b), .int (nI z), .ref h1, .int kn2])), (h1, .inl (d1, 2001, .inl f2))] H := hP
  have hD : va_D A [(h0, .inr (1, [.int (nI a), .int (nI b), .int (nI z), .ref h1, .int kn2])), (h1, .inl (d1, 2001, .inl f2))] := hD
  obtain ⟨hk2, hT⟩ := hw
  have hk2 : kn2 = 1 := hk2
  have hT : cd_Tab a b z f2 := hT
  refine lv_aload_n hx hb dX1_few_4 rfl (lv_at hl 0 rfl) ?_
  refine va_get (D := (dC, dI)) (ci := 1) (v := .ref h1) (C := RX1) (T := TX1) (N := 5) hx hb hts in_X1 hown hK hP 0 rfl rfl 3 (by decide) (hts _ q98) (fun _ h9 => h9) rfl dX1_few_5 ?_
  refine lv_iload_n hx hb dX1_few_8 rfl (lv_at hl 1 rfl) ?_
  refine lv_sipush (v := nI 1023) hx hb dX1_few_9 (by decide +kernel) ?_
  refine lv_iand hx hb dX1_few_12 ?_
  refine cd_v (y := nI j) hv ?_
  refine cd_iald (f := f2) hx hb hK hP 1 0 rfl rfl dX1_few_13 ?_
  exact W.iret (v := (f2 j)) hx hb hr (fun t9 ht9 hW => ⟨⟨(f2 j), (kn2, f2), rfl, ⟨hT j (by omega), Or.inr ⟨hk2, hT⟩⟩, by rw [ht9]; exact hP, va_K.moved hW.alike hK, hD⟩, hS.F ht9⟩) hS.2.2 dX1_few_14
set_option maxHeartbeats 4000000 in
set_option maxRecDepth 100000 in
theorem mt_X1_greatest (l : Launch) (dC : Nat → ClassId) (dI : Nat → Nat → Nat) (h0 h1 sz a b z : Nat) (kn : Int32) (d1 : ClassId) (f : Nat → Int32) (ha1 : 0 < a) (ha2 : a ≤ 32) (hb1 : 0 < b) (hb2 : b ≤ 32) (hz1 : 0 < z) (hz2 : z ≤ 32) (hkn : cd_Kn a b z kn f) : Met l yX1_greatest (ws_ yX1_greatest cX1_greatest 2 (some .int)) ({ frames := 1, cells := 0, slots := 0, locals := 24 }) (va_Pc [.ref h0] (fun U => U.heap.size = sz ∧ va_P (dC, dI) vwCl [(h0, .inr (1, [.int (nI a), .int (nI b), .int (nI z), .ref h1, .int kn])), (h1, .inl (d1, 2001, .inl f))] U.heap ∧ va_K (dC, dI) vwCl [(d1, .int)] U ∧ va_D (fun _ => True) [(h0, .inr (1, [.int (nI a), .int (nI b), .int (nI z), .ref h1, .int kn])), (h1, .inl (d1, 2001, .inl f))])) (va_Qi (fun (r : Int32) (u : Int32 × (Nat → Int32)) => (cd_G (Nat.gcd (Nat.gcd a b) z) (cd_Top 2000 (cd_Can a b z)) r) ∧ cd_Kn a b z u.1 u.2) (fun (u : Int32 × (Nat → Int32)) t => va_P (dC, dI) vwCl [(h0, .inr (1, [.int (nI a), .int (nI b), .int (nI z), .ref h1, .int u.1])), (h1, .inl (d1, 2001, .inl u.2))] t.heap ∧ va_K (dC, dI) vwCl [(d1, .int)] t ∧ va_D (va_A [(h0, .inr (1, [.int (nI a), .int (nI b), .int (nI z), .ref h1, .int kn])), (h1, .inl (d1, 2001, .inl f))] sz) [(h0, .inr (1, [.int (nI a), .int (nI b), .int (nI z), .ref h1, .int u.1])), (h1, .inl (d1, 2001, .inl u.2))]) (va_A [(h0, .inr (1, [.int (nI a), .int (nI b), .int (nI z), .ref h1, .int kn])), (h1, .inl (d1, 2001, .inl f))] sz)) 0 0 (va_A [(h0, .inr (1, [.int (nI a), .int (nI b), .int (nI z), .ref h1, .int kn])), (h1, .inl (d1, 2001, .inl f))] sz) := by
  refine Met.ofW (cc := cX1_greatest) (maxL := 2) (ret := (some .int)) (by decide) rfl ?_
  intro p e s m args below meth c s₁ B hml hv
  obtain ⟨rfl, hsz, hP, hK, hD0⟩ := hv
  have hx := B.exec
  have hb := B.bytes
  have hr := B.returns
  have hts := atoms_spec (ws := ws_ yX1_greatest cX1_greatest 2 (some .int)) B.pre
  have hts : ∀ w ∈ lw_all, w.before _ s = true := fun w h => hts w (List.mem_cons_of_mem _ h)
  have hown : s.vm.findClass RX1 = some m.cls := findClass_of_methodNamed B.named
  have hlocks := B.notSynchronized
  subst hsz
  have hD := hD0.self (sz := s.heap.size)
  generalize hAe : va_A [(h0, .inr (1, [.int (nI a), .int (nI b), .int (nI z), .ref h1, .int kn])), (h1, .inl (d1, 2001, .inl f))] s.heap.size = A at hD ⊢
  have hA : ∀ q : Nat, s.heap.size ≤ q → A q := fun q h => by rw [← hAe]; exact Or.inr h
  have hS : va_S A s.heap s.heap [] := va_S.rf
  have hP : va_P (dC, dI) vwCl [(h0, .inr (1, [.int (nI a), .int (nI b), .int (nI z), .ref h1, .int kn])), (h1, .inl (d1, 2001, .inl f))] s.heap := hP
  have hl := lv_entry ([.ref h0]) (n := 2) (Nat.le_of_ble_eq_true rfl)
  rw [lg_entry_eq]
  generalize (lg_sl ([.ref h0]) ++ List.replicate (2 - (lg_sl ([.ref h0])).length) Slot.unset).toArray = ls at hl ⊢
  have hl : lv_has ls 2 [(0, .ref h0)] := hl
  have hg1 : 0 < Nat.gcd a b := Nat.gcd_pos_of_pos_left b ha1
  have hg2 : Nat.gcd a b ≤ a := cd_gcd_le ha1
  have hg3 : 0 < Nat.gcd (Nat.gcd a b) z := cd_gcd3_pos ha1
  have hg4 : Nat.gcd (Nat.gcd a b) z ≤ Nat.gcd a b := cd_gcd_le hg1
  refine lv_aload_n hx hb dX1_greatest_0 rfl (lv_at hl 0 rfl) ?_
  refine va_get (D := (dC, dI)) (ci := 1) (v := .int (nI a)) (C := RX1) (T := TX1) (N := 5) hx hb hts in_X1 hown hK hP 0 rfl rfl 0 (by decide) (hts _ q95) (fun _ h9 => h9) rfl dX1_greatest_1 ?_
  refine lv_aload_n hx hb dX1_greatest_4 rfl (lv_at hl 0 rfl) ?_
  refine va_get (D := (dC, dI)) (ci := 1) (v := .int (nI b)) (C := RX1) (T := TX1) (N := 5) hx hb hts in_X1 hown hK hP 0 rfl rfl 1 (by decide) (hts _ q96) (fun _ h9 => h9) rfl dX1_greatest_5 ?_
  refine cd_callr (W.runS (As := [.int (nI a), .int (nI b)]) (rest := []) ⟨hx, hb, hml, hown, hts⟩ (mt_X1_divisor l a b (by omega) (by omega)) (va_cwS 2 hts (lw_S q127 q128 q7 q129) rfl rfl rfl (by decide +kernel) ⟨Nat.le_of_ble_eq_true rfl, Nat.le_of_ble_eq_true rfl⟩) cd_preS rfl rfl hl.1 rfl (lv_room (Nat.le_of_ble_eq_true rfl)) dX1_greatest_8 ⟨Nat.le_of_ble_eq_true rfl, Nat.le_of_ble_eq_true rfl⟩) (fun r er => ?_)
  have er : r = nI (Nat.gcd a b) := er
  subst er
  refine lv_aload_n hx hb dX1_greatest_11 rfl (lv_at hl 0 rfl) ?_
  refine va_get (D := (dC, dI)) (ci := 1) (v := .int (nI z)) (C := RX1) (T := TX1) (N := 5) hx hb hts in_X1 hown hK hP 0 rfl rfl 2 (by decide) (hts _ q97) (fun _ h9 => h9) rfl dX1_greatest_12 ?_
  refine cd_callr (W.runS (As := [.int (nI (Nat.gcd a b)), .int (nI z)]) (rest := []) ⟨hx, hb, hml, hown, hts⟩ (mt_X1_divisor l (Nat.gcd a b) z (by omega) (by omega)) (va_cwS 2 hts (lw_S q127 q128 q7 q129) rfl rfl rfl (by decide +kernel) ⟨Nat.le_of_ble_eq_true rfl, Nat.le_of_ble_eq_true rfl⟩) cd_preS rfl rfl hl.1 rfl (lv_room (Nat.le_of_ble_eq_true rfl)) dX1_greatest_15 ⟨Nat.le_of_ble_eq_true rfl, Nat.le_of_ble_eq_true rfl⟩) (fun r er => ?_)
  have er : r = nI (Nat.gcd (Nat.gcd a b) z) := er
  subst er
  refine lv_iconst (v := nI 1) hx hb dX1_greatest_18 (by decide +kernel) ?_
  refine cd_icmp_eq (tgt := 25) hx hb dX1_greatest_19 (by decide) (fun c1 => ?_) (fun c1 => ?_)
  · refine lv_aload_n hx hb dX1_greatest_25 rfl (lv_at hl 0 rfl) ?_
    have hPc := hP.sub (ws' := [(h0, .inr (1, [.int (nI a), .int (nI b), .int (nI z), .ref h1, .int kn])), (h1, .inl (d1, 2001, .inl f))]) [0, 1] rfl
    have hDc := hD.sub (ws' := [(h0, .inr (1, [.int (nI a), .int (nI b), .int (nI z), .ref h1, .int kn])), (h1, .inl (d1, 2001, .inl f))]) [0, 1] (by decide) rfl
    have hKc := hK.sub (tys' := [(d1, .int)]) [0] rfl
    have hFc := va_free (wc := [(h0, .inr (1, [.int (nI a), .int (nI b), .int (nI z), .ref h1, .int kn])), (h1, .inl (d1, 2001, .inl f))]) hD hS hA [0, 1] rfl
    refine va_callv (va_runV (As := []) (rest := []) ⟨hx, hb, hml, hown, hts⟩ (mt_X1_reckon l dC dI h0 h1 s.heap.size a b z kn d1 f ha1 ha2 hb1 hb2 hz1 hz2 hkn) (cwV 0 hts (lw_V q119 q121 qs3 q7 q122) rfl rfl rfl (by decide +kernel) ⟨Nat.le_of_ble_eq_true rfl, Nat.le_of_ble_eq_true rfl⟩) ⟨fun a U g mk q => by obtain ⟨q0, q1, qP, qK, qD⟩ := q; exact ⟨q0, q1, qP, va_K.moved (u := U) (U := U.calling g mk a) (Vm.Alike.refl U.vm) qK, qD⟩, va_recv hKc hPc (ci := 1) (q0 := 0) rfl rfl, fun U hU hW => ⟨rfl, by rw [hU], by rw [hU]; exact hPc, va_K.moved hW.alike hKc, hDc.weaken (fun _ _ _ _ => trivial)⟩⟩ rfl rfl hl.1 rfl (lv_room (Nat.le_of_ble_eq_true rfl)) dX1_greatest_26 ⟨Nat.le_of_ble_eq_true rfl, Nat.le_of_ble_eq_true rfl⟩) hS (fun q _ h => hFc q h) hFc (fun u t H1 locs ht hvm hw hB hsz1 hk1 hS => ?_)
    obtain ⟨kn2, f2⟩ := u
    obtain ⟨hP1, hK1, hD1⟩ := hB
    rw [ht] at hP1
    have hK1 := va_K.moved hvm.symm hK1
    obtain ⟨hP, hD⟩ := va_join (wr := []) (w1 := [(h0, .inr (1, [.int (nI a), .int (nI b), .int (nI z), .ref h1, .int kn2])), (h1, .inl (d1, 2001, .inl f2))]) hP hD [0, 1] [] rfl rfl (by decide) (by decide) hk1 hFc hP1 hD1
    generalize H1 = H at hP hS ⊢
    have hP : va_P (dC, dI) vwCl [(h0, .inr (1, [.int (nI a), .int (nI b), .int (nI z), .ref h1, .int kn2])), (h1, .inl (d1, 2001, .inl f2))] H := hP
    have hD : va_D A [(h0, .inr (1, [.int (nI a), .int (nI b), .int (nI z), .ref h1, .int kn2])), (h1, .inl (d1, 2001, .inl f2))] := hD
    obtain ⟨hk2, hT⟩ := hw
    have hk2 : kn2 = 1 := hk2
    have hT : cd_Tab a b z f2 := hT
    refine lv_sipush (v := nI 2000) hx hb dX1_greatest_29 (by decide +kernel) ?_
    refine lv_istore_n (lv' := [(1, .int (nI 2000)), (0, .ref h0)]) hx hb dX1_greatest_32 rfl hl (by decide) rfl (fun ls hl => ?_)
    refine cd_loop (head := 33) (fun n ls => ∃ v : Nat, n = v ∧ v ≤ 2000 ∧ (∀ t, v < t → t ≤ 2000 → cd_Can a b z t) ∧ lv_has ls 2 [(0, .ref h0), (1, .int (nI v))]) ?_ 2000 ls ⟨2000, rfl, by omega, fun t h1 h2 => by omega, lv_sub hl [1, 0] rfl⟩
    clear hl
    rintro n ls ⟨v, en, hv, hin, hl⟩ ih
    refine lv_iload_n hx hb dX1_greatest_33 rfl (lv_at hl 1 rfl) ?_
    refine cd_if_le (tgt := 54) hx hb dX1_greatest_34 (by decide) (fun c2 => ?_) (fun c2 => ?_)
    · refine lv_iconst (v := -1) hx hb dX1_greatest_54 (by decide +kernel) ?_
      exact W.iret (v := (-1)) hx hb hr (fun t9 ht9 hW => ⟨⟨(-1), (kn2, f2), rfl, ⟨Or.inr ⟨c1, Or.inr ⟨rfl, fun t h1 h2 => hin t (by omega) h2⟩⟩, Or.inr ⟨hk2, hT⟩⟩, by rw [ht9]; exact hP, va_K.moved hW.alike hK, hD⟩, hS.F ht9⟩) hS.2.2 dX1_greatest_55
    · obtain ⟨u, eu⟩ : ∃ u, v = u + 1 := ⟨v - 1, by omega⟩
      subst eu
      have hc9 := cd_min_can ha1 hb1 hz1 (by omega) (hT (u + 1) hv)
      refine lv_aload_n hx hb dX1_greatest_37 rfl (lv_at hl 0 rfl) ?_
      refine va_get (D := (dC, dI)) (ci := 1) (v := .ref h1) (C := RX1) (T := TX1) (N := 5) hx hb hts in_X1 hown hK hP 0 rfl rfl 3 (by decide) (hts _ q98) (fun _ h9 => h9) rfl dX1_greatest_38 ?_
      refine lv_iload_n hx hb dX1_greatest_41 rfl (lv_at hl 1 rfl) ?_
      refine cd_iald (f := f2) hx hb hK hP 1 0 rfl rfl dX1_greatest_42 ?_
      refine lv_if_ge (tgt := 48) hx hb dX1_greatest_43 (by decide) (fun c3 => ?_) (fun c3 => ?_)
      · refine cd_idec (k := 1) (lv' := [(1, .int (nI u)), (0, .ref h0)]) hx hb dX1_greatest_48 hl rfl (by decide) rfl (fun ls hl => ?_)
        refine lv_goto (tgt := 33) hx hb dX1_greatest_51 (by decide) ?_
        exact ih u ls (by omega) ⟨u, rfl, by omega, fun t h1 h2 => by
          by_cases q : t = u + 1
          · rw [q]; exact Classical.byContradiction (fun q9 => (cd_ge0.mp c3) (hc9.mpr q9))
          · exact hin t (by omega) h2, lv_sub hl [1, 0] rfl⟩
      · refine lv_iload_n hx hb dX1_greatest_46 rfl (lv_at hl 1 rfl) ?_
        exact W.iret (v := (nI (u + 1))) hx hb hr (fun t9 ht9 hW => ⟨⟨(nI (u + 1)), (kn2, f2), rfl, ⟨Or.inr ⟨c1, Or.inl ⟨u + 1, rfl, by omega, hv, hc9.mp (Classical.byContradiction (fun q9 => c3 (cd_ge0.mpr q9))), hin⟩⟩, Or.inr ⟨hk2, hT⟩⟩, by rw [ht9]; exact hP, va_K.moved hW.alike hK, hD⟩, hS.F ht9⟩) hS.2.2 dX1_greatest_47
  · refine lv_bipush (v := -2) hx hb dX1_greatest_22 (by decide +kernel) ?_
    exact W.iret (v := (-2)) hx hb hr (fun t9 ht9 hW => ⟨⟨(-2), (kn, f), rfl, ⟨Or.inl ⟨c1, rfl⟩, hkn⟩, by rw [ht9]; exact hP, va_K.moved hW.alike hK, hD⟩, hS.F ht9⟩) hS.2.2 dX1_greatest_24
set_option maxHeartbeats 4000000 in
set_option maxRecDepth 100000 in
theorem mt_X1_gaps (l : Launch) (dC : Nat → ClassId) (dI : Nat → Nat → Nat) (h0 h1 sz a b z : Nat) (kn : Int32) (d1 : ClassId) (f : Nat → Int32) (ha1 : 0 < a) (ha2 : a ≤ 32) (hb1 : 0 < b) (hb2 : b ≤ 32) (hz1 : 0 < z) (hz2 : z ≤ 32) (hkn : cd_Kn a b z kn f) : Met l yX1_gaps (ws_ yX1_gaps cX1_gaps 3 (some .int)) ({ frames := 1, cells := 0, slots := 0, locals := 24 }) (va_Pc [.ref h0] (fun U => U.heap.size = sz ∧ va_P (dC, dI) vwCl [(h0, .inr (1, [.int (nI a), .int (nI b), .int (nI z), .ref h1, .int kn])), (h1, .inl (d1, 2001, .inl f))] U.heap ∧ va_K (dC, dI) vwCl [(d1, .int)] U ∧ va_D (fun _ => True) [(h0, .inr (1, [.int (nI a), .int (nI b), .int (nI z), .ref h1, .int kn])), (h1, .inl (d1, 2001, .inl f))])) (va_Qi (fun (r : Int32) (u : Int32 × (Nat → Int32)) => (cd_G (Nat.gcd (Nat.gcd a b) z) (fun x => x = nI (cd_cnt (fun v => ¬ cd_Can a b z v) 2001)) r) ∧ cd_Kn a b z u.1 u.2) (fun (u : Int32 × (Nat → Int32)) t => va_P (dC, dI) vwCl [(h0, .inr (1, [.int (nI a), .int (nI b), .int (nI z), .ref h1, .int u.1])), (h1, .inl (d1, 2001, .inl u.2))] t.heap ∧ va_K (dC, dI) vwCl [(d1, .int)] t ∧ va_D (va_A [(h0, .inr (1, [.int (nI a), .int (nI b), .int (nI z), .ref h1, .int kn])), (h1, .inl (d1, 2001, .inl f))] sz) [(h0, .inr (1, [.int (nI a), .int (nI b), .int (nI z), .ref h1, .int u.1])), (h1, .inl (d1, 2001, .inl u.2))]) (va_A [(h0, .inr (1, [.int (nI a), .int (nI b), .int (nI z), .ref h1, .int kn])), (h1, .inl (d1, 2001, .inl f))] sz)) 0 0 (va_A [(h0, .inr (1, [.int (nI a), .int (nI b), .int (nI z), .ref h1, .int kn])), (h1, .inl (d1, 2001, .inl f))] sz) := by
  refine Met.ofW (cc := cX1_gaps) (maxL := 3) (ret := (some .int)) (by decide) rfl ?_
  intro p e s m args below meth c s₁ B hml hv
  obtain ⟨rfl, hsz, hP, hK, hD0⟩ := hv
  have hx := B.exec
  have hb := B.bytes
  have hr := B.returns
  have hts := atoms_spec (ws := ws_ yX1_gaps cX1_gaps 3 (some .int)) B.pre
  have hts : ∀ w ∈ lw_all, w.before _ s = true := fun w h => hts w (List.mem_cons_of_mem _ h)
  have hown : s.vm.findClass RX1 = some m.cls := findClass_of_methodNamed B.named
  have hlocks := B.notSynchronized
  subst hsz
  have hD := hD0.self (sz := s.heap.size)
  generalize hAe : va_A [(h0, .inr (1, [.int (nI a), .int (nI b), .int (nI z), .ref h1, .int kn])), (h1, .inl (d1, 2001, .inl f))] s.heap.size = A at hD ⊢
  have hA : ∀ q : Nat, s.heap.size ≤ q → A q := fun q h => by rw [← hAe]; exact Or.inr h
  have hS : va_S A s.heap s.heap [] := va_S.rf
  have hP : va_P (dC, dI) vwCl [(h0, .inr (1, [.int (nI a), .int (nI b), .int (nI z), .ref h1, .int kn])), (h1, .inl (d1, 2001, .inl f))] s.heap := hP
  have hl := lv_entry ([.ref h0]) (n := 3) (Nat.le_of_ble_eq_true rfl)
  rw [lg_entry_eq]
  generalize (lg_sl ([.ref h0]) ++ List.replicate (3 - (lg_sl ([.ref h0])).length) Slot.unset).toArray = ls at hl ⊢
  have hl : lv_has ls 3 [(0, .ref h0)] := hl
  have hg1 : 0 < Nat.gcd a b := Nat.gcd_pos_of_pos_left b ha1
  have hg2 : Nat.gcd a b ≤ a := cd_gcd_le ha1
  have hg3 : 0 < Nat.gcd (Nat.gcd a b) z := cd_gcd3_pos ha1
  have hg4 : Nat.gcd (Nat.gcd a b) z ≤ Nat.gcd a b := cd_gcd_le hg1
  refine lv_aload_n hx hb dX1_gaps_0 rfl (lv_at hl 0 rfl) ?_
  refine va_get (D := (dC, dI)) (ci := 1) (v := .int (nI a)) (C := RX1) (T := TX1) (N := 5) hx hb hts in_X1 hown hK hP 0 rfl rfl 0 (by decide) (hts _ q95) (fun _ h9 => h9) rfl dX1_gaps_1 ?_
  refine lv_aload_n hx hb dX1_gaps_4 rfl (lv_at hl 0 rfl) ?_
  refine va_get (D := (dC, dI)) (ci := 1) (v := .int (nI b)) (C := RX1) (T := TX1) (N := 5) hx hb hts in_X1 hown hK hP 0 rfl rfl 1 (by decide) (hts _ q96) (fun _ h9 => h9) rfl dX1_gaps_5 ?_
  refine cd_callr (W.runS (As := [.int (nI a), .int (nI b)]) (rest := []) ⟨hx, hb, hml, hown, hts⟩ (mt_X1_divisor l a b (by omega) (by omega)) (va_cwS 2 hts (lw_S q127 q128 q7 q129) rfl rfl rfl (by decide +kernel) ⟨Nat.le_of_ble_eq_true rfl, Nat.le_of_ble_eq_true rfl⟩) cd_preS rfl rfl hl.1 rfl (lv_room (Nat.le_of_ble_eq_true rfl)) dX1_gaps_8 ⟨Nat.le_of_ble_eq_true rfl, Nat.le_of_ble_eq_true rfl⟩) (fun r er => ?_)
  have er : r = nI (Nat.gcd a b) := er
  subst er
  refine lv_aload_n hx hb dX1_gaps_11 rfl (lv_at hl 0 rfl) ?_
  refine va_get (D := (dC, dI)) (ci := 1) (v := .int (nI z)) (C := RX1) (T := TX1) (N := 5) hx hb hts in_X1 hown hK hP 0 rfl rfl 2 (by decide) (hts _ q97) (fun _ h9 => h9) rfl dX1_gaps_12 ?_
  refine cd_callr (W.runS (As := [.int (nI (Nat.gcd a b)), .int (nI z)]) (rest := []) ⟨hx, hb, hml, hown, hts⟩ (mt_X1_divisor l (Nat.gcd a b) z (by omega) (by omega)) (va_cwS 2 hts (lw_S q127 q128 q7 q129) rfl rfl rfl (by decide +kernel) ⟨Nat.le_of_ble_eq_true rfl, Nat.le_of_ble_eq_true rfl⟩) cd_preS rfl rfl hl.1 rfl (lv_room (Nat.le_of_ble_eq_true rfl)) dX1_gaps_15 ⟨Nat.le_of_ble_eq_true rfl, Nat.le_of_ble_eq_true rfl⟩) (fun r er => ?_)
  have er : r = nI (Nat.gcd (Nat.gcd a b) z) := er
  subst er
  refine lv_iconst (v := nI 1) hx hb dX1_gaps_18 (by decide +kernel) ?_
  refine cd_icmp_eq (tgt := 25) hx hb dX1_gaps_19 (by decide) (fun c1 => ?_) (fun c1 => ?_)
  · refine lv_aload_n hx hb dX1_gaps_25 rfl (lv_at hl 0 rfl) ?_
    have hPc := hP.sub (ws' := [(h0, .inr (1, [.int (nI a), .int (nI b), .int (nI z), .ref h1, .int kn])), (h1, .inl (d1, 2001, .inl f))]) [0, 1] rfl
    have hDc := hD.sub (ws' := [(h0, .inr (1, [.int (nI a), .int (nI b), .int (nI z), .ref h1, .int kn])), (h1, .inl (d1, 2001, .inl f))]) [0, 1] (by decide) rfl
    have hKc := hK.sub (tys' := [(d1, .int)]) [0] rfl
    have hFc := va_free (wc := [(h0, .inr (1, [.int (nI a), .int (nI b), .int (nI z), .ref h1, .int kn])), (h1, .inl (d1, 2001, .inl f))]) hD hS hA [0, 1] rfl
    refine va_callv (va_runV (As := []) (rest := []) ⟨hx, hb, hml, hown, hts⟩ (mt_X1_reckon l dC dI h0 h1 s.heap.size a b z kn d1 f ha1 ha2 hb1 hb2 hz1 hz2 hkn) (cwV 0 hts (lw_V q119 q121 qs3 q7 q122) rfl rfl rfl (by decide +kernel) ⟨Nat.le_of_ble_eq_true rfl, Nat.le_of_ble_eq_true rfl⟩) ⟨fun a U g mk q => by obtain ⟨q0, q1, qP, qK, qD⟩ := q; exact ⟨q0, q1, qP, va_K.moved (u := U) (U := U.calling g mk a) (Vm.Alike.refl U.vm) qK, qD⟩, va_recv hKc hPc (ci := 1) (q0 := 0) rfl rfl, fun U hU hW => ⟨rfl, by rw [hU], by rw [hU]; exact hPc, va_K.moved hW.alike hKc, hDc.weaken (fun _ _ _ _ => trivial)⟩⟩ rfl rfl hl.1 rfl (lv_room (Nat.le_of_ble_eq_true rfl)) dX1_gaps_26 ⟨Nat.le_of_ble_eq_true rfl, Nat.le_of_ble_eq_true rfl⟩) hS (fun q _ h => hFc q h) hFc (fun u t H1 locs ht hvm hw hB hsz1 hk1 hS => ?_)
    obtain ⟨kn2, f2⟩ := u
    obtain ⟨hP1, hK1, hD1⟩ := hB
    rw [ht] at hP1
    have hK1 := va_K.moved hvm.symm hK1
    obtain ⟨hP, hD⟩ := va_join (wr := []) (w1 := [(h0, .inr (1, [.int (nI a), .int (nI b), .int (nI z), .ref h1, .int kn2])), (h1, .inl (d1, 2001, .inl f2))]) hP hD [0, 1] [] rfl rfl (by decide) (by decide) hk1 hFc hP1 hD1
    generalize H1 = H at hP hS ⊢
    have hP : va_P (dC, dI) vwCl [(h0, .inr (1, [.int (nI a), .int (nI b), .int (nI z), .ref h1, .int kn2])), (h1, .inl (d1, 2001, .inl f2))] H := hP
    have hD : va_D A [(h0, .inr (1, [.int (nI a), .int (nI b), .int (nI z), .ref h1, .int kn2])), (h1, .inl (d1, 2001, .inl f2))] := hD
    obtain ⟨hk2, hT⟩ := hw
    have hk2 : kn2 = 1 := hk2
    have hT : cd_Tab a b z f2 := hT
    refine lv_iconst (v := nI 0) hx hb dX1_gaps_29 (by decide +kernel) ?_
    refine lv_istore_n (lv' := [(1, .int (nI 0)), (0, .ref h0)]) hx hb dX1_gaps_30 rfl hl (by decide) rfl (fun ls hl => ?_)
    refine lv_iconst (v := nI 0) hx hb dX1_gaps_31 (by decide +kernel) ?_
    refine lv_istore_n (lv' := [(2, .int (nI 0)), (1, .int (nI 0)), (0, .ref h0)]) hx hb dX1_gaps_32 rfl hl (by decide) rfl (fun ls hl => ?_)
    refine cd_loop (head := 33) (fun n ls => ∃ v t : Nat, n + v = 2001 ∧ t = cd_cnt (fun v => ¬ cd_Can a b z v) v ∧ lv_has ls 3 [(0, .ref h0), (1, .int (nI t)), (2, .int (nI v))]) ?_ 2001 ls ⟨0, 0, rfl, rfl, lv_sub hl [2, 1, 0] rfl⟩
    clear hl
    rintro n ls ⟨v, t, en, et, hl⟩ ih
    refine lv_iload_n hx hb dX1_gaps_33 rfl (lv_at hl 2 rfl) ?_
    refine lv_sipush (v := nI 2000) hx hb dX1_gaps_34 (by decide +kernel) ?_
    refine cd_icmp_gt (tgt := 59) hx hb dX1_gaps_37 (by decide) (fun c2 => ?_) (fun c2 => ?_)
    · refine lv_iload_n hx hb dX1_gaps_59 rfl (lv_at hl 1 rfl) ?_
      exact W.iret (v := (nI t)) hx hb hr (fun t9 ht9 hW => ⟨⟨(nI t), (kn2, f2), rfl, ⟨Or.inr ⟨c1, by rw [et, show v = 2001 by omega]⟩, Or.inr ⟨hk2, hT⟩⟩, by rw [ht9]; exact hP, va_K.moved hW.alike hK, hD⟩, hS.F ht9⟩) hS.2.2 dX1_gaps_60
    · have hc9 := cd_min_can ha1 hb1 hz1 (by omega) (hT v (by omega))
      refine lv_aload_n hx hb dX1_gaps_40 rfl (lv_at hl 0 rfl) ?_
      refine va_get (D := (dC, dI)) (ci := 1) (v := .ref h1) (C := RX1) (T := TX1) (N := 5) hx hb hts in_X1 hown hK hP 0 rfl rfl 3 (by decide) (hts _ q98) (fun _ h9 => h9) rfl dX1_gaps_41 ?_
      refine lv_iload_n hx hb dX1_gaps_44 rfl (lv_at hl 2 rfl) ?_
      refine cd_iald (f := f2) hx hb hK hP 1 0 rfl rfl dX1_gaps_45 ?_
      refine lv_if_ge (tgt := 53) hx hb dX1_gaps_46 (by decide) (fun c3 => ?_) (fun c3 => ?_)
      · refine cd_iinc (k := 2) (lv' := [(2, .int (nI (v + 1))), (0, .ref h0), (1, .int (nI t))]) hx hb dX1_gaps_53 hl rfl (by decide) rfl (fun ls hl => ?_)
        refine lv_goto (tgt := 33) hx hb dX1_gaps_56 (by decide) ?_
        exact ih (n - 1) ls (by omega) ⟨v + 1, t, by omega, by rw [cd_cnt_no (P := fun v => ¬ cd_Can a b z v) (fun q9 => (cd_ge0.mp c3) (hc9.mpr q9)), et], lv_sub hl [1, 2, 0] rfl⟩
      · refine lv_iload_n hx hb dX1_gaps_49 rfl (lv_at hl 1 rfl) ?_
        refine lv_iconst (v := nI 1) hx hb dX1_gaps_50 (by decide +kernel) ?_
        refine cd_iadd hx hb dX1_gaps_51 ?_
        refine lv_istore_n (lv' := [(1, .int (nI (t + 1))), (0, .ref h0), (2, .int (nI v))]) hx hb dX1_gaps_52 rfl hl (by decide) rfl (fun ls hl => ?_)
        refine cd_iinc (k := 2) (lv' := [(2, .int (nI (v + 1))), (1, .int (nI (t + 1))), (0, .ref h0)]) hx hb dX1_gaps_53 hl rfl (by decide) rfl (fun ls hl => ?_)
        refine lv_goto (tgt := 33) hx hb dX1_gaps_56 (by decide) ?_
        exact ih (n - 1) ls (by omega) ⟨v + 1, t + 1, by omega, by rw [cd_cnt_yes (P := fun v => ¬ cd_Can a b z v) (hc9.mp (Classical.byContradiction (fun q9 => c3 (cd_ge0.mpr q9)))), et], lv_sub hl [2, 1, 0] rfl⟩
  · refine lv_bipush (v := -2) hx hb dX1_gaps_22 (by decide +kernel) ?_
    exact W.iret (v := (-2)) hx hb hr (fun t9 ht9 hW => ⟨⟨(-2), (kn, f), rfl, ⟨Or.inl ⟨c1, rfl⟩, hkn⟩, by rw [ht9]; exact hP, va_K.moved hW.alike hK, hD⟩, hS.F ht9⟩) hS.2.2 dX1_gaps_24
end
section
/-! THE CLAIM OUT OF ONE WALK OF THE LAW'S BODY. Your part is whole_start (and what it stands on); all else here is the same for every law, but numbers. -/
def R_law : String := "ChangeDeskLaw"
def lw_P (b : Addr) (xs : List Int32) (args : Array Value) (s : State) : Prop := args = #[.ref b] ∧ s.IntsAt b xs ∧ xs.length ≤ 256 ∧ (Jvm.Cond.and given_1 narrow_1).before args s = true
def lw_Q (_ : Array Value) (s : State) (o : Outcome) (t : State) : Prop := o = .returned (some (.int 1)) ∧ Framed s o t [] 600000 7290000
def lw_Z (below : List Frame) (a : Array Value) (s : State) : State → Prop := fun t => ∃ o, t.status = .running ∧ Ended t below o ∧ lw_Q a s o t
/-- the law's own end, with 1 on the stack, nothing written that was there before, its room as the claim has it -/
theorem lw_ret {p : Program} {l : Launch} {e : Env} {s : State} {m : MethodId} {below : List Frame} {meth : Method} {c : Code} {b : Nat} (hx : p.tables.exec = Jvm.exec) (hb : c.code = code) (hr : meth.sig.returnType = ret) (hlocks : meth.locks = false) {pc : Nat} {H : Heap} {ls : Array Slot} (hdg : decode code pc = .ok (.ireturn, 1)) : W p l e room_1 s m #[Value.ref b] below meth c H [] 600000 7290000 (lw_Z below #[Value.ref b] s) (F0 m pc ls [.int 1]) := by
  intro T hT X
  obtain ⟨fs, hret, hrun, hended, hW, hframe⟩ := X.leave (v := some (.int 1)) (hlocks := hlocks) (fun h => by rw [hr] at h; cases h)
  have hmeth' : T.vm.method? m = some meth := X.method'
  refine ⟨T.setFrames fs, ?_, .returned (some (.int 1)), hrun, hended, rfl, ⟨_, rfl⟩, hW, hframe⟩
  jvm_step X.here [X.here.top, hx, hb, hdg, hmeth', hr, ret, narrow_b1]
  (try refine ⟨rfl, ?_⟩); (try refine ⟨rfl, ?_⟩)
  first | (intro acts; rw [hret _ acts rfl rfl rfl]) | rw [hret _ _ rfl rfl rfl]
  exact Steps.refl _
/-- what holds at the law's entry: the machine, the code, the tables' words (any of lw_tbl by 'hts w (by decide +kernel)'), the script of L ints xs at the cell b, what the Statement gives of the start (any of its parts by flat_of_before) -/
def lw_At (p : Program) (s : State) (m : MethodId) (meth : Method) (c : Code) (b L : Nat) (xs : Nat → Int32) : Prop :=
  p.tables.exec = Jvm.exec ∧ c.code = code ∧ meth.sig.returnType = ret ∧ c.maxLocals = 4 ∧ s.vm.findClass R_law = some m.cls ∧ (∀ w ∈ lw_tbl, w.before #[Value.ref b] s = true) ∧ va_X b L xs s s.heap ∧ b < s.heap.size ∧ meth.locks = false ∧ (Jvm.Cond.and given_1 narrow_1).before #[Value.ref b] s = true
section CDS
variable {p : Program} {l : Launch} {e : Env} {R : Room} {s : State} {m : MethodId} {args : Array Value} {below : List Frame} {meth : Method} {c : Code} {H : Heap} {locs : List Loc} {cells slots : Nat} {Q : State → Prop}
variable {cc : ByteArray} {pc : Nat} {ls : Array Slot} {rest : List Value} {A : Nat → Prop} {H0 : Heap}
theorem cd_sld (hexec : p.tables.exec = Jvm.exec) (hb : c.code = cc) {b L : Nat} {xs : Nat → Int32} (hX : va_X b L xs s H0) (hbl : b < H0.size) (hbA : ¬ A b) (hS : va_S A H0 H locs) {i : Nat} (hdg : decode cc pc = .ok (.iaload, 1))
    (kk : W p l e R s m args below meth c H locs cells slots Q (F0 m (pc + 1) ls (.int (xs i) :: rest))) (hi : i < L := by omega) (hL : L < 2 ^ 31 := by omega) : W p l e R s m args below meth c H locs cells slots Q (F0 m pc ls (.int (nI i) :: .ref b :: rest)) :=
  va_sld hexec hb hX hbl hbA hS (vp_in_nI hi hL) hdg (by rw [nI_clamp (Nat.lt_trans hi hL)]; exact kk)
end CDS
theorem cd_lawcmp {L i : Nat} (hL : L ≤ 256) (hi : i ≤ L) (h : ¬ nI L - nI 4 < nI i) : i + 4 ≤ L := by
  rw [Int32.lt_iff_toInt_lt, pk_sub_toInt (by omega) (by omega), nI_toInt (by omega)] at h
  omega
end
section
/-! the law, from its entry (printed by gen/law.py) -/
set_option maxHeartbeats 4000000 in
set_option maxRecDepth 100000 in
theorem whole_start {p : Program} {e : Env} {s : State} {m : MethodId} {below : List Frame} {meth : Method} {c : Code} (l : Launch) {b L : Nat} {xs : Nat → Int32} (hL : L ≤ 256) (C0 : lw_At p s m meth c b L xs) : W p l e room_1 s m #[Value.ref b] below meth c s.heap [] 0 0 (lw_Z below #[Value.ref b] s) (entryFrame m ([Value.ref b] : List Value).toArray 4) := by
  obtain ⟨hx, hb, hr, hml, hown, hts0, hX, hbl, hlocks, hgv⟩ := C0
  have hb : c.code = cL_law := hb
  have hts : ∀ w ∈ lw_all, w.before #[Value.ref b] s = true := fun w h => hts0 w (lw_all_tbl h)
  obtain ⟨A, hAe⟩ : ∃ A : Nat → Prop, A = fun q : Nat => s.heap.size ≤ q := ⟨_, rfl⟩
  have hA : ∀ q : Nat, s.heap.size ≤ q → A q := fun q h => by rw [hAe]; exact h
  have hbA : ¬ A b := by
    rw [hAe]
    exact Nat.not_le.mpr hbl
  obtain ⟨c0_, iS0, hKn0⟩ := u_known (C := RX0) (T := TX0) (N := 4) (n := 4) hts in_X0 (hts _ q11)
  obtain ⟨c1_, iS1, hKn1⟩ := u_known (C := RX1) (T := TX1) (N := 5) (n := 5) hts in_X1 (hts _ q90)
  obtain ⟨dC, dI, hKc⟩ : ∃ (dC : Nat → ClassId) (dI : Nat → Nat → Nat), ∀ (k : Nat) (q : vw_C), vwCl[k]? = some q → u_Kn s q.1 q.2.1 q.2.2 (dC k) (dI k) := by
    refine ⟨fun k => if k = 0 then c0_ else c1_, fun k => if k = 0 then iS0 else iS1, ?_⟩
    intro k q hq
    match k, hq with
    | 0, hq => cases hq; exact hKn0
    | 1, hq => cases hq; exact hKn1
    | k + 2, hq => simp [vwCl] at hq
  have hS : va_S A s.heap s.heap [] := va_S.rf
  have hK : va_K (dC, dI) vwCl [] s := ⟨hKc, fun k q h => by simp at h⟩
  have hP : va_P (dC, dI) vwCl [] s.heap := fun k q h => by simp at h
  have hD : va_D A [] := ⟨fun i j p q h => by simp at h, fun k q h => by simp at h⟩
  have hl := lv_entry ([.ref b]) (n := 4) (Nat.le_of_ble_eq_true rfl)
  rw [lg_entry_eq]
  generalize (lg_sl ([.ref b]) ++ List.replicate (4 - (lg_sl ([.ref b])).length) Slot.unset).toArray = ls at hl ⊢
  have hl : lv_has ls 4 [(0, .ref b)] := hl
  refine va_new (ci := 0) (fs := [.int 0, .int 0, .int 0, .null]) (C := RX0) (T := TX0) (N := 4) hx hb hts in_X0 tyX0 tyX0_ok hown (hts _ q10) (hts _ q11) (hts _ q6) hK hP hD hS hA rfl (fun j hj => by rcases (show j = 0 ∨ j = 1 ∨ j = 2 ∨ j = 3 by omega) with rfl | rfl | rfl | rfl <;> rfl) (Nat.le_of_ble_eq_true rfl) (Nat.le_of_ble_eq_true rfl) dL_law_0 (fun h0 H hP hD hS => ?_)
  have hP : va_P (dC, dI) vwCl [(h0, .inr (0, [.int 0, .int 0, .int 0, .null]))] H := hP
  have hD : va_D A [(h0, .inr (0, [.int 0, .int 0, .int 0, .null]))] := hD
  refine lv_dup hx hb dL_law_3 rfl ?_
  have hPc := hP.sub (ws' := [(h0, .inr (0, [.int 0, .int 0, .int 0, .null]))]) [0] rfl
  have hDc := hD.sub (ws' := [(h0, .inr (0, [.int 0, .int 0, .int 0, .null]))]) [0] (by decide) rfl
  have hKc := hK.sub (tys' := []) [] rfl
  have hFc := va_free (wc := [(h0, .inr (0, [.int 0, .int 0, .int 0, .null]))]) hD hS hA [0] rfl
  refine va_callv (va_runI (As := []) (rest := [.ref h0]) ⟨hx, hb, hml, hown, hts⟩ (mt_X0_init l dC dI h0 H.size) (cwI 0 hts (lw_meth q14) rfl rfl rfl (hts _ q6) (hts _ q12) (hts _ q13) rfl (by decide +kernel) ⟨Nat.le_of_ble_eq_true rfl, Nat.le_of_ble_eq_true rfl⟩) ⟨fun a U g mk q => by obtain ⟨q0, q1, qP, qK, qD⟩ := q; exact ⟨q0, q1, qP, va_K.moved (u := U) (U := U.calling g mk a) (Vm.Alike.refl U.vm) qK, qD⟩, fun U hU hW => ⟨rfl, by rw [hU], by rw [hU]; exact hPc, va_K.moved hW.alike hKc, hDc.weaken (fun _ _ _ _ => trivial)⟩⟩ rfl rfl hl.1 rfl (lv_room (Nat.le_of_ble_eq_true rfl)) dL_law_4 ⟨Nat.le_of_ble_eq_true rfl, Nat.le_of_ble_eq_true rfl⟩) hS (fun q _ h => hFc q h) hFc (fun u t H1 locs ht hvm hw hB hsz1 hk1 hS => ?_)
  obtain ⟨h1, d1, f0, hP1, hK1, hD1⟩ := hB
  rw [ht] at hP1
  have hK1 := va_K.moved hvm.symm hK1
  obtain ⟨hP, hD⟩ := va_join (wr := []) (w1 := [(h0, .inr (0, [.int (nI 3), .int (nI 5), .int (nI 7), .ref h1])), (h1, .inl (d1, 32, .inl f0))]) hP hD [0] [] rfl rfl (by decide) (by decide) hk1 hFc hP1 hD1
  have hK : va_K (dC, dI) vwCl [(d1, .int)] s := (hK.sub (tys' := []) [] rfl).app hK1
  generalize H1 = H at hP hS ⊢
  have hP : va_P (dC, dI) vwCl [(h0, .inr (0, [.int (nI 3), .int (nI 5), .int (nI 7), .ref h1])), (h1, .inl (d1, 32, .inl f0))] H := hP
  have hD : va_D A [(h0, .inr (0, [.int (nI 3), .int (nI 5), .int (nI 7), .ref h1])), (h1, .inl (d1, 32, .inl f0))] := hD
  refine lv_astore_n (lv' := [(1, .ref h0), (0, .ref b)]) hx hb dL_law_7 rfl hl (by decide) rfl (fun ls hl => ?_)
  refine va_new (ci := 1) (fs := [.int 0, .int 0, .int 0, .null, .int 0]) (C := RX1) (T := TX1) (N := 5) hx hb hts in_X1 tyX1 tyX1_ok hown (hts _ q89) (hts _ q90) (hts _ q7) hK hP hD hS hA rfl (fun j hj => by rcases (show j = 0 ∨ j = 1 ∨ j = 2 ∨ j = 3 ∨ j = 4 by omega) with rfl | rfl | rfl | rfl | rfl <;> rfl) (Nat.le_of_ble_eq_true rfl) (Nat.le_of_ble_eq_true rfl) dL_law_8 (fun k0 H hP hD hS => ?_)
  have hP : va_P (dC, dI) vwCl [(h0, .inr (0, [.int (nI 3), .int (nI 5), .int (nI 7), .ref h1])), (h1, .inl (d1, 32, .inl f0)), (k0, .inr (1, [.int 0, .int 0, .int 0, .null, .int 0]))] H := hP
  have hD : va_D A [(h0, .inr (0, [.int (nI 3), .int (nI 5), .int (nI 7), .ref h1])), (h1, .inl (d1, 32, .inl f0)), (k0, .inr (1, [.int 0, .int 0, .int 0, .null, .int 0]))] := hD
  refine lv_dup hx hb dL_law_11 rfl ?_
  have hPc := hP.sub (ws' := [(k0, .inr (1, [.int 0, .int 0, .int 0, .null, .int 0]))]) [2] rfl
  have hDc := hD.sub (ws' := [(k0, .inr (1, [.int 0, .int 0, .int 0, .null, .int 0]))]) [2] (by decide) rfl
  have hKc := hK.sub (tys' := []) [] rfl
  have hFc := va_free (wc := [(k0, .inr (1, [.int 0, .int 0, .int 0, .null, .int 0]))]) hD hS hA [2] rfl
  refine va_callv (va_runI (As := []) (rest := [.ref k0]) ⟨hx, hb, hml, hown, hts⟩ (mt_X1_init l dC dI k0 H.size) (cwI 0 hts (lw_meth q93) rfl rfl rfl (hts _ q7) (hts _ q91) (hts _ q92) rfl (by decide +kernel) ⟨Nat.le_of_ble_eq_true rfl, Nat.le_of_ble_eq_true rfl⟩) ⟨fun a U g mk q => by obtain ⟨q0, q1, qP, qK, qD⟩ := q; exact ⟨q0, q1, qP, va_K.moved (u := U) (U := U.calling g mk a) (Vm.Alike.refl U.vm) qK, qD⟩, fun U hU hW => ⟨rfl, by rw [hU], by rw [hU]; exact hPc, va_K.moved hW.alike hKc, hDc.weaken (fun _ _ _ _ => trivial)⟩⟩ rfl rfl hl.1 rfl (lv_room (Nat.le_of_ble_eq_true rfl)) dL_law_12 ⟨Nat.le_of_ble_eq_true rfl, Nat.le_of_ble_eq_true rfl⟩) hS (fun q _ h => hFc q h) hFc (fun u t H1 locs ht hvm hw hB hsz1 hk1 hS => ?_)
  obtain ⟨k1, d2, g0, hP1, hK1, hD1⟩ := hB
  rw [ht] at hP1
  have hK1 := va_K.moved hvm.symm hK1
  obtain ⟨hP, hD⟩ := va_join (wr := [(h0, .inr (0, [.int (nI 3), .int (nI 5), .int (nI 7), .ref h1])), (h1, .inl (d1, 32, .inl f0))]) (w1 := [(k0, .inr (1, [.int (nI 3), .int (nI 5), .int (nI 7), .ref k1, .int 0])), (k1, .inl (d2, 2001, .inl g0))]) hP hD [2] [0, 1] rfl rfl (by decide) (by decide) hk1 hFc hP1 hD1
  have hK : va_K (dC, dI) vwCl [(d1, .int), (d2, .int)] s := (hK.sub (tys' := [(d1, .int)]) [0] rfl).app hK1
  generalize H1 = H at hP hS ⊢
  have hP : va_P (dC, dI) vwCl [(h0, .inr (0, [.int (nI 3), .int (nI 5), .int (nI 7), .ref h1])), (h1, .inl (d1, 32, .inl f0)), (k0, .inr (1, [.int (nI 3), .int (nI 5), .int (nI 7), .ref k1, .int 0])), (k1, .inl (d2, 2001, .inl g0))] H := hP
  have hD : va_D A [(h0, .inr (0, [.int (nI 3), .int (nI 5), .int (nI 7), .ref h1])), (h1, .inl (d1, 32, .inl f0)), (k0, .inr (1, [.int (nI 3), .int (nI 5), .int (nI 7), .ref k1, .int 0])), (k1, .inl (d2, 2001, .inl g0))] := hD
  refine W.widen (k := 600000) (n := 7290000) (Nat.le_of_ble_eq_true rfl) (Nat.le_of_ble_eq_true rfl) ?_
  refine lv_astore_n (lv' := [(2, .ref k0), (1, .ref h0), (0, .ref b)]) hx hb dL_law_15 rfl hl (by decide) rfl (fun ls hl => ?_)
  refine lv_iconst (v := nI 0) hx hb dL_law_16 (by decide +kernel) ?_
  refine lv_istore_n (lv' := [(3, .int (nI 0)), (2, .ref k0), (1, .ref h0), (0, .ref b)]) hx hb dL_law_17 rfl hl (by decide) rfl (fun ls hl => ?_)
  refine cd_loopH (head := 18) (fun n H locs ls => ∃ (i a1 a2 a3 : Nat) (kn : Int32) (f g : Nat → Int32), n + i = L ∧ (0 < a1 ∧ a1 ≤ 32 ∧ 0 < a2 ∧ a2 ≤ 32 ∧ 0 < a3 ∧ a3 ≤ 32) ∧ cd_Kn a1 a2 a3 kn g ∧ va_P (dC, dI) vwCl [(h0, .inr (0, [.int (nI a1), .int (nI a2), .int (nI a3), .ref h1])), (h1, .inl (d1, 32, .inl f)), (k0, .inr (1, [.int (nI a1), .int (nI a2), .int (nI a3), .ref k1, .int kn])), (k1, .inl (d2, 2001, .inl g))] H ∧ va_D A [(h0, .inr (0, [.int (nI a1), .int (nI a2), .int (nI a3), .ref h1])), (h1, .inl (d1, 32, .inl f)), (k0, .inr (1, [.int (nI a1), .int (nI a2), .int (nI a3), .ref k1, .int kn])), (k1, .inl (d2, 2001, .inl g))] ∧ va_S A s.heap H locs ∧ lv_has ls 4 [(0, .ref b), (1, .ref h0), (2, .ref k0), (3, .int (nI i))]) ?_ L _ _ ls ⟨0, 3, 5, 7, 0, f0, g0, rfl, by decide, Or.inl rfl, hP, hD, hS, lv_sub hl [3, 2, 1, 0] rfl⟩
  clear hP hD hS hl
  rintro n H locs ls ⟨i, a1, a2, a3, kn, f, g, en, ⟨ha1, ha2, hb1, hb2, hz1, hz2⟩, hkn, hP, hD, hS, hl⟩ ih
  refine lv_iload_n hx hb dL_law_18 rfl (lv_at hl 3 rfl) ?_
  refine lv_aload_n hx hb dL_law_19 rfl (lv_at hl 0 rfl) ?_
  refine va_slen hx hb hX hbl hbA hS dL_law_20 ?_
  refine cd_v (y := nI L) rfl ?_
  refine lv_iconst (v := nI 4) hx hb dL_law_21 (by decide +kernel) ?_
  refine lv_isub hx hb dL_law_22 ?_
  refine lv_icmp_gt (tgt := 248) hx hb dL_law_23 (by decide) (fun c1 => ?_) (fun c1 => ?_)
  · refine lv_iconst (v := 1) hx hb dL_law_248 (by decide) ?_
    refine va_forget (fun q hq => by have h9 := hS.2.2 q hq; rw [hAe] at h9; exact h9) ?_
    exact lw_ret hx hb hr hlocks dL_law_249
  · have hi4 : i + 4 ≤ L := cd_lawcmp hL (by omega) c1
    refine lv_aload_n hx hb dL_law_26 rfl (lv_at hl 0 rfl) ?_
    refine lv_iload_n hx hb dL_law_27 rfl (lv_at hl 3 rfl) ?_
    refine cd_sld hx hb hX hbl hbA hS dL_law_28 ?_
    refine lv_bipush (v := nI 7) hx hb dL_law_29 (by decide +kernel) ?_
    obtain ⟨o, ho, eo⟩ : ∃ o : Nat, o < 2 ^ 3 ∧ xs i &&& nI 7 = nI o := pk_andE (xs i) 3 (by decide +kernel)
    refine lv_iand hx hb dL_law_31 ?_
    refine cd_v (y := nI o) eo ?_
    rcases (show o = 0 ∨ o = 1 ∨ o = 2 ∨ o = 3 ∨ o = 4 ∨ o = 5 ∨ o = 6 ∨ o = 7 by omega) with eo2 | eo2 | eo2 | eo2 | eo2 | eo2 | eo2 | eo2
    · subst eo2
      refine lv_tableIn (off := 48) (tgt := 80) hx hb dL_law_32 (by decide +kernel) (by decide +kernel) (by decide +kernel) (by decide) ?_
      obtain ⟨j1, h_j1, e_j1⟩ : ∃ q : Nat, q < 2 ^ 5 ∧ xs (i + 1) &&& nI 31 = nI q := pk_andE (xs (i + 1)) 5 (by decide +kernel)
      obtain ⟨j2, h_j2, e_j2⟩ : ∃ q : Nat, q < 2 ^ 5 ∧ xs (i + 2) &&& nI 31 = nI q := pk_andE (xs (i + 2)) 5 (by decide +kernel)
      obtain ⟨j3, h_j3, e_j3⟩ : ∃ q : Nat, q < 2 ^ 5 ∧ xs (i + 3) &&& nI 31 = nI q := pk_andE (xs (i + 3)) 5 (by decide +kernel)
      refine lv_aload_n hx hb dL_law_80 rfl (lv_at hl 1 rfl) ?_
      refine lv_aload_n hx hb dL_law_81 rfl (lv_at hl 0 rfl) ?_
      refine lv_iload_n hx hb dL_law_82 rfl (lv_at hl 3 rfl) ?_
      refine lv_iconst (v := nI 1) hx hb dL_law_83 (by decide +kernel) ?_
      refine cd_iadd hx hb dL_law_84 ?_
      refine cd_sld hx hb hX hbl hbA hS dL_law_85 ?_
      refine lv_aload_n hx hb dL_law_86 rfl (lv_at hl 0 rfl) ?_
      refine lv_iload_n hx hb dL_law_87 rfl (lv_at hl 3 rfl) ?_
      refine lv_iconst (v := nI 2) hx hb dL_law_88 (by decide +kernel) ?_
      refine cd_iadd hx hb dL_law_89 ?_
      refine cd_sld hx hb hX hbl hbA hS dL_law_90 ?_
      refine lv_aload_n hx hb dL_law_91 rfl (lv_at hl 0 rfl) ?_
      refine lv_iload_n hx hb dL_law_92 rfl (lv_at hl 3 rfl) ?_
      refine lv_iconst (v := nI 3) hx hb dL_law_93 (by decide +kernel) ?_
      refine cd_iadd hx hb dL_law_94 ?_
      refine cd_sld hx hb hX hbl hbA hS dL_law_95 ?_
      have hPc := hP.sub (ws' := [(h0, .inr (0, [.int (nI a1), .int (nI a2), .int (nI a3), .ref h1]))]) [0] rfl
      have hDc := hD.sub (ws' := [(h0, .inr (0, [.int (nI a1), .int (nI a2), .int (nI a3), .ref h1]))]) [0] (by decide) rfl
      have hKc := hK.sub (tys' := []) [] rfl
      have hFc := va_free (wc := [(h0, .inr (0, [.int (nI a1), .int (nI a2), .int (nI a3), .ref h1]))]) hD hS hA [0] rfl
      refine va_callv (va_runV (As := [.int (xs (i + 1)), .int (xs (i + 2)), .int (xs (i + 3))]) (rest := []) ⟨hx, hb, hml, hown, hts⟩ (mt_X0_coins l dC dI h0 h1 H.size a1 a2 a3 (xs (i + 1)) (xs (i + 2)) (xs (i + 3)) j1 j2 j3 e_j1 e_j2 e_j3) (cwV 3 hts (lw_V q32 q33 q34 q6 q35) rfl rfl rfl (by decide +kernel) ⟨Nat.le_of_ble_eq_true rfl, Nat.le_of_ble_eq_true rfl⟩) ⟨fun a U g mk q => by obtain ⟨q0, q1, qP, qK, qD⟩ := q; exact ⟨q0, q1, qP, va_K.moved (u := U) (U := U.calling g mk a) (Vm.Alike.refl U.vm) qK, qD⟩, va_recv hKc hPc (ci := 0) (q0 := 0) rfl rfl, fun U hU hW => ⟨rfl, by rw [hU], by rw [hU]; exact hPc, va_K.moved hW.alike hKc, hDc.weaken (fun _ _ _ _ => trivial)⟩⟩ rfl rfl hl.1 rfl (lv_room (Nat.le_of_ble_eq_true rfl)) dL_law_96 ⟨Nat.le_of_ble_eq_true rfl, Nat.le_of_ble_eq_true rfl⟩) hS (fun q _ h => hFc q h) hFc (fun u t H1 locs ht hvm hw hB hsz1 hk1 hS => ?_)
      obtain ⟨hP1, hK1, hD1⟩ := hB
      rw [ht] at hP1
      obtain ⟨hP, hD⟩ := va_join (wr := [(h1, .inl (d1, 32, .inl f)), (k0, .inr (1, [.int (nI a1), .int (nI a2), .int (nI a3), .ref k1, .int kn])), (k1, .inl (d2, 2001, .inl g))]) (w1 := [(h0, .inr (0, [.int (nI (1 + j1)), .int (nI (1 + j2)), .int (nI (1 + j3)), .ref h1]))]) hP hD [0] [1, 2, 3] rfl rfl (by decide) (by decide) hk1 hFc hP1 hD1
      generalize H1 = H at hP hS ⊢
      have hP := hP.sub (ws' := [(h0, .inr (0, [.int (nI (1 + j1)), .int (nI (1 + j2)), .int (nI (1 + j3)), .ref h1])), (h1, .inl (d1, 32, .inl f)), (k0, .inr (1, [.int (nI a1), .int (nI a2), .int (nI a3), .ref k1, .int kn])), (k1, .inl (d2, 2001, .inl g))]) [3, 0, 1, 2] rfl
      have hD := hD.sub (ws' := [(h0, .inr (0, [.int (nI (1 + j1)), .int (nI (1 + j2)), .int (nI (1 + j3)), .ref h1])), (h1, .inl (d1, 32, .inl f)), (k0, .inr (1, [.int (nI a1), .int (nI a2), .int (nI a3), .ref k1, .int kn])), (k1, .inl (d2, 2001, .inl g))]) [3, 0, 1, 2] (by decide) rfl
      refine lv_aload_n hx hb dL_law_99 rfl (lv_at hl 2 rfl) ?_
      refine lv_aload_n hx hb dL_law_100 rfl (lv_at hl 0 rfl) ?_
      refine lv_iload_n hx hb dL_law_101 rfl (lv_at hl 3 rfl) ?_
      refine lv_iconst (v := nI 1) hx hb dL_law_102 (by decide +kernel) ?_
      refine cd_iadd hx hb dL_law_103 ?_
      refine cd_sld hx hb hX hbl hbA hS dL_law_104 ?_
      refine lv_aload_n hx hb dL_law_105 rfl (lv_at hl 0 rfl) ?_
      refine lv_iload_n hx hb dL_law_106 rfl (lv_at hl 3 rfl) ?_
      refine lv_iconst (v := nI 2) hx hb dL_law_107 (by decide +kernel) ?_
      refine cd_iadd hx hb dL_law_108 ?_
      refine cd_sld hx hb hX hbl hbA hS dL_law_109 ?_
      refine lv_aload_n hx hb dL_law_110 rfl (lv_at hl 0 rfl) ?_
      refine lv_iload_n hx hb dL_law_111 rfl (lv_at hl 3 rfl) ?_
      refine lv_iconst (v := nI 3) hx hb dL_law_112 (by decide +kernel) ?_
      refine cd_iadd hx hb dL_law_113 ?_
      refine cd_sld hx hb hX hbl hbA hS dL_law_114 ?_
      have hPc := hP.sub (ws' := [(k0, .inr (1, [.int (nI a1), .int (nI a2), .int (nI a3), .ref k1, .int kn]))]) [2] rfl
      have hDc := hD.sub (ws' := [(k0, .inr (1, [.int (nI a1), .int (nI a2), .int (nI a3), .ref k1, .int kn]))]) [2] (by decide) rfl
      have hKc := hK.sub (tys' := []) [] rfl
      have hFc := va_free (wc := [(k0, .inr (1, [.int (nI a1), .int (nI a2), .int (nI a3), .ref k1, .int kn]))]) hD hS hA [2] rfl
      refine va_callv (va_runV (As := [.int (xs (i + 1)), .int (xs (i + 2)), .int (xs (i + 3))]) (rest := []) ⟨hx, hb, hml, hown, hts⟩ (mt_X1_coins l dC dI k0 k1 H.size a1 a2 a3 kn (xs (i + 1)) (xs (i + 2)) (xs (i + 3)) j1 j2 j3 e_j1 e_j2 e_j3) (cwV 3 hts (lw_V q111 q112 q113 q7 q114) rfl rfl rfl (by decide +kernel) ⟨Nat.le_of_ble_eq_true rfl, Nat.le_of_ble_eq_true rfl⟩) ⟨fun a U g mk q => by obtain ⟨q0, q1, qP, qK, qD⟩ := q; exact ⟨q0, q1, qP, va_K.moved (u := U) (U := U.calling g mk a) (Vm.Alike.refl U.vm) qK, qD⟩, va_recv hKc hPc (ci := 1) (q0 := 0) rfl rfl, fun U hU hW => ⟨rfl, by rw [hU], by rw [hU]; exact hPc, va_K.moved hW.alike hKc, hDc.weaken (fun _ _ _ _ => trivial)⟩⟩ rfl rfl hl.1 rfl (lv_room (Nat.le_of_ble_eq_true rfl)) dL_law_115 ⟨Nat.le_of_ble_eq_true rfl, Nat.le_of_ble_eq_true rfl⟩) hS (fun q _ h => hFc q h) hFc (fun u2 t H1 locs ht hvm hw hB hsz1 hk1 hS => ?_)
      obtain ⟨hP1, hK1, hD1⟩ := hB
      rw [ht] at hP1
      obtain ⟨hP, hD⟩ := va_join (wr := [(h0, .inr (0, [.int (nI (1 + j1)), .int (nI (1 + j2)), .int (nI (1 + j3)), .ref h1])), (h1, .inl (d1, 32, .inl f)), (k1, .inl (d2, 2001, .inl g))]) (w1 := [(k0, .inr (1, [.int (nI (1 + j1)), .int (nI (1 + j2)), .int (nI (1 + j3)), .ref k1, .int (nI 0)]))]) hP hD [2] [0, 1, 3] rfl rfl (by decide) (by decide) hk1 hFc hP1 hD1
      generalize H1 = H at hP hS ⊢
      have hP := hP.sub (ws' := [(h0, .inr (0, [.int (nI (1 + j1)), .int (nI (1 + j2)), .int (nI (1 + j3)), .ref h1])), (h1, .inl (d1, 32, .inl f)), (k0, .inr (1, [.int (nI (1 + j1)), .int (nI (1 + j2)), .int (nI (1 + j3)), .ref k1, .int (nI 0)])), (k1, .inl (d2, 2001, .inl g))]) [0, 1, 3, 2] rfl
      have hD := hD.sub (ws' := [(h0, .inr (0, [.int (nI (1 + j1)), .int (nI (1 + j2)), .int (nI (1 + j3)), .ref h1])), (h1, .inl (d1, 32, .inl f)), (k0, .inr (1, [.int (nI (1 + j1)), .int (nI (1 + j2)), .int (nI (1 + j3)), .ref k1, .int (nI 0)])), (k1, .inl (d2, 2001, .inl g))]) [0, 1, 3, 2] (by decide) rfl
      refine lv_goto (tgt := 242) hx hb dL_law_118 (by decide) ?_
      refine lv_iinc (v := nI (i + 4)) (lv' := [(3, .int (nI (i + 4))), (0, .ref b), (1, .ref h0), (2, .ref k0)]) hx hb dL_law_242 hl (k := 3) rfl (show nI i + Int32.ofInt 4 = nI (i + 4) from nI_add i 4) (by decide) rfl (fun ls hl => ?_)
      refine lv_goto (tgt := 18) hx hb dL_law_245 (by decide) ?_
      exact ih (n - 4) H locs ls (by omega) ⟨i + 4, (1 + j1), (1 + j2), (1 + j3), nI 0, f, g, by omega, by omega, Or.inl (by decide +kernel), hP, hD, hS, lv_sub hl [1, 2, 3, 0] rfl⟩
    · subst eo2
      refine lv_tableIn (off := 89) (tgt := 121) hx hb dL_law_32 (by decide +kernel) (by decide +kernel) (by decide +kernel) (by decide) ?_
      obtain ⟨j, h_j, e_j⟩ : ∃ q : Nat, q < 2 ^ 10 ∧ xs (i + 1) &&& nI 1023 = nI q := pk_andE (xs (i + 1)) 10 (by decide +kernel)
      refine lv_aload_n hx hb dL_law_121 rfl (lv_at hl 1 rfl) ?_
      refine lv_aload_n hx hb dL_law_122 rfl (lv_at hl 0 rfl) ?_
      refine lv_iload_n hx hb dL_law_123 rfl (lv_at hl 3 rfl) ?_
      refine lv_iconst (v := nI 1) hx hb dL_law_124 (by decide +kernel) ?_
      refine cd_iadd hx hb dL_law_125 ?_
      refine cd_sld hx hb hX hbl hbA hS dL_law_126 ?_
      refine cd_callr (W.runV (As := [.int (xs (i + 1))]) (rest := []) ⟨hx, hb, hml, hown, hts⟩ (mt_X0_few l dC dI h0 h1 a1 a2 a3 (xs (i + 1)) j h_j e_j ha1 ha2 hb1 hb2 hz1 hz2) (cwV 1 hts (lw_V q65 q66 q67 q6 q68) rfl rfl rfl (by decide +kernel) ⟨Nat.le_of_ble_eq_true rfl, Nat.le_of_ble_eq_true rfl⟩) (cd_pre hK hP (ci := 0) (q0 := 0) rfl rfl (hP.sub (ws' := [(h0, .inr (0, [.int (nI a1), .int (nI a2), .int (nI a3), .ref h1]))]) [0] rfl) (hK.sub (tys' := []) [] rfl)) rfl rfl hl.1 rfl (lv_room (Nat.le_of_ble_eq_true rfl)) dL_law_127 ⟨Nat.le_of_ble_eq_true rfl, Nat.le_of_ble_eq_true rfl⟩) (fun r1 e_r1 => ?_)
      refine lv_aload_n hx hb dL_law_130 rfl (lv_at hl 2 rfl) ?_
      refine lv_aload_n hx hb dL_law_131 rfl (lv_at hl 0 rfl) ?_
      refine lv_iload_n hx hb dL_law_132 rfl (lv_at hl 3 rfl) ?_
      refine lv_iconst (v := nI 1) hx hb dL_law_133 (by decide +kernel) ?_
      refine cd_iadd hx hb dL_law_134 ?_
      refine cd_sld hx hb hX hbl hbA hS dL_law_135 ?_
      have hPc := hP.sub (ws' := [(k0, .inr (1, [.int (nI a1), .int (nI a2), .int (nI a3), .ref k1, .int kn])), (k1, .inl (d2, 2001, .inl g))]) [2, 3] rfl
      have hDc := hD.sub (ws' := [(k0, .inr (1, [.int (nI a1), .int (nI a2), .int (nI a3), .ref k1, .int kn])), (k1, .inl (d2, 2001, .inl g))]) [2, 3] (by decide) rfl
      have hKc := hK.sub (tys' := [(d2, .int)]) [1] rfl
      have hFc := va_free (wc := [(k0, .inr (1, [.int (nI a1), .int (nI a2), .int (nI a3), .ref k1, .int kn])), (k1, .inl (d2, 2001, .inl g))]) hD hS hA [2, 3] rfl
      refine va_calli (va_runV (As := [.int (xs (i + 1))]) (rest := [.int r1]) ⟨hx, hb, hml, hown, hts⟩ (mt_X1_few l dC dI k0 k1 H.size a1 a2 a3 kn d2 g (xs (i + 1)) j h_j e_j ha1 ha2 hb1 hb2 hz1 hz2 hkn) (cwV 1 hts (lw_V q115 q116 q117 q7 q118) rfl rfl rfl (by decide +kernel) ⟨Nat.le_of_ble_eq_true rfl, Nat.le_of_ble_eq_true rfl⟩) ⟨fun a U g mk q => by obtain ⟨q0, q1, qP, qK, qD⟩ := q; exact ⟨q0, q1, qP, va_K.moved (u := U) (U := U.calling g mk a) (Vm.Alike.refl U.vm) qK, qD⟩, va_recv hKc hPc (ci := 1) (q0 := 0) rfl rfl, fun U hU hW => ⟨rfl, by rw [hU], by rw [hU]; exact hPc, va_K.moved hW.alike hKc, hDc.weaken (fun _ _ _ _ => trivial)⟩⟩ rfl rfl hl.1 rfl (lv_room (Nat.le_of_ble_eq_true rfl)) dL_law_136 ⟨Nat.le_of_ble_eq_true rfl, Nat.le_of_ble_eq_true rfl⟩) hS (fun q _ h => hFc q h) hFc (fun r2 u t H1 locs ht hvm hw hB hsz1 hk1 hS => ?_)
      obtain ⟨kn2, g2⟩ := u
      obtain ⟨hP1, hK1, hD1⟩ := hB
      rw [ht] at hP1
      obtain ⟨hP, hD⟩ := va_join (wr := [(h0, .inr (0, [.int (nI a1), .int (nI a2), .int (nI a3), .ref h1])), (h1, .inl (d1, 32, .inl f))]) (w1 := [(k0, .inr (1, [.int (nI a1), .int (nI a2), .int (nI a3), .ref k1, .int kn2])), (k1, .inl (d2, 2001, .inl g2))]) hP hD [2, 3] [0, 1] rfl rfl (by decide) (by decide) hk1 hFc hP1 hD1
      generalize H1 = H at hP hS ⊢
      have hP := hP.sub (ws' := [(h0, .inr (0, [.int (nI a1), .int (nI a2), .int (nI a3), .ref h1])), (h1, .inl (d1, 32, .inl f)), (k0, .inr (1, [.int (nI a1), .int (nI a2), .int (nI a3), .ref k1, .int kn2])), (k1, .inl (d2, 2001, .inl g2))]) [0, 1, 2, 3] rfl
      have hD := hD.sub (ws' := [(h0, .inr (0, [.int (nI a1), .int (nI a2), .int (nI a3), .ref h1])), (h1, .inl (d1, 32, .inl f)), (k0, .inr (1, [.int (nI a1), .int (nI a2), .int (nI a3), .ref k1, .int kn2])), (k1, .inl (d2, 2001, .inl g2))]) [0, 1, 2, 3] (by decide) rfl
      refine lv_icmp_eq (tgt := 242) hx hb dL_law_139 (by decide) (fun c2 => ?_) (fun c2 => ?_)
      · refine lv_iinc (v := nI (i + 4)) (lv' := [(3, .int (nI (i + 4))), (0, .ref b), (1, .ref h0), (2, .ref k0)]) hx hb dL_law_242 hl (k := 3) rfl (show nI i + Int32.ofInt 4 = nI (i + 4) from nI_add i 4) (by decide) rfl (fun ls hl => ?_)
        refine lv_goto (tgt := 18) hx hb dL_law_245 (by decide) ?_
        exact ih (n - 4) H locs ls (by omega) ⟨i + 4, a1, a2, a3, kn2, f, g2, by omega, ⟨ha1, ha2, hb1, hb2, hz1, hz2⟩, hw.2, hP, hD, hS, lv_sub hl [1, 2, 3, 0] rfl⟩
      · exact absurd (cd_Min.one e_r1 hw.1) c2
    · subst eo2
      refine lv_tableIn (off := 112) (tgt := 144) hx hb dL_law_32 (by decide +kernel) (by decide +kernel) (by decide +kernel) (by decide) ?_
      refine lv_aload_n hx hb dL_law_144 rfl (lv_at hl 1 rfl) ?_
      have hPc := hP.sub (ws' := [(h0, .inr (0, [.int (nI a1), .int (nI a2), .int (nI a3), .ref h1])), (h1, .inl (d1, 32, .inl f))]) [0, 1] rfl
      have hDc := hD.sub (ws' := [(h0, .inr (0, [.int (nI a1), .int (nI a2), .int (nI a3), .ref h1])), (h1, .inl (d1, 32, .inl f))]) [0, 1] (by decide) rfl
      have hKc := hK.sub (tys' := [(d1, .int)]) [0] rfl
      have hFc := va_free (wc := [(h0, .inr (0, [.int (nI a1), .int (nI a2), .int (nI a3), .ref h1])), (h1, .inl (d1, 32, .inl f))]) hD hS hA [0, 1] rfl
      refine va_calli (va_runV (As := []) (rest := []) ⟨hx, hb, hml, hown, hts⟩ (mt_X0_greatest l dC dI h0 h1 H.size a1 a2 a3 d1 f ha1 ha2 hb1 hb2 hz1 hz2) (cwV 0 hts (lw_V q36 q37 q38 q6 q39) rfl rfl rfl (by decide +kernel) ⟨Nat.le_of_ble_eq_true rfl, Nat.le_of_ble_eq_true rfl⟩) ⟨fun a U g mk q => by obtain ⟨q0, q1, qP, qK, qD⟩ := q; exact ⟨q0, q1, qP, va_K.moved (u := U) (U := U.calling g mk a) (Vm.Alike.refl U.vm) qK, qD⟩, va_recv hKc hPc (ci := 0) (q0 := 0) rfl rfl, fun U hU hW => ⟨rfl, by rw [hU], by rw [hU]; exact hPc, va_K.moved hW.alike hKc, hDc.weaken (fun _ _ _ _ => trivial)⟩⟩ rfl rfl hl.1 rfl (lv_room (Nat.le_of_ble_eq_true rfl)) dL_law_145 ⟨Nat.le_of_ble_eq_true rfl, Nat.le_of_ble_eq_true rfl⟩) hS (fun q _ h => hFc q h) hFc (fun r1 f2 t H1 locs ht hvm hw hB hsz1 hk1 hS => ?_)
      have hw1 := hw
      obtain ⟨hP1, hK1, hD1⟩ := hB
      rw [ht] at hP1
      obtain ⟨hP, hD⟩ := va_join (wr := [(k0, .inr (1, [.int (nI a1), .int (nI a2), .int (nI a3), .ref k1, .int kn])), (k1, .inl (d2, 2001, .inl g))]) (w1 := [(h0, .inr (0, [.int (nI a1), .int (nI a2), .int (nI a3), .ref h1])), (h1, .inl (d1, 32, .inl f2))]) hP hD [0, 1] [2, 3] rfl rfl (by decide) (by decide) hk1 hFc hP1 hD1
      generalize H1 = H at hP hS ⊢
      have hP := hP.sub (ws' := [(h0, .inr (0, [.int (nI a1), .int (nI a2), .int (nI a3), .ref h1])), (h1, .inl (d1, 32, .inl f2)), (k0, .inr (1, [.int (nI a1), .int (nI a2), .int (nI a3), .ref k1, .int kn])), (k1, .inl (d2, 2001, .inl g))]) [2, 3, 0, 1] rfl
      have hD := hD.sub (ws' := [(h0, .inr (0, [.int (nI a1), .int (nI a2), .int (nI a3), .ref h1])), (h1, .inl (d1, 32, .inl f2)), (k0, .inr (1, [.int (nI a1), .int (nI a2), .int (nI a3), .ref k1, .int kn])), (k1, .inl (d2, 2001, .inl g))]) [2, 3, 0, 1] (by decide) rfl
      refine lv_aload_n hx hb dL_law_148 rfl (lv_at hl 2 rfl) ?_
      have hPc := hP.sub (ws' := [(k0, .inr (1, [.int (nI a1), .int (nI a2), .int (nI a3), .ref k1, .int kn])), (k1, .inl (d2, 2001, .inl g))]) [2, 3] rfl
      have hDc := hD.sub (ws' := [(k0, .inr (1, [.int (nI a1), .int (nI a2), .int (nI a3), .ref k1, .int kn])), (k1, .inl (d2, 2001, .inl g))]) [2, 3] (by decide) rfl
      have hKc := hK.sub (tys' := [(d2, .int)]) [1] rfl
      have hFc := va_free (wc := [(k0, .inr (1, [.int (nI a1), .int (nI a2), .int (nI a3), .ref k1, .int kn])), (k1, .inl (d2, 2001, .inl g))]) hD hS hA [2, 3] rfl
      refine va_calli (va_runV (As := []) (rest := [.int r1]) ⟨hx, hb, hml, hown, hts⟩ (mt_X1_greatest l dC dI k0 k1 H.size a1 a2 a3 kn d2 g ha1 ha2 hb1 hb2 hz1 hz2 hkn) (cwV 0 hts (lw_V q123 q124 q125 q7 q126) rfl rfl rfl (by decide +kernel) ⟨Nat.le_of_ble_eq_true rfl, Nat.le_of_ble_eq_true rfl⟩) ⟨fun a U g mk q => by obtain ⟨q0, q1, qP, qK, qD⟩ := q; exact ⟨q0, q1, qP, va_K.moved (u := U) (U := U.calling g mk a) (Vm.Alike.refl U.vm) qK, qD⟩, va_recv hKc hPc (ci := 1) (q0 := 0) rfl rfl, fun U hU hW => ⟨rfl, by rw [hU], by rw [hU]; exact hPc, va_K.moved hW.alike hKc, hDc.weaken (fun _ _ _ _ => trivial)⟩⟩ rfl rfl hl.1 rfl (lv_room (Nat.le_of_ble_eq_true rfl)) dL_law_149 ⟨Nat.le_of_ble_eq_true rfl, Nat.le_of_ble_eq_true rfl⟩) hS (fun q _ h => hFc q h) hFc (fun r2 u t H1 locs ht hvm hw hB hsz1 hk1 hS => ?_)
      obtain ⟨kn2, g2⟩ := u
      obtain ⟨hP1, hK1, hD1⟩ := hB
      rw [ht] at hP1
      obtain ⟨hP, hD⟩ := va_join (wr := [(h0, .inr (0, [.int (nI a1), .int (nI a2), .int (nI a3), .ref h1])), (h1, .inl (d1, 32, .inl f2))]) (w1 := [(k0, .inr (1, [.int (nI a1), .int (nI a2), .int (nI a3), .ref k1, .int kn2])), (k1, .inl (d2, 2001, .inl g2))]) hP hD [2, 3] [0, 1] rfl rfl (by decide) (by decide) hk1 hFc hP1 hD1
      generalize H1 = H at hP hS ⊢
      have hP := hP.sub (ws' := [(h0, .inr (0, [.int (nI a1), .int (nI a2), .int (nI a3), .ref h1])), (h1, .inl (d1, 32, .inl f2)), (k0, .inr (1, [.int (nI a1), .int (nI a2), .int (nI a3), .ref k1, .int kn2])), (k1, .inl (d2, 2001, .inl g2))]) [0, 1, 2, 3] rfl
      have hD := hD.sub (ws' := [(h0, .inr (0, [.int (nI a1), .int (nI a2), .int (nI a3), .ref h1])), (h1, .inl (d1, 32, .inl f2)), (k0, .inr (1, [.int (nI a1), .int (nI a2), .int (nI a3), .ref k1, .int kn2])), (k1, .inl (d2, 2001, .inl g2))]) [0, 1, 2, 3] (by decide) rfl
      refine lv_icmp_eq (tgt := 242) hx hb dL_law_152 (by decide) (fun c2 => ?_) (fun c2 => ?_)
      · refine lv_iinc (v := nI (i + 4)) (lv' := [(3, .int (nI (i + 4))), (0, .ref b), (1, .ref h0), (2, .ref k0)]) hx hb dL_law_242 hl (k := 3) rfl (show nI i + Int32.ofInt 4 = nI (i + 4) from nI_add i 4) (by decide) rfl (fun ls hl => ?_)
        refine lv_goto (tgt := 18) hx hb dL_law_245 (by decide) ?_
        exact ih (n - 4) H locs ls (by omega) ⟨i + 4, a1, a2, a3, kn2, f2, g2, by omega, ⟨ha1, ha2, hb1, hb2, hz1, hz2⟩, hw.2, hP, hD, hS, lv_sub hl [1, 2, 3, 0] rfl⟩
      · exact absurd (cd_G.one (fun _ _ x9 y9 => x9.one y9) hw1 hw.1) c2
    · subst eo2
      refine lv_tableIn (off := 125) (tgt := 157) hx hb dL_law_32 (by decide +kernel) (by decide +kernel) (by decide +kernel) (by decide) ?_
      refine lv_aload_n hx hb dL_law_157 rfl (lv_at hl 1 rfl) ?_
      have hPc := hP.sub (ws' := [(h0, .inr (0, [.int (nI a1), .int (nI a2), .int (nI a3), .ref h1])), (h1, .inl (d1, 32, .inl f))]) [0, 1] rfl
      have hDc := hD.sub (ws' := [(h0, .inr (0, [.int (nI a1), .int (nI a2), .int (nI a3), .ref h1])), (h1, .inl (d1, 32, .inl f))]) [0, 1] (by decide) rfl
      have hKc := hK.sub (tys' := [(d1, .int)]) [0] rfl
      have hFc := va_free (wc := [(h0, .inr (0, [.int (nI a1), .int (nI a2), .int (nI a3), .ref h1])), (h1, .inl (d1, 32, .inl f))]) hD hS hA [0, 1] rfl
      refine va_calli (va_runV (As := []) (rest := []) ⟨hx, hb, hml, hown, hts⟩ (mt_X0_gaps l dC dI h0 h1 H.size a1 a2 a3 d1 f ha1 ha2 hb1 hb2 hz1 hz2) (cwV 0 hts (lw_V q61 q62 q63 q6 q64) rfl rfl rfl (by decide +kernel) ⟨Nat.le_of_ble_eq_true rfl, Nat.le_of_ble_eq_true rfl⟩) ⟨fun a U g mk q => by obtain ⟨q0, q1, qP, qK, qD⟩ := q; exact ⟨q0, q1, qP, va_K.moved (u := U) (U := U.calling g mk a) (Vm.Alike.refl U.vm) qK, qD⟩, va_recv hKc hPc (ci := 0) (q0 := 0) rfl rfl, fun U hU hW => ⟨rfl, by rw [hU], by rw [hU]; exact hPc, va_K.moved hW.alike hKc, hDc.weaken (fun _ _ _ _ => trivial)⟩⟩ rfl rfl hl.1 rfl (lv_room (Nat.le_of_ble_eq_true rfl)) dL_law_158 ⟨Nat.le_of_ble_eq_true rfl, Nat.le_of_ble_eq_true rfl⟩) hS (fun q _ h => hFc q h) hFc (fun r1 f2 t H1 locs ht hvm hw hB hsz1 hk1 hS => ?_)
      have hw1 := hw
      obtain ⟨hP1, hK1, hD1⟩ := hB
      rw [ht] at hP1
      obtain ⟨hP, hD⟩ := va_join (wr := [(k0, .inr (1, [.int (nI a1), .int (nI a2), .int (nI a3), .ref k1, .int kn])), (k1, .inl (d2, 2001, .inl g))]) (w1 := [(h0, .inr (0, [.int (nI a1), .int (nI a2), .int (nI a3), .ref h1])), (h1, .inl (d1, 32, .inl f2))]) hP hD [0, 1] [2, 3] rfl rfl (by decide) (by decide) hk1 hFc hP1 hD1
      generalize H1 = H at hP hS ⊢
      have hP := hP.sub (ws' := [(h0, .inr (0, [.int (nI a1), .int (nI a2), .int (nI a3), .ref h1])), (h1, .inl (d1, 32, .inl f2)), (k0, .inr (1, [.int (nI a1), .int (nI a2), .int (nI a3), .ref k1, .int kn])), (k1, .inl (d2, 2001, .inl g))]) [2, 3, 0, 1] rfl
      have hD := hD.sub (ws' := [(h0, .inr (0, [.int (nI a1), .int (nI a2), .int (nI a3), .ref h1])), (h1, .inl (d1, 32, .inl f2)), (k0, .inr (1, [.int (nI a1), .int (nI a2), .int (nI a3), .ref k1, .int kn])), (k1, .inl (d2, 2001, .inl g))]) [2, 3, 0, 1] (by decide) rfl
      refine lv_aload_n hx hb dL_law_161 rfl (lv_at hl 2 rfl) ?_
      have hPc := hP.sub (ws' := [(k0, .inr (1, [.int (nI a1), .int (nI a2), .int (nI a3), .ref k1, .int kn])), (k1, .inl (d2, 2001, .inl g))]) [2, 3] rfl
      have hDc := hD.sub (ws' := [(k0, .inr (1, [.int (nI a1), .int (nI a2), .int (nI a3), .ref k1, .int kn])), (k1, .inl (d2, 2001, .inl g))]) [2, 3] (by decide) rfl
      have hKc := hK.sub (tys' := [(d2, .int)]) [1] rfl
      have hFc := va_free (wc := [(k0, .inr (1, [.int (nI a1), .int (nI a2), .int (nI a3), .ref k1, .int kn])), (k1, .inl (d2, 2001, .inl g))]) hD hS hA [2, 3] rfl
      refine va_calli (va_runV (As := []) (rest := [.int r1]) ⟨hx, hb, hml, hown, hts⟩ (mt_X1_gaps l dC dI k0 k1 H.size a1 a2 a3 kn d2 g ha1 ha2 hb1 hb2 hz1 hz2 hkn) (cwV 0 hts (lw_V q130 q131 q132 q7 q133) rfl rfl rfl (by decide +kernel) ⟨Nat.le_of_ble_eq_true rfl, Nat.le_of_ble_eq_true rfl⟩) ⟨fun a U g mk q => by obtain ⟨q0, q1, qP, qK, qD⟩ := q; exact ⟨q0, q1, qP, va_K.moved (u := U) (U := U.calling g mk a) (Vm.Alike.refl U.vm) qK, qD⟩, va_recv hKc hPc (ci := 1) (q0 := 0) rfl rfl, fun U hU hW => ⟨rfl, by rw [hU], by rw [hU]; exact hPc, va_K.moved hW.alike hKc, hDc.weaken (fun _ _ _ _ => trivial)⟩⟩ rfl rfl hl.1 rfl (lv_room (Nat.le_of_ble_eq_true rfl)) dL_law_162 ⟨Nat.le_of_ble_eq_true rfl, Nat.le_of_ble_eq_true rfl⟩) hS (fun q _ h => hFc q h) hFc (fun r2 u t H1 locs ht hvm hw hB hsz1 hk1 hS => ?_)
      obtain ⟨kn2, g2⟩ := u
      obtain ⟨hP1, hK1, hD1⟩ := hB
      rw [ht] at hP1
      obtain ⟨hP, hD⟩ := va_join (wr := [(h0, .inr (0, [.int (nI a1), .int (nI a2), .int (nI a3), .ref h1])), (h1, .inl (d1, 32, .inl f2))]) (w1 := [(k0, .inr (1, [.int (nI a1), .int (nI a2), .int (nI a3), .ref k1, .int kn2])), (k1, .inl (d2, 2001, .inl g2))]) hP hD [2, 3] [0, 1] rfl rfl (by decide) (by decide) hk1 hFc hP1 hD1
      generalize H1 = H at hP hS ⊢
      have hP := hP.sub (ws' := [(h0, .inr (0, [.int (nI a1), .int (nI a2), .int (nI a3), .ref h1])), (h1, .inl (d1, 32, .inl f2)), (k0, .inr (1, [.int (nI a1), .int (nI a2), .int (nI a3), .ref k1, .int kn2])), (k1, .inl (d2, 2001, .inl g2))]) [0, 1, 2, 3] rfl
      have hD := hD.sub (ws' := [(h0, .inr (0, [.int (nI a1), .int (nI a2), .int (nI a3), .ref h1])), (h1, .inl (d1, 32, .inl f2)), (k0, .inr (1, [.int (nI a1), .int (nI a2), .int (nI a3), .ref k1, .int kn2])), (k1, .inl (d2, 2001, .inl g2))]) [0, 1, 2, 3] (by decide) rfl
      refine lv_icmp_eq (tgt := 242) hx hb dL_law_165 (by decide) (fun c2 => ?_) (fun c2 => ?_)
      · refine lv_iinc (v := nI (i + 4)) (lv' := [(3, .int (nI (i + 4))), (0, .ref b), (1, .ref h0), (2, .ref k0)]) hx hb dL_law_242 hl (k := 3) rfl (show nI i + Int32.ofInt 4 = nI (i + 4) from nI_add i 4) (by decide) rfl (fun ls hl => ?_)
        refine lv_goto (tgt := 18) hx hb dL_law_245 (by decide) ?_
        exact ih (n - 4) H locs ls (by omega) ⟨i + 4, a1, a2, a3, kn2, f2, g2, by omega, ⟨ha1, ha2, hb1, hb2, hz1, hz2⟩, hw.2, hP, hD, hS, lv_sub hl [1, 2, 3, 0] rfl⟩
      · exact absurd (cd_G.one (fun _ _ x9 y9 => Eq.trans x9 (Eq.symm y9)) hw1 hw.1) c2
    · subst eo2
      refine lv_tableIn (off := 138) (tgt := 170) hx hb dL_law_32 (by decide +kernel) (by decide +kernel) (by decide +kernel) (by decide) ?_
      obtain ⟨j, h_j, e_j⟩ : ∃ q : Nat, q < 2 ^ 10 ∧ xs (i + 1) &&& nI 1023 = nI q := pk_andE (xs (i + 1)) 10 (by decide +kernel)
      refine lv_aload_n hx hb dL_law_170 rfl (lv_at hl 1 rfl) ?_
      refine lv_aload_n hx hb dL_law_171 rfl (lv_at hl 0 rfl) ?_
      refine lv_iload_n hx hb dL_law_172 rfl (lv_at hl 3 rfl) ?_
      refine lv_iconst (v := nI 1) hx hb dL_law_173 (by decide +kernel) ?_
      refine cd_iadd hx hb dL_law_174 ?_
      refine cd_sld hx hb hX hbl hbA hS dL_law_175 ?_
      refine cd_callr (W.runV (As := [.int (xs (i + 1))]) (rest := []) ⟨hx, hb, hml, hown, hts⟩ (mt_X0_two l dC dI h0 h1 a1 a2 a3 (xs (i + 1)) j h_j e_j ha1 ha2 hb1 hb2) (cwV 1 hts (lw_V q69 q70 q71 q6 q72) rfl rfl rfl (by decide +kernel) ⟨Nat.le_of_ble_eq_true rfl, Nat.le_of_ble_eq_true rfl⟩) (cd_pre hK hP (ci := 0) (q0 := 0) rfl rfl (hP.sub (ws' := [(h0, .inr (0, [.int (nI a1), .int (nI a2), .int (nI a3), .ref h1]))]) [0] rfl) (hK.sub (tys' := []) [] rfl)) rfl rfl hl.1 rfl (lv_room (Nat.le_of_ble_eq_true rfl)) dL_law_176 ⟨Nat.le_of_ble_eq_true rfl, Nat.le_of_ble_eq_true rfl⟩) (fun r1 e_r1 => ?_)
      refine lv_aload_n hx hb dL_law_179 rfl (lv_at hl 2 rfl) ?_
      refine lv_aload_n hx hb dL_law_180 rfl (lv_at hl 0 rfl) ?_
      refine lv_iload_n hx hb dL_law_181 rfl (lv_at hl 3 rfl) ?_
      refine lv_iconst (v := nI 1) hx hb dL_law_182 (by decide +kernel) ?_
      refine cd_iadd hx hb dL_law_183 ?_
      refine cd_sld hx hb hX hbl hbA hS dL_law_184 ?_
      refine cd_callr (W.runV (As := [.int (xs (i + 1))]) (rest := [.int r1]) ⟨hx, hb, hml, hown, hts⟩ (mt_X1_two l dC dI k0 k1 a1 a2 a3 kn (xs (i + 1)) j h_j e_j ha1 ha2 hb1 hb2) (cwV 1 hts (lw_V q134 q135 q136 q7 q137) rfl rfl rfl (by decide +kernel) ⟨Nat.le_of_ble_eq_true rfl, Nat.le_of_ble_eq_true rfl⟩) (cd_pre hK hP (ci := 1) (q0 := 2) rfl rfl (hP.sub (ws' := [(k0, .inr (1, [.int (nI a1), .int (nI a2), .int (nI a3), .ref k1, .int kn]))]) [2] rfl) (hK.sub (tys' := []) [] rfl)) rfl rfl hl.1 rfl (lv_room (Nat.le_of_ble_eq_true rfl)) dL_law_185 ⟨Nat.le_of_ble_eq_true rfl, Nat.le_of_ble_eq_true rfl⟩) (fun r2 e_r2 => ?_)
      refine lv_icmp_eq (tgt := 242) hx hb dL_law_188 (by decide) (fun c2 => ?_) (fun c2 => ?_)
      · refine lv_iinc (v := nI (i + 4)) (lv' := [(3, .int (nI (i + 4))), (0, .ref b), (1, .ref h0), (2, .ref k0)]) hx hb dL_law_242 hl (k := 3) rfl (show nI i + Int32.ofInt 4 = nI (i + 4) from nI_add i 4) (by decide) rfl (fun ls hl => ?_)
        refine lv_goto (tgt := 18) hx hb dL_law_245 (by decide) ?_
        exact ih (n - 4) H locs ls (by omega) ⟨i + 4, a1, a2, a3, kn, f, g, by omega, ⟨ha1, ha2, hb1, hb2, hz1, hz2⟩, hkn, hP, hD, hS, lv_sub hl [1, 2, 3, 0] rfl⟩
      · exact absurd (cd_B.one e_r1 e_r2) c2
    · subst eo2
      refine lv_tableIn (off := 161) (tgt := 193) hx hb dL_law_32 (by decide +kernel) (by decide +kernel) (by decide +kernel) (by decide) ?_
      obtain ⟨j, h_j, e_j⟩ : ∃ q : Nat, q < 2 ^ 10 ∧ xs (i + 1) &&& nI 1023 = nI q := pk_andE (xs (i + 1)) 10 (by decide +kernel)
      refine lv_aload_n hx hb dL_law_193 rfl (lv_at hl 1 rfl) ?_
      refine lv_aload_n hx hb dL_law_194 rfl (lv_at hl 0 rfl) ?_
      refine lv_iload_n hx hb dL_law_195 rfl (lv_at hl 3 rfl) ?_
      refine lv_iconst (v := nI 1) hx hb dL_law_196 (by decide +kernel) ?_
      refine cd_iadd hx hb dL_law_197 ?_
      refine cd_sld hx hb hX hbl hbA hS dL_law_198 ?_
      refine cd_callr (W.runV (As := [.int (xs (i + 1))]) (rest := []) ⟨hx, hb, hml, hown, hts⟩ (mt_X0_ways l dC dI h0 h1 a1 a2 a3 (xs (i + 1)) j h_j e_j ha1 ha2 hb1 hb2) (cwV 1 hts (lw_V q77 q78 q79 q6 q80) rfl rfl rfl (by decide +kernel) ⟨Nat.le_of_ble_eq_true rfl, Nat.le_of_ble_eq_true rfl⟩) (cd_pre hK hP (ci := 0) (q0 := 0) rfl rfl (hP.sub (ws' := [(h0, .inr (0, [.int (nI a1), .int (nI a2), .int (nI a3), .ref h1]))]) [0] rfl) (hK.sub (tys' := []) [] rfl)) rfl rfl hl.1 rfl (lv_room (Nat.le_of_ble_eq_true rfl)) dL_law_199 ⟨Nat.le_of_ble_eq_true rfl, Nat.le_of_ble_eq_true rfl⟩) (fun r1 e_r1 => ?_)
      refine lv_aload_n hx hb dL_law_202 rfl (lv_at hl 2 rfl) ?_
      refine lv_aload_n hx hb dL_law_203 rfl (lv_at hl 0 rfl) ?_
      refine lv_iload_n hx hb dL_law_204 rfl (lv_at hl 3 rfl) ?_
      refine lv_iconst (v := nI 1) hx hb dL_law_205 (by decide +kernel) ?_
      refine cd_iadd hx hb dL_law_206 ?_
      refine cd_sld hx hb hX hbl hbA hS dL_law_207 ?_
      refine cd_callr (W.runV (As := [.int (xs (i + 1))]) (rest := [.int r1]) ⟨hx, hb, hml, hown, hts⟩ (mt_X1_ways l dC dI k0 k1 a1 a2 a3 kn (xs (i + 1)) j h_j e_j ha1 ha2 hb1 hb2) (cwV 1 hts (lw_V q138 q139 q140 q7 q141) rfl rfl rfl (by decide +kernel) ⟨Nat.le_of_ble_eq_true rfl, Nat.le_of_ble_eq_true rfl⟩) (cd_pre hK hP (ci := 1) (q0 := 2) rfl rfl (hP.sub (ws' := [(k0, .inr (1, [.int (nI a1), .int (nI a2), .int (nI a3), .ref k1, .int kn]))]) [2] rfl) (hK.sub (tys' := []) [] rfl)) rfl rfl hl.1 rfl (lv_room (Nat.le_of_ble_eq_true rfl)) dL_law_208 ⟨Nat.le_of_ble_eq_true rfl, Nat.le_of_ble_eq_true rfl⟩) (fun r2 e_r2 => ?_)
      refine lv_icmp_eq (tgt := 242) hx hb dL_law_211 (by decide) (fun c2 => ?_) (fun c2 => ?_)
      · refine lv_iinc (v := nI (i + 4)) (lv' := [(3, .int (nI (i + 4))), (0, .ref b), (1, .ref h0), (2, .ref k0)]) hx hb dL_law_242 hl (k := 3) rfl (show nI i + Int32.ofInt 4 = nI (i + 4) from nI_add i 4) (by decide) rfl (fun ls hl => ?_)
        refine lv_goto (tgt := 18) hx hb dL_law_245 (by decide) ?_
        exact ih (n - 4) H locs ls (by omega) ⟨i + 4, a1, a2, a3, kn, f, g, by omega, ⟨ha1, ha2, hb1, hb2, hz1, hz2⟩, hkn, hP, hD, hS, lv_sub hl [1, 2, 3, 0] rfl⟩
      · exact absurd (Eq.trans e_r1 (Eq.symm e_r2)) c2
    · subst eo2
      refine lv_tableIn (off := 184) (tgt := 216) hx hb dL_law_32 (by decide +kernel) (by decide +kernel) (by decide +kernel) (by decide) ?_
      refine lv_aload_n hx hb dL_law_216 rfl (lv_at hl 1 rfl) ?_
      refine cd_callr (W.runV (As := []) (rest := []) ⟨hx, hb, hml, hown, hts⟩ (mt_X0_greatestTwo l dC dI h0 h1 a1 a2 a3 ha1 ha2 hb1 hb2) (cwV 0 hts (lw_V q81 q82 q83 q6 q84) rfl rfl rfl (by decide +kernel) ⟨Nat.le_of_ble_eq_true rfl, Nat.le_of_ble_eq_true rfl⟩) (cd_pre hK hP (ci := 0) (q0 := 0) rfl rfl (hP.sub (ws' := [(h0, .inr (0, [.int (nI a1), .int (nI a2), .int (nI a3), .ref h1]))]) [0] rfl) (hK.sub (tys' := []) [] rfl)) rfl rfl hl.1 rfl (lv_room (Nat.le_of_ble_eq_true rfl)) dL_law_217 ⟨Nat.le_of_ble_eq_true rfl, Nat.le_of_ble_eq_true rfl⟩) (fun r1 e_r1 => ?_)
      refine lv_aload_n hx hb dL_law_220 rfl (lv_at hl 2 rfl) ?_
      refine cd_callr (W.runV (As := []) (rest := [.int r1]) ⟨hx, hb, hml, hown, hts⟩ (mt_X1_greatestTwo l dC dI k0 k1 a1 a2 a3 kn ha1 ha2 hb1 hb2) (cwV 0 hts (lw_V q142 q143 q144 q7 q145) rfl rfl rfl (by decide +kernel) ⟨Nat.le_of_ble_eq_true rfl, Nat.le_of_ble_eq_true rfl⟩) (cd_pre hK hP (ci := 1) (q0 := 2) rfl rfl (hP.sub (ws' := [(k0, .inr (1, [.int (nI a1), .int (nI a2), .int (nI a3), .ref k1, .int kn]))]) [2] rfl) (hK.sub (tys' := []) [] rfl)) rfl rfl hl.1 rfl (lv_room (Nat.le_of_ble_eq_true rfl)) dL_law_221 ⟨Nat.le_of_ble_eq_true rfl, Nat.le_of_ble_eq_true rfl⟩) (fun r2 e_r2 => ?_)
      refine lv_icmp_eq (tgt := 242) hx hb dL_law_224 (by decide) (fun c2 => ?_) (fun c2 => ?_)
      · refine lv_iinc (v := nI (i + 4)) (lv' := [(3, .int (nI (i + 4))), (0, .ref b), (1, .ref h0), (2, .ref k0)]) hx hb dL_law_242 hl (k := 3) rfl (show nI i + Int32.ofInt 4 = nI (i + 4) from nI_add i 4) (by decide) rfl (fun ls hl => ?_)
        refine lv_goto (tgt := 18) hx hb dL_law_245 (by decide) ?_
        exact ih (n - 4) H locs ls (by omega) ⟨i + 4, a1, a2, a3, kn, f, g, by omega, ⟨ha1, ha2, hb1, hb2, hz1, hz2⟩, hkn, hP, hD, hS, lv_sub hl [1, 2, 3, 0] rfl⟩
      · exact absurd (cd_G.one (fun _ _ x9 y9 => x9.one y9) e_r1 e_r2) c2
    · subst eo2
      refine lv_tableIn (off := 197) (tgt := 229) hx hb dL_law_32 (by decide +kernel) (by decide +kernel) (by decide +kernel) (by decide) ?_
      refine lv_aload_n hx hb dL_law_229 rfl (lv_at hl 1 rfl) ?_
      refine cd_callr (W.runV (As := []) (rest := []) ⟨hx, hb, hml, hown, hts⟩ (mt_X0_gapsTwo l dC dI h0 h1 a1 a2 a3 ha1 ha2 hb1 hb2) (cwV 0 hts (lw_V q85 q86 q87 q6 q88) rfl rfl rfl (by decide +kernel) ⟨Nat.le_of_ble_eq_true rfl, Nat.le_of_ble_eq_true rfl⟩) (cd_pre hK hP (ci := 0) (q0 := 0) rfl rfl (hP.sub (ws' := [(h0, .inr (0, [.int (nI a1), .int (nI a2), .int (nI a3), .ref h1]))]) [0] rfl) (hK.sub (tys' := []) [] rfl)) rfl rfl hl.1 rfl (lv_room (Nat.le_of_ble_eq_true rfl)) dL_law_230 ⟨Nat.le_of_ble_eq_true rfl, Nat.le_of_ble_eq_true rfl⟩) (fun r1 e_r1 => ?_)
      refine lv_aload_n hx hb dL_law_233 rfl (lv_at hl 2 rfl) ?_
      refine cd_callr (W.runV (As := []) (rest := [.int r1]) ⟨hx, hb, hml, hown, hts⟩ (mt_X1_gapsTwo l dC dI k0 k1 a1 a2 a3 kn ha1 ha2 hb1 hb2) (cwV 0 hts (lw_V q150 q151 q152 q7 q153) rfl rfl rfl (by decide +kernel) ⟨Nat.le_of_ble_eq_true rfl, Nat.le_of_ble_eq_true rfl⟩) (cd_pre hK hP (ci := 1) (q0 := 2) rfl rfl (hP.sub (ws' := [(k0, .inr (1, [.int (nI a1), .int (nI a2), .int (nI a3), .ref k1, .int kn]))]) [2] rfl) (hK.sub (tys' := []) [] rfl)) rfl rfl hl.1 rfl (lv_room (Nat.le_of_ble_eq_true rfl)) dL_law_234 ⟨Nat.le_of_ble_eq_true rfl, Nat.le_of_ble_eq_true rfl⟩) (fun r2 e_r2 => ?_)
      refine lv_icmp_eq (tgt := 242) hx hb dL_law_237 (by decide) (fun c2 => ?_) (fun c2 => ?_)
      · refine lv_iinc (v := nI (i + 4)) (lv' := [(3, .int (nI (i + 4))), (0, .ref b), (1, .ref h0), (2, .ref k0)]) hx hb dL_law_242 hl (k := 3) rfl (show nI i + Int32.ofInt 4 = nI (i + 4) from nI_add i 4) (by decide) rfl (fun ls hl => ?_)
        refine lv_goto (tgt := 18) hx hb dL_law_245 (by decide) ?_
        exact ih (n - 4) H locs ls (by omega) ⟨i + 4, a1, a2, a3, kn, f, g, by omega, ⟨ha1, ha2, hb1, hb2, hz1, hz2⟩, hkn, hP, hD, hS, lv_sub hl [1, 2, 3, 0] rfl⟩
      · exact absurd (cd_G.one (fun _ _ x9 y9 => Eq.trans x9 (Eq.symm y9)) e_r1 e_r2) c2
end
section
set_option maxHeartbeats 4000000 in
theorem lw_walk (l : Launch) (b : Addr) (xs : List Int32) : MetFree l x (headSpec (Jvm.Cond.code x code maxLocals ret :: tables_1) room_1) (lw_P b xs) (fun _ _ _ _ _ => True) lw_Q := by
  refine MetFree.of_bodyS (code := code) (maxLocals := maxLocals) (ret := ret) (by decide) ?_ ?_
  · intro args s m h hn
    obtain ⟨meth, c, h1, h2, h3, h4, h5, h6, -, -⟩ := Cond.code_spec hn (atoms_spec (ws := Jvm.Cond.code x code maxLocals ret :: tables_1) h _ List.mem_cons_self)
    exact ⟨meth, c, h1, h2, h3, h4, h5, h6⟩
  · intro p e s m args below meth c s₁ B hml0 hP _
    obtain ⟨rfl, hx, hbd, hgv⟩ := hP
    obtain ⟨scr, harrAt, hlist, hof, hsmall⟩ := hx
    obtain ⟨hcb, hkn, -, -⟩ := State.arrayAt?_spec harrAt
    have hown : s.vm.findClass R_law = some m.cls := findClass_of_methodNamed B.named
    have hts0 : ∀ c ∈ (Jvm.Cond.code x code maxLocals ret :: tables_1), c.before #[Value.ref b] s = true := atoms_spec (ws := Jvm.Cond.code x code maxLocals ret :: tables_1) B.pre
    have hts : ∀ w ∈ lw_tbl, w.before #[Value.ref b] s = true := k2_hts_sels lw_privs (fun w hw => hts0 w (List.mem_cons_of_mem _ hw)) lw_privs_ok
    have hml : c.maxLocals = 4 := B.maxLocals_eq (hts0 _ List.mem_cons_self)
    have X₀ : Stand p l e room_1 s m #[Value.ref b] below meth c s₁ [] 0 0 := Stand.of_body B
    have hh0 : s₁.heap = s.heap := by rw [B.state]; rfl
    have hsz : scr.slots.size = xs.length := by rw [← Array.length_toList, hlist, List.length_map]
    have hval : ∀ j : Nat, j < xs.length → scr.slots[j]? = some (.int (xs.getD j 0)) := fun j hj => by
      rw [← Array.getElem?_toList, hlist]
      simp [hj]
    have hbl : b < s.heap.size := (Array.getElem?_eq_some_iff.mp hcb).1
    have hX : va_X b xs.length (fun j => xs.getD j 0) s s.heap := ⟨scr, hcb, hof, hkn, hsz, hval⟩
    have K : W p l e room_1 s m #[Value.ref b] below meth c s₁.heap [] 0 0 (lw_Z below #[Value.ref b] s) (entryFrame m ([Value.ref b] : List Value).toArray 4) := by
      rw [hh0]
      exact whole_start l hbd ⟨B.exec, B.bytes, B.returns, hml, hown, hts, hX, hbl, B.notSynchronized, hgv⟩
    obtain ⟨t, a1, o, b1, b2, b3⟩ := K s₁ rfl X₀
    exact ⟨t, o, a1, b1, b2, b3⟩
theorem lw_pre_spec {args : Array Value} {s : State} (h : (Jvm.Cond.and given_1 narrow_1).before args s = true) (hr : rest_1_c.before args s = true) : ∃ (b : Addr) (xs : List Int32), lw_P b xs args s := by
  have hs := flat_of_before _ h
  have hq := flat_of_before _ hr
  have hc : (Cond.count 1).before args s = true := hs _ (by decide +kernel)
  have harr : (Cond.arrayOf (.arg 0) .int).before args s = true := hs _ (by decide +kernel)
  have hle : (Cond.le (.length (.arg 0)) (.int 256)).before args s = true := hs _ (by decide +kernel)
  have hlen : (Cond.isInt (.length (.arg 0))).before args s = true := hq _ (by decide +kernel)
  have hall : (Cond.all (.arg 0) (.isInt (.elem (.arg 0) (.index 0)))).before args s = true := hq _ (by decide +kernel)
  obtain ⟨b, xs, hb, hx⟩ := State.ints_of_pre rfl harr hlen hall
  have hsm : xs.length < 2 ^ 31 := hx.choose_spec.2.2.2
  have hev : (Term.length (.arg 0)).eval args s none [] s = some (.int xs.length.toInt32) := hx.length_eval hb
  have hv := Cond.le_ints hev (show (Term.int 256).eval args s none [] s = some (.int 256) from rfl)
  have hd : xs.length.toInt32 ≤ 256 := by
    simpa [Cond.before, Cond.holds, hv] using hle
  have hN : xs.length ≤ 256 := (Int32.ofNat_le_ofNat hsm (by decide)).mp (show Int32.ofNat xs.length ≤ Int32.ofNat 256 from hd)
  exact ⟨b, xs, Cond.one_arg hc (show args[0]? = some (.ref b) from hb), hx, hN, h⟩
theorem lw_comes (l : Launch) : Comes l x (Jvm.Cond.code x code maxLocals ret :: tables_1) room_1 (fun tb e args s => Calls_1 tb e args s ∧ rest_1 tb e args s ∧ Pre_1 tb e args s)
    (fun _ _ args s o t => lw_Q args s o t) := by
  intro p e ha hc hk s m args below hf hfit hheap happ hpre
  obtain ⟨b, xs, hP⟩ := lw_pre_spec hpre.2.2 hpre.2.1
  obtain ⟨k, o, h1, h2, h3, hQ⟩ := lw_walk l b xs p e ha hc hk s m args below hf ((Spec.applies_iff_loose hf).mp happ).1 hP trivial
  exact ⟨k, o, h1, h2, h3, hQ⟩
theorem lw_frame {s t : State} {o : Outcome} {args : Array Value} (h : Framed s o t [] 600000 7290000) :
    Framed s o t (fieldLocs frame_1_writes args s ++ arrayLocs frame_1_arrays args s ++ staticLocs frame_1_statics s) 600000 7290000 := h
theorem lw_limb (L : Cond) (hL : ∀ (args : Array Value) (s t : State), L.after args s (.returned (some (.int 1))) t = true) :
    ArmFor flags0 classFile x code maxLocals ret World_1 tables_1 room_1 Calls_1 rest_1 Pre_1
      (fun tb e a s o t => postC L tb e a s o t ∧ Framed s o t (fieldLocs frame_1_writes a s ++ arrayLocs frame_1_arrays a s ++ staticLocs frame_1_statics s) 600000 7290000) := by
  intro l _ _ _ p e ha hc hk s m args below hf hfit hheap happ hpre
  obtain ⟨k, o, h1, h2, h3, rfl, hF⟩ := lw_comes l p e ha hc hk s m args below hf hfit hheap happ hpre
  exact ⟨k, _, h1, h2, h3, hL args s _, lw_frame hF⟩
theorem i_vc : Claimed_1_1 ∧ Claimed_1_2 := ⟨lw_limb limb_1_1 (fun args s t => by simp [limb_1_1, Cond.after, Cond.holds, Cond.value]), lw_limb limb_1_2 (fun args s t => Cond.after_iff.mpr (by
  first | (rw [show limb_1_2 = Cond.eq .result (.int 1) from rfl, Cond.eq_ints (x := 1) (y := 1) rfl rfl]; simp; done) | (simp [limb_1_2, Cond.value, Term.eval]; done)))⟩
end
