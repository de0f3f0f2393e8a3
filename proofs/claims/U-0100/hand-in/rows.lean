section
/-! base rows: the first ones are taken from the rows to paste (PURE-ROWS) -/
theorem pk_us {f : Nat → Int32} {k : Nat} {x : Int32} : upd f k x k = x := if_pos rfl
theorem pk_un {f : Nat → Int32} {k j : Nat} {x : Int32} (h : j ≠ k) : upd f k x j = f j := if_neg h
theorem pk_sub {a b : Nat} (h : b ≤ a) : nI a - nI b = nI (a - b) := by
  obtain ⟨c, rfl⟩ : ∃ c, a = c + b := ⟨a - b, by omega⟩
  rw [← nI_add, Int32.add_sub_cancel, Nat.add_sub_cancel]
theorem pk_m1 (n : Nat) : nI (n + 1) + (-1) = nI n := by
  rw [← nI_1, Int32.add_assoc, show (1 : Int32) + (-1) = 0 from rfl, Int32.add_zero]
theorem pk_mul (a b : Nat) : nI a * nI b = nI (a * b) := (Int32.ofNat_mul a b).symm
theorem pk_sub_toInt {a b : Nat} (ha : a < 2 ^ 30) (hb : b < 2 ^ 30) : (nI a - nI b).toInt = (a : Int) - b := by
  rw [Int32.toInt_sub, nI_toInt (by omega), nI_toInt (by omega)]
  exact Int.bmod_eq_of_le (by omega) (by omega)
theorem pk_sneg {a b : Nat} (hb : b < 2 ^ 30) (h : a < b) : nI a - nI b < 0 := by
  rw [Int32.lt_iff_toInt_lt, pk_sub_toInt (by omega) hb, show (0 : Int32).toInt = 0 from by decide]
  omega
theorem pk_ix (x : Int32) {n : Nat} (hn : n < 2 ^ 31) : x < 0 ∨ nI n ≤ x ∨ ∃ j : Nat, j < n ∧ x = nI j := by
  by_cases h : x < 0
  · exact Or.inl h
  · obtain ⟨j, hj, rfl⟩ := nI_of h
    by_cases h2 : j < n
    · exact Or.inr (Or.inr ⟨j, h2, rfl⟩)
    · exact Or.inr (Or.inl (nI_le (by omega) hj))
theorem pk_le {x y : Int32} {A B : Prop} (a b : Nat) (f : a ≤ b → A) (g : b < a → B) (hx : x = nI a := by rfl) (hy : y = nI b := by rfl) (ha : a < 2 ^ 31 := by omega) (hb : b < 2 ^ 31 := by omega) : (x ≤ y → A) ∧ (¬ x ≤ y → B) := by
  subst hx hy
  rw [nI_leI ha hb]
  exact ⟨f, fun z => g (by omega)⟩
theorem pk_lt {x y : Int32} {A B : Prop} (a b : Nat) (f : a < b → A) (g : b ≤ a → B) (hx : x = nI a := by rfl) (hy : y = nI b := by rfl) (ha : a < 2 ^ 31 := by omega) (hb : b < 2 ^ 31 := by omega) : (x < y → A) ∧ (¬ x < y → B) := by
  subst hx hy
  rw [nI_ltI ha hb]
  exact ⟨f, fun z => g (by omega)⟩
theorem pk_eq {x y : Int32} {A B : Prop} (a b : Nat) (f : a = b → A) (g : a ≠ b → B) (hx : x = nI a := by rfl) (hy : y = nI b := by rfl) (ha : a < 2 ^ 31 := by omega) (hb : b < 2 ^ 31 := by omega) : (x = y → A) ∧ (¬ x = y → B) := by
  subst hx hy
  rw [nI_eq ha hb]
  exact ⟨f, g⟩
theorem pk_in {x : Int32} (n N : Nat) (h : n < N) (hx : x = nI n := by rfl) (hN : N < 2 ^ 31 := by omega) : vp_in x N := by
  subst hx
  exact vp_in_nI h hN
theorem pk_cl {x : Int32} (n : Nat) (hx : x = nI n := by rfl) (h : n < 2 ^ 31 := by omega) : x.toNatClampNeg = n := by
  subst hx
  exact nI_clamp h
theorem pk_least (P : Nat → Prop) (h : ∃ k, P k) : ∃ k, P k ∧ ∀ j, j < k → ¬ P j := by
  obtain ⟨k, hk⟩ := h
  induction k using Nat.strongRecOn with
  | ind k ih =>
    by_cases e : ∃ j, j < k ∧ P j
    · obtain ⟨j, hj, pj⟩ := e
      exact ih j hj pj
    · exact ⟨k, hk, fun j hj pj => e ⟨j, hj, pj⟩⟩
theorem ek_if {c d A B : Prop} (e : c ↔ d) (f : d → A) (g : ¬ d → B) : (c → A) ∧ (¬ c → B) :=
  ⟨fun z => f (e.mp z), fun z => g (fun y => z (e.mpr y))⟩
theorem ek_v {α : Sort _} {P : α → Prop} {a b : α} (e : a = b) (h : P b) : P a := e ▸ h
theorem sb_cl0 : (0 : Int32).toNatClampNeg = 0 := by decide
theorem sb_m1 {p : Nat} (h : 0 < p) : nI p + (-1) = nI (p - 1) := by
  obtain ⟨q, rfl⟩ : ∃ q, p = q + 1 := ⟨p - 1, by omega⟩
  exact pk_m1 q
theorem sb_negT {w : Nat} (h : w < 2 ^ 31) : (-nI w).toInt = -(w : Int) := by
  rw [Int32.toInt_neg, nI_toInt h]
  exact Int.bmod_eq_of_le (by omega) (by omega)
/-! own rows: indices -/
theorem ib_lit (n : Nat) : (OfNat.ofNat n : Int32) = nI n := rfl
theorem ib_add {x y : Int32} (a b : Nat) (hx : x = nI a) (hy : y = nI b) : x + y = nI (a + b) := by
  rw [hx, hy, nI_add]
theorem ib_mul {x y : Int32} (a b : Nat) (hx : x = nI a) (hy : y = nI b) : x * y = nI (a * b) := by
  rw [hx, hy, pk_mul]
theorem ib_sub {x y : Int32} (a b : Nat) (h : b ≤ a) (hx : x = nI a) (hy : y = nI b) : x - y = nI (a - b) := by
  rw [hx, hy, pk_sub h]
theorem ib_inj {a b : Nat} (ha : a < 2 ^ 31) (hb : b < 2 ^ 31) (h : nI a = nI b) : a = b := (nI_eq ha hb).mp h
/-- s * 12 + j and its like -/
theorem ib_12 (s j : Nat) : nI s * 12 + nI j = nI (12 * s + j) := by
  rw [show (12 : Int32) = nI 12 from rfl, pk_mul, nI_add, Nat.mul_comm]
theorem ib_24 (s j : Nat) : nI s * 24 + nI j = nI (24 * s + j) := by
  rw [show (24 : Int32) = nI 24 from rfl, pk_mul, nI_add, Nat.mul_comm]
theorem ib_16 (s j : Nat) : nI s * 16 + nI j = nI (16 * s + j) := by
  rw [show (16 : Int32) = nI 16 from rfl, pk_mul, nI_add, Nat.mul_comm]
theorem ib_128 (s j : Nat) : nI s * 128 + nI j = nI (128 * s + j) := by
  rw [show (128 : Int32) = nI 128 from rfl, pk_mul, nI_add, Nat.mul_comm]
theorem ib_13 (s j : Nat) : nI s * 13 + nI j = nI (13 * s + j) := by
  rw [show (13 : Int32) = nI 13 from rfl, pk_mul, nI_add, Nat.mul_comm]
theorem ib_27 (s j : Nat) : nI s * 27 + nI j = nI (27 * s + j) := by
  rw [show (27 : Int32) = nI 27 from rfl, pk_mul, nI_add, Nat.mul_comm]
theorem ib_m8 (s : Nat) : nI s * 8 = nI (8 * s) := by
  rw [show (8 : Int32) = nI 8 from rfl, pk_mul, Nat.mul_comm]
theorem ib_m12 (s : Nat) : nI s * 12 = nI (12 * s) := by
  rw [show (12 : Int32) = nI 12 from rfl, pk_mul, Nat.mul_comm]
theorem ib_m27 (s : Nat) : nI s * 27 = nI (27 * s) := by
  rw [show (27 : Int32) = nI 27 from rfl, pk_mul, Nat.mul_comm]
theorem ib_m128 (s : Nat) : nI s * 128 = nI (128 * s) := by
  rw [show (128 : Int32) = nI 128 from rfl, pk_mul, Nat.mul_comm]
theorem ib_2m (s : Nat) : 2 * nI s = nI (2 * s) := by
  rw [show (2 : Int32) = nI 2 from rfl, pk_mul]
theorem ib_a (s k : Nat) : nI s + (OfNat.ofNat k : Int32) = nI (s + k) := by
  rw [ib_lit, nI_add]
theorem ib_c (s k : Nat) : (OfNat.ofNat k : Int32) + nI s = nI (k + s) := by
  rw [ib_lit, nI_add]
/-- reading at an index -/
theorem ib_at {x : Int32} (f : Nat → Int32) (n : Nat) (hx : x = nI n) (h : n < 2 ^ 31) : f x.toNatClampNeg = f n := by
  rw [hx, nI_clamp h]
theorem ib_up {x : Int32} (f : Nat → Int32) (v : Int32) (n : Nat) (hx : x = nI n) (h : n < 2 ^ 31) : upd f x.toNatClampNeg v = upd f n v := by
  rw [hx, nI_clamp h]
theorem ib_neg1 {n : Nat} (h : n < 2 ^ 31) : ¬ nI n = -1 := by
  intro e
  have h1 := congrArg Int32.toInt e
  rw [nI_toInt h, show (-1 : Int32).toInt = -1 from by decide] at h1
  omega
/-- a small integer: the column c stands for the diagonal c - 13 -/
def ib_k (c : Nat) : Int32 := nI c - 13
theorem ib_kT {c : Nat} (h : c < 2 ^ 30) : (ib_k c).toInt = (c : Int) - 13 :=
  pk_sub_toInt (b := 13) h (by decide)
theorem ib_k1 (c : Nat) : ib_k c + 1 = ib_k (c + 1) := by
  unfold ib_k
  rw [← nI_1, Int32.sub_eq_add_neg, Int32.sub_eq_add_neg, Int32.add_assoc, Int32.add_assoc, Int32.add_comm (-13) 1]
theorem ib_k13 (a c : Nat) : (nI a + 13) + ib_k c = nI (a + c) := by
  unfold ib_k
  rw [← nI_add, Int32.sub_eq_add_neg, Int32.add_assoc, Int32.add_comm (nI c), ← Int32.add_assoc 13, show (13 : Int32) + -13 = 0 from by decide, Int32.zero_add]
theorem ib_kneg {s : Nat} (h : s ≤ 13) : -nI s = ib_k (13 - s) := by
  apply Int32.toInt_inj.mp
  rw [sb_negT (by omega), ib_kT (by omega)]
  omega
theorem ib_kle {c n : Nat} (hc : c < 2 ^ 30) (hn : n < 2 ^ 30) : ib_k c ≤ nI n ↔ c ≤ n + 13 := by
  rw [Int32.le_iff_toInt_le, ib_kT hc, nI_toInt (by omega)]
  omega
theorem ib_klt {c n : Nat} (hc : c < 2 ^ 30) (hn : n < 2 ^ 30) : nI n < ib_k c ↔ n + 13 < c := by
  rw [Int32.lt_iff_toInt_lt, ib_kT hc, nI_toInt (by omega)]
  omega
theorem ib_kge {c : Nat} (h : 13 ≤ c) : ib_k c = nI (c - 13) := pk_sub (b := 13) h
theorem ib_keq {c d : Nat} (hc : c < 2 ^ 30) (hd : d < 2 ^ 30) : ib_k c = ib_k d ↔ c = d := by
  rw [← Int32.toInt_inj, ib_kT hc, ib_kT hd]
  omega
end
section
/-! the edit distance of two suffixes, and X's frontiers -/
def ed_D (A B : Nat → Int32) (b s : Nat) (i j : Nat) : Nat :=
  if h : i < b ∧ j < s then
    if A i = B j then ed_D A B b s (i + 1) (j + 1)
    else min (ed_D A B b s (i + 1) j) (ed_D A B b s i (j + 1)) + 1
  else (b - i) + (s - j)
termination_by (b - i) + (s - j)
decreasing_by all_goals omega
section
variable {A B : Nat → Int32} {b s : Nat}
theorem ed_end {i j : Nat} (h : ¬ (i < b ∧ j < s)) : ed_D A B b s i j = (b - i) + (s - j) := by
  conv => lhs; rw [ed_D]
  rw [dif_neg h]
theorem ed_eq {i j : Nat} (hi : i < b) (hj : j < s) (e : A i = B j) : ed_D A B b s i j = ed_D A B b s (i + 1) (j + 1) := by
  conv => lhs; rw [ed_D]
  rw [dif_pos ⟨hi, hj⟩, if_pos e]
theorem ed_ne {i j : Nat} (hi : i < b) (hj : j < s) (e : ¬ A i = B j) : ed_D A B b s i j = min (ed_D A B b s (i + 1) j) (ed_D A B b s i (j + 1)) + 1 := by
  conv => lhs; rw [ed_D]
  rw [dif_pos ⟨hi, hj⟩, if_neg e]
theorem ed_par0 : ∀ n i j : Nat, (b - i) + (s - j) ≤ n → i ≤ b → j ≤ s → (ed_D A B b s i j + (b - i) + (s - j)) % 2 = 0 := by
  intro n
  induction n with
  | zero =>
    intro i j h hi hj
    rw [ed_end (by omega)]
    omega
  | succ n ih =>
    intro i j h hi hj
    by_cases hh : i < b ∧ j < s
    · by_cases e : A i = B j
      · have h1 := ih (i + 1) (j + 1) (by omega) (by omega) (by omega)
        rw [ed_eq hh.1 hh.2 e]
        omega
      · have h1 := ih (i + 1) j (by omega) (by omega) (by omega)
        have h2 := ih i (j + 1) (by omega) (by omega) (by omega)
        rw [ed_ne hh.1 hh.2 e]
        omega
    · rw [ed_end hh]
      omega
theorem ed_par {i j : Nat} (hi : i ≤ b) (hj : j ≤ s) : (ed_D A B b s i j + (b - i) + (s - j)) % 2 = 0 := ed_par0 _ i j (Nat.le_refl _) hi hj
theorem ed_lip0 : ∀ n i j : Nat, (b - i) + (s - j) ≤ n → i ≤ b → j ≤ s →
    (i < b → ed_D A B b s i j ≤ ed_D A B b s (i + 1) j + 1 ∧ ed_D A B b s (i + 1) j ≤ ed_D A B b s i j + 1) ∧
    (j < s → ed_D A B b s i j ≤ ed_D A B b s i (j + 1) + 1 ∧ ed_D A B b s i (j + 1) ≤ ed_D A B b s i j + 1) := by
  intro n
  induction n with
  | zero =>
    intro i j h hi hj
    exact ⟨fun z => by omega, fun z => by omega⟩
  | succ n ih =>
    intro i j h hi hj
    by_cases hi' : i < b
    · by_cases hj' : j < s
      · have h1 := (ih (i + 1) j (by omega) (by omega) (by omega)).2 hj'
        have h2 := (ih i (j + 1) (by omega) (by omega) (by omega)).1 hi'
        by_cases e : A i = B j
        · rw [ed_eq hi' hj' e]
          exact ⟨fun _ => by omega, fun _ => by omega⟩
        · rw [ed_ne hi' hj' e]
          exact ⟨fun _ => by omega, fun _ => by omega⟩
      · rw [ed_end (i := i) (j := j) (by omega), ed_end (i := i + 1) (j := j) (by omega)]
        exact ⟨fun _ => by omega, fun _ => by omega⟩
    · rw [ed_end (i := i) (j := j) (by omega), ed_end (i := i) (j := j + 1) (by omega)]
      exact ⟨fun _ => by omega, fun _ => by omega⟩
theorem ed_lipI {i j : Nat} (hi : i < b) (hj : j ≤ s) : ed_D A B b s i j ≤ ed_D A B b s (i + 1) j + 1 ∧ ed_D A B b s (i + 1) j ≤ ed_D A B b s i j + 1 :=
  (ed_lip0 _ i j (Nat.le_refl _) (by omega) hj).1 hi
theorem ed_lipJ {i j : Nat} (hi : i ≤ b) (hj : j < s) : ed_D A B b s i j ≤ ed_D A B b s i (j + 1) + 1 ∧ ed_D A B b s i (j + 1) ≤ ed_D A B b s i j + 1 :=
  (ed_lip0 _ i j (Nat.le_refl _) hi (by omega)).2 hj
theorem ed_mono {i j : Nat} (hi : i < b) (hj : j < s) : ed_D A B b s (i + 1) (j + 1) ≤ ed_D A B b s i j := by
  have h1 := ed_lipJ (A := A) (B := B) (i := i + 1) (j := j) (b := b) (s := s) (by omega) hj
  have h2 := ed_lipI (A := A) (B := B) (i := i) (j := j + 1) (b := b) (s := s) hi (by omega)
  by_cases e : A i = B j
  · rw [ed_eq hi hj e]
    exact Nat.le_refl _
  · rw [ed_ne hi hj e]
    omega
theorem ed_diag {i j : Nat} : ∀ t : Nat, i + t ≤ b → j + t ≤ s → ed_D A B b s (i + t) (j + t) ≤ ed_D A B b s i j := by
  intro t
  induction t with
  | zero => intro _ _; exact Nat.le_refl _
  | succ t ih =>
    intro hi hj
    exact Nat.le_trans (ed_mono (i := i + t) (j := j + t) (by omega) (by omega)) (ih (by omega) (by omega))
theorem ed_le0 : ∀ n i j : Nat, (b - i) + (s - j) ≤ n → i ≤ b → j ≤ s → ed_D A B b s i j ≤ (b - i) + (s - j) ∧ b - i ≤ (s - j) + ed_D A B b s i j ∧ s - j ≤ (b - i) + ed_D A B b s i j := by
  intro n
  induction n with
  | zero =>
    intro i j h hi hj
    rw [ed_end (by omega)]
    omega
  | succ n ih =>
    intro i j h hi hj
    by_cases hh : i < b ∧ j < s
    · by_cases e : A i = B j
      · have h1 := ih (i + 1) (j + 1) (by omega) (by omega) (by omega)
        rw [ed_eq hh.1 hh.2 e]
        omega
      · have h1 := ih (i + 1) j (by omega) (by omega) (by omega)
        have h2 := ih i (j + 1) (by omega) (by omega) (by omega)
        rw [ed_ne hh.1 hh.2 e]
        omega
    · rw [ed_end hh]
      omega
theorem ed_le {i j : Nat} (hi : i ≤ b) (hj : j ≤ s) : ed_D A B b s i j ≤ (b - i) + (s - j) := (ed_le0 _ i j (Nat.le_refl _) hi hj).1
theorem ed_low {i j : Nat} (hi : i ≤ b) (hj : j ≤ s) : b - i ≤ (s - j) + ed_D A B b s i j ∧ s - j ≤ (b - i) + ed_D A B b s i j := (ed_le0 _ i j (Nat.le_refl _) hi hj).2
end
/-- d edits (or fewer, of the same parity) lead from (i, j) to the end -/
def fr_P (A B : Nat → Int32) (b s d i j : Nat) : Prop := ed_D A B b s i j ≤ d ∧ (ed_D A B b s i j + d) % 2 = 0
/-- m stands rightly in column c of frontier d -/
def fr_C (A B : Nat → Int32) (b s d c m : Nat) : Prop :=
  (m = 99 ∨ (m ≤ b ∧ c ≤ 13 + m ∧ 13 + m ≤ c + s)) ∧ ∀ i j, i ≤ b → j ≤ s → 13 + i = c + j → (m ≤ i ↔ fr_P A B b s d i j)
def fr_R (A B : Nat → Int32) (b s d : Nat) (g : Nat → Int32) : Prop := ∀ c, c < 27 → ∃ m, m ≤ 99 ∧ g c = nI m ∧ fr_C A B b s d c m
/-- the start of the slide on column c -/
def fr_st (m1 m0 c : Nat) : Nat :=
  let e1 := if m1 = 99 then 99 else m1 - 1
  let e2 := if m0 < e1 then m0 else e1
  if e2 < c - 13 then c - 13 else e2
section
variable {A B : Nat → Int32} {b s d : Nat}
theorem fr_nb1 {i j : Nat} (hi : i < b) (hj : j ≤ s) (hd : 1 ≤ d) (h : fr_P A B b s (d - 1) (i + 1) j) : fr_P A B b s d i j := by
  have l := ed_lipI (A := A) (B := B) hi hj
  have p1 := ed_par (A := A) (B := B) (i := i) (j := j) (b := b) (s := s) (by omega) hj
  have p2 := ed_par (A := A) (B := B) (i := i + 1) (j := j) (b := b) (s := s) (by omega) hj
  obtain ⟨h1, h2⟩ := h
  exact ⟨by omega, by omega⟩
theorem fr_nb2 {i j : Nat} (hi : i ≤ b) (hj : j < s) (hd : 1 ≤ d) (h : fr_P A B b s (d - 1) i (j + 1)) : fr_P A B b s d i j := by
  have l := ed_lipJ (A := A) (B := B) hi hj
  have p1 := ed_par (A := A) (B := B) (i := i) (j := j) (b := b) (s := s) hi (by omega)
  have p2 := ed_par (A := A) (B := B) (i := i) (j := j + 1) (b := b) (s := s) hi (by omega)
  obtain ⟨h1, h2⟩ := h
  exact ⟨by omega, by omega⟩
theorem fr_nb3 {i j : Nat} (hi : i < b) (hj : j ≤ s) (hd : 1 ≤ d) (h : fr_P A B b s (d - 1) i j) : fr_P A B b s d (i + 1) j := by
  have l := ed_lipI (A := A) (B := B) hi hj
  have p1 := ed_par (A := A) (B := B) (i := i) (j := j) (b := b) (s := s) (by omega) hj
  have p2 := ed_par (A := A) (B := B) (i := i + 1) (j := j) (b := b) (s := s) (by omega) hj
  obtain ⟨h1, h2⟩ := h
  exact ⟨by omega, by omega⟩
theorem fr_nb4 {i j : Nat} (hi : i ≤ b) (hj : j < s) (hd : 1 ≤ d) (h : fr_P A B b s (d - 1) i j) : fr_P A B b s d i (j + 1) := by
  have l := ed_lipJ (A := A) (B := B) hi hj
  have p1 := ed_par (A := A) (B := B) (i := i) (j := j) (b := b) (s := s) hi (by omega)
  have p2 := ed_par (A := A) (B := B) (i := i) (j := j + 1) (b := b) (s := s) hi (by omega)
  obtain ⟨h1, h2⟩ := h
  exact ⟨by omega, by omega⟩
/-- a difference at (i, j): one of the next points is one edit nearer -/
theorem fr_dn {i j : Nat} (hi : i < b) (hj : j < s) (e : ¬ A i = B j) (h : fr_P A B b s d i j) : 1 ≤ d ∧ (fr_P A B b s (d - 1) (i + 1) j ∨ fr_P A B b s (d - 1) i (j + 1)) := by
  have p1 := ed_par (A := A) (B := B) (i := i) (j := j) (b := b) (s := s) (by omega) (by omega)
  have p2 := ed_par (A := A) (B := B) (i := i) (j := j + 1) (b := b) (s := s) (by omega) (by omega)
  have p3 := ed_par (A := A) (B := B) (i := i + 1) (j := j) (b := b) (s := s) (by omega) (by omega)
  have q := ed_ne hi hj e
  obtain ⟨h1, h2⟩ := h
  refine ⟨by omega, ?_⟩
  by_cases k : ed_D A B b s (i + 1) j ≤ d - 1
  · exact Or.inl ⟨k, by omega⟩
  · exact Or.inr ⟨by omega, by omega⟩
theorem fr_dg {i j t : Nat} (hi : i + t ≤ b) (hj : j + t ≤ s) (h : fr_P A B b s d i j) : fr_P A B b s d (i + t) (j + t) := by
  have l := ed_diag (A := A) (B := B) t hi hj
  have p1 := ed_par (A := A) (B := B) (i := i) (j := j) (b := b) (s := s) (by omega) (by omega)
  have p2 := ed_par (A := A) (B := B) (i := i + t) (j := j + t) (b := b) (s := s) hi hj
  obtain ⟨h1, h2⟩ := h
  exact ⟨by omega, by omega⟩
/-- where a slide ends, the column is right -/
theorem fr_slide {c st m : Nat} (hb : b ≤ 12) (h1 : st ≤ b) (h2 : c ≤ 13 + st) (h3 : 13 + st ≤ c + s)
    (hP : fr_P A B b s d st (13 + st - c)) (hm : m ≤ st) (hmc : c ≤ 13 + m)
    (hrun : ∀ i, m ≤ i → i < st → A i = B (13 + i - c)) (hstop : m = c - 13 ∨ ¬ A (m - 1) = B (13 + (m - 1) - c))
    (H : ∀ i j, i < st → 13 + i = c + j → i < b → j < s → ¬ A i = B j → ¬ fr_P A B b s d i j) : fr_C A B b s d c m := by
  have run : ∀ t, t ≤ st - m → fr_P A B b s d (st - t) (13 + (st - t) - c) := by
    intro t
    induction t with
    | zero => intro _; exact hP
    | succ t ih =>
      intro ht
      have h := ih (by omega)
      have e := hrun (st - (t + 1)) (by omega) (by omega)
      have q := ed_eq (A := A) (B := B) (b := b) (s := s) (i := st - (t + 1)) (j := 13 + (st - (t + 1)) - c) (by omega) (by omega) e
      rw [show st - (t + 1) + 1 = st - t by omega, show 13 + (st - (t + 1)) - c + 1 = 13 + (st - t) - c by omega] at q
      unfold fr_P
      rw [q]
      exact h
  refine ⟨Or.inr ⟨by omega, hmc, by omega⟩, fun i j hi hj hij => ⟨fun hmi => ?_, fun hp => ?_⟩⟩
  · by_cases k : st ≤ i
    · have h := fr_dg (t := i - st) (by omega) (by omega) hP
      rw [show st + (i - st) = i by omega, show 13 + st - c + (i - st) = j by omega] at h
      exact h
    · have h := run (st - i) (by omega)
      rw [show st - (st - i) = i by omega, show 13 + i - c = j by omega] at h
      exact h
  · refine Nat.not_lt.mp fun k => ?_
    have h := fr_dg (t := m - 1 - i) (by omega) (by omega) hp
    rw [show i + (m - 1 - i) = m - 1 by omega] at h
    rcases hstop with z | z
    · omega
    · refine H (m - 1) (13 + (m - 1) - c) (by omega) (by omega) (by omega) (by omega) z ?_
      rw [show 13 + (m - 1) - c = j + (m - 1 - i) by omega]
      exact h
/-- frontier 0: the end's own diagonal -/
theorem fr_0 {c m : Nat} (hb : b ≤ 12) (hc : c + s = 13 + b) (hm : m ≤ b) (hmc : c ≤ 13 + m)
    (hrun : ∀ i, m ≤ i → i < b → A i = B (13 + i - c)) (hstop : m = c - 13 ∨ ¬ A (m - 1) = B (13 + (m - 1) - c)) : fr_C A B b s 0 c m := by
  refine fr_slide (st := b) hb (Nat.le_refl _) (by omega) (by omega) ?_ hm hmc hrun hstop ?_
  · have q := ed_end (A := A) (B := B) (b := b) (s := s) (i := b) (j := 13 + b - c) (by omega)
    exact ⟨by omega, by omega⟩
  · intro i j _ _ hi hj e hp
    have := (fr_dn hi hj e hp).1
    omega
/-- frontier 0: the other diagonals -/
theorem fr_0n {c : Nat} (hb : b ≤ 12) (hc : ¬ c + s = 13 + b) : fr_C A B b s 0 c 99 := by
  refine ⟨Or.inl rfl, fun i j hi hj hij => ⟨fun h => by omega, fun hp => ?_⟩⟩
  have l := ed_low (A := A) (B := B) hi hj
  have := hp.1
  omega
/-- a column outside the grid -/
theorem fr_out {c : Nat} (hb : b ≤ 12) (hc : c + s < 13 ∨ 13 + b < c) : fr_C A B b s d c 99 := by
  refine ⟨Or.inl rfl, fun i j hi hj hij => ⟨fun h => by omega, fun hp => ?_⟩⟩
  omega
theorem fr_st_le {m1 m0 c i : Nat} (hi : i ≤ 12) (hc : c ≤ 13 + i) (h : m1 ≤ i + 1 ∨ m0 ≤ i) : fr_st m1 m0 c ≤ i := by
  have h1 : (if m1 = 99 then 99 else m1 - 1) ≤ i ∨ m0 ≤ i := by
    rcases h with z | z
    · left
      rw [if_neg (by omega)]
      omega
    · exact Or.inr z
  unfold fr_st
  dsimp only
  generalize (if m1 = 99 then 99 else m1 - 1) = e at *
  by_cases k : m0 < e
  · rw [if_pos k]
    split <;> omega
  · rw [if_neg k]
    split <;> omega
/-- frontier d, no start: the column holds no point -/
theorem fr_none {c m1 m0 : Nat} (hb : b ≤ 12) (hd : 1 ≤ d) (hbs : 1 ≤ b + s) (h1 : fr_C A B b s (d - 1) (c + 1) m1) (h0 : fr_C A B b s (d - 1) (c - 1) m0) (hc : 1 ≤ c)
    (hst : m1 = 99 ∧ m0 = 99) : fr_C A B b s d c 99 := by
  refine ⟨Or.inl rfl, fun i j hi hj hij => ⟨fun h => by omega, fun hp => ?_⟩⟩
  exfalso
  have nx : ∀ i' j', i' ≤ b → j' ≤ s → (13 + i' = c + 1 + j' ∨ 13 + i' = c - 1 + j') → ¬ fr_P A B b s (d - 1) i' j' := by
    intro i' j' hi' hj' hd' hp'
    rcases hd' with z | z
    · have := (h1.2 i' j' hi' hj' z).mpr hp'
      omega
    · have := (h0.2 i' j' hi' hj' z).mpr hp'
      omega
  obtain ⟨t, ht⟩ : ∃ t, t = min (b - i) (s - j) := ⟨_, rfl⟩
  have hp2 := fr_dg (t := t) (by omega) (by omega) hp
  obtain ⟨i', ei⟩ : ∃ i', i' = i + t := ⟨_, rfl⟩
  obtain ⟨j', ej⟩ : ∃ j', j' = j + t := ⟨_, rfl⟩
  rw [← ei, ← ej] at hp2
  have q := ed_end (A := A) (B := B) (b := b) (s := s) (i := i') (j := j') (by omega)
  obtain ⟨g1, g2⟩ := hp2
  by_cases kb : i' < b
  · refine nx (i' + 1) j' (by omega) (by omega) (by omega) ?_
    have q2 := ed_end (A := A) (B := B) (b := b) (s := s) (i := i' + 1) (j := j') (by omega)
    exact ⟨by omega, by omega⟩
  · by_cases ks : j' < s
    · refine nx i' (j' + 1) (by omega) (by omega) (by omega) ?_
      have q2 := ed_end (A := A) (B := B) (b := b) (s := s) (i := i') (j := j' + 1) (by omega)
      exact ⟨by omega, by omega⟩
    · by_cases kb0 : 1 ≤ b
      · refine nx (i' - 1) j' (by omega) (by omega) (by omega) ?_
        have q2 := ed_end (A := A) (B := B) (b := b) (s := s) (i := i' - 1) (j := j') (by omega)
        exact ⟨by omega, by omega⟩
      · refine nx i' (j' - 1) (by omega) (by omega) (by omega) ?_
        have q2 := ed_end (A := A) (B := B) (b := b) (s := s) (i := i') (j := j' - 1) (by omega)
        exact ⟨by omega, by omega⟩
/-- frontier d: the start is a point that d edits lead from, and no difference in front of it is one -/
theorem fr_step {c m1 m0 : Nat} (hb : b ≤ 12) (hd : 1 ≤ d) (h1 : fr_C A B b s (d - 1) (c + 1) m1) (h0 : fr_C A B b s (d - 1) (c - 1) m0)
    (hc : 1 ≤ c) (hcs : 13 ≤ c + s) (hcb : c ≤ 13 + b) (hst : ¬ (m1 = 99 ∧ m0 = 99)) :
    fr_st m1 m0 c ≤ b ∧ c ≤ 13 + fr_st m1 m0 c ∧ 13 + fr_st m1 m0 c ≤ c + s ∧ fr_P A B b s d (fr_st m1 m0 c) (13 + fr_st m1 m0 c - c) ∧
    (∀ i j, i < fr_st m1 m0 c → 13 + i = c + j → i < b → j < s → ¬ A i = B j → ¬ fr_P A B b s d i j) := by
  have H : ∀ i j, i < fr_st m1 m0 c → 13 + i = c + j → i < b → j < s → ¬ A i = B j → ¬ fr_P A B b s d i j := by
    intro i j hi hij hib hjs e hp
    have k : fr_st m1 m0 c ≤ i := by
      refine fr_st_le (by omega) (by omega) ?_
      rcases (fr_dn hib hjs e hp).2 with z | z
      · exact Or.inl ((h1.2 (i + 1) j (by omega) (by omega) (by omega)).mpr z)
      · exact Or.inr ((h0.2 i (j + 1) (by omega) (by omega) (by omega)).mpr z)
    omega
  have main : ∀ st, st = fr_st m1 m0 c → st ≤ b ∧ c ≤ 13 + st ∧ 13 + st ≤ c + s ∧ fr_P A B b s d st (13 + st - c) := by
    intro st est
    unfold fr_st at est
    dsimp only at est
    have v1 : m1 = 99 ∨ (m1 ≤ b ∧ c + 1 ≤ 13 + m1 ∧ 13 + m1 ≤ c + 1 + s) := h1.1
    have v0 : m0 = 99 ∨ (m0 ≤ b ∧ c - 1 ≤ 13 + m0 ∧ 13 + m0 ≤ c - 1 + s) := h0.1
    by_cases k0 : m0 < (if m1 = 99 then 99 else m1 - 1)
    · rw [if_pos k0] at est
      have n0 : m0 ≤ b ∧ c - 1 ≤ 13 + m0 ∧ 13 + m0 ≤ c - 1 + s := by
        rcases v0 with z | z
        · exfalso
          split at k0 <;> omega
        · exact z
      have p0 := (h0.2 m0 (13 + m0 - (c - 1)) (by omega) (by omega) (by omega)).mp (Nat.le_refl _)
      by_cases kc : m0 < c - 13
      · rw [if_pos kc] at est
        have e1 : st = m0 + 1 := by omega
        refine ⟨by omega, by omega, by omega, ?_⟩
        rw [show 13 + st - c = 13 + m0 - (c - 1) by omega, e1]
        exact fr_nb3 (by omega) (by omega) hd p0
      · rw [if_neg kc] at est
        refine ⟨by omega, by omega, by omega, ?_⟩
        rw [est]
        refine fr_nb2 (by omega) (by omega) hd ?_
        rw [show 13 + m0 - c + 1 = 13 + m0 - (c - 1) by omega]
        exact p0
    · rw [if_neg k0] at est
      have n1 : m1 ≠ 99 := by
        intro z
        rw [if_pos z] at k0
        rcases v0 with y | y
        · exact hst ⟨z, y⟩
        · omega
      rw [if_neg n1] at est
      have w1 : m1 ≤ b ∧ c + 1 ≤ 13 + m1 ∧ 13 + m1 ≤ c + 1 + s := by
        rcases v1 with z | z
        · exact absurd z n1
        · exact z
      have p1 := (h1.2 m1 (13 + m1 - (c + 1)) (by omega) (by omega) (by omega)).mp (Nat.le_refl _)
      rw [if_neg (by omega)] at est
      by_cases z1 : m1 = 0
      · refine ⟨by omega, by omega, by omega, ?_⟩
        rw [show st = m1 by omega, show 13 + m1 - c = 13 + m1 - (c + 1) + 1 by omega]
        exact fr_nb4 (by omega) (by omega) hd p1
      · refine ⟨by omega, by omega, by omega, ?_⟩
        refine fr_nb1 (by omega) (by omega) hd ?_
        rw [show st + 1 = m1 by omega, show 13 + st - c = 13 + m1 - (c + 1) by omega]
        exact p1
  obtain ⟨a1, a2, a3, a4⟩ := main _ rfl
  exact ⟨a1, a2, a3, a4, H⟩
theorem fr_st_none {m1 m0 c : Nat} (hc : c ≤ 25) (h1 : m1 ≤ 99) (h0 : m0 ≤ 99) : fr_st m1 m0 c = 99 ↔ m1 = 99 ∧ m0 = 99 := by
  have q : (if m1 = 99 then 99 else m1 - 1) = 99 ↔ m1 = 99 := by
    split <;> omega
  have q2 : (if m1 = 99 then 99 else m1 - 1) ≤ 99 := by
    split <;> omega
  unfold fr_st
  dsimp only
  generalize (if m1 = 99 then 99 else m1 - 1) = e at *
  by_cases k : m0 < e
  · rw [if_pos k]
    split <;> omega
  · rw [if_neg k]
    split <;> omega
/-- what chooseStep asks -/
theorem fr_ask {i j lf m : Nat} (hi : i < b) (hj : j < s) (hl : ed_D A B b s i j = lf + 1) (h : fr_C A B b s lf (13 + (i + 1) - j) m) (hj13 : j ≤ 13) :
    m ≤ i + 1 ↔ ed_D A B b s (i + 1) j + 1 = ed_D A B b s i j := by
  have l := ed_lipI (A := A) (B := B) (i := i) (j := j) hi (by omega : j ≤ s)
  have p1 := ed_par (A := A) (B := B) (i := i) (j := j) (b := b) (s := s) (by omega) (by omega)
  have p3 := ed_par (A := A) (B := B) (i := i + 1) (j := j) (b := b) (s := s) (by omega) (by omega)
  rw [h.2 (i + 1) j (by omega) (by omega) (by omega)]
  exact ⟨fun z => by have := z.1; omega, fun z => ⟨by omega, by omega⟩⟩
end
end
section
/-! the script, step by step: positions, steps, lines, matches -/
def sc_B (L : Nat → Int32) (sd : Nat) : Nat → Int32 := fun j => L (12 * sd + j)
def sc_op (A B : Nat → Int32) (b s i j : Nat) : Nat :=
  if i < b ∧ j < s ∧ A i = B j then 0 else if i < b ∧ ed_D A B b s (i + 1) j + 1 = ed_D A B b s i j then 1 else 2
def sc_p (A B : Nat → Int32) (b s : Nat) : Nat → Nat × Nat
  | 0 => (0, 0)
  | t + 1 => ((sc_p A B b s t).1 + (if sc_op A B b s (sc_p A B b s t).1 (sc_p A B b s t).2 = 2 then 0 else 1),
              (sc_p A B b s t).2 + (if sc_op A B b s (sc_p A B b s t).1 (sc_p A B b s t).2 = 1 then 0 else 1))
def sc_i (A B : Nat → Int32) (b s t : Nat) : Nat := (sc_p A B b s t).1
def sc_j (A B : Nat → Int32) (b s t : Nat) : Nat := (sc_p A B b s t).2
def sc_o (A B : Nat → Int32) (b s t : Nat) : Nat := sc_op A B b s (sc_i A B b s t) (sc_j A B b s t)
def sc_l (A B : Nat → Int32) (b s t : Nat) : Int32 := if sc_o A B b s t = 2 then B (sc_j A B b s t) else A (sc_i A B b s t)
/-- what the match of the base line of step t is -/
def sc_v (A B : Nat → Int32) (b s t : Nat) : Int32 := if sc_o A B b s t = 0 then nI (sc_j A B b s t) else -6
section
variable {A B : Nat → Int32} {b s : Nat}
theorem sc_iS (t : Nat) : sc_i A B b s (t + 1) = sc_i A B b s t + (if sc_o A B b s t = 2 then 0 else 1) := rfl
theorem sc_jS (t : Nat) : sc_j A B b s (t + 1) = sc_j A B b s t + (if sc_o A B b s t = 1 then 0 else 1) := rfl
theorem sc_op3 (i j : Nat) : sc_op A B b s i j = 0 ∨ sc_op A B b s i j = 1 ∨ sc_op A B b s i j = 2 := by
  unfold sc_op
  split
  · exact Or.inl rfl
  · split
    · exact Or.inr (Or.inl rfl)
    · exact Or.inr (Or.inr rfl)
theorem sc_o3 (t : Nat) : sc_o A B b s t = 0 ∨ sc_o A B b s t = 1 ∨ sc_o A B b s t = 2 := sc_op3 _ _
theorem sc_op_b {i j : Nat} (h : ¬ i < b) : sc_op A B b s i j = 2 := by
  unfold sc_op
  rw [if_neg (fun z => h z.1), if_neg (fun z => h z.1)]
theorem sc_op_s {i j : Nat} (h : i < b) (hj : ¬ j < s) : sc_op A B b s i j = 1 := by
  unfold sc_op
  have q1 := ed_end (A := A) (B := B) (b := b) (s := s) (i := i) (j := j) (by omega)
  have q2 := ed_end (A := A) (B := B) (b := b) (s := s) (i := i + 1) (j := j) (by omega)
  rw [if_neg (fun z => hj z.2.1), if_pos ⟨h, by omega⟩]
theorem sc_op_k {i j : Nat} (h : i < b) (hj : j < s) (e : A i = B j) : sc_op A B b s i j = 0 := by
  unfold sc_op
  rw [if_pos ⟨h, hj, e⟩]
theorem sc_op_d {i j : Nat} (h : i < b) (hj : j < s) (e : ¬ A i = B j) (q : ed_D A B b s (i + 1) j + 1 = ed_D A B b s i j) : sc_op A B b s i j = 1 := by
  unfold sc_op
  rw [if_neg (fun z => e z.2.2), if_pos ⟨h, q⟩]
theorem sc_op_n {i j : Nat} (e : ¬ (i < b ∧ j < s ∧ A i = B j)) (q : ¬ (i < b ∧ ed_D A B b s (i + 1) j + 1 = ed_D A B b s i j)) : sc_op A B b s i j = 2 := by
  unfold sc_op
  rw [if_neg e, if_neg q]
theorem sc_adv {i j : Nat} (hi : i ≤ b) (hj : j ≤ s) (h : i < b ∨ j < s) :
    (sc_op A B b s i j = 0 → i < b ∧ j < s ∧ A i = B j) ∧ (sc_op A B b s i j = 1 → i < b) ∧ (sc_op A B b s i j = 2 → j < s) := by
  by_cases k : i < b
  · by_cases k2 : j < s
    · by_cases e : A i = B j
      · exact ⟨fun _ => ⟨k, k2, e⟩, fun _ => k, fun _ => k2⟩
      · refine ⟨fun z => ?_, fun _ => k, fun _ => k2⟩
        unfold sc_op at z
        rw [if_neg (fun y => e y.2.2)] at z
        split at z <;> omega
    · have e := sc_op_s (A := A) (B := B) (b := b) (s := s) (j := j) k k2
      exact ⟨fun z => by omega, fun _ => k, fun z => by omega⟩
  · have e := sc_op_b (A := A) (B := B) (b := b) (s := s) (j := j) k
    exact ⟨fun z => by omega, fun z => by omega, fun _ => by omega⟩
/-- the edits that are left -/
theorem sc_left {i j : Nat} (hi : i ≤ b) (hj : j ≤ s) (h : i < b ∨ j < s) :
    ed_D A B b s (i + (if sc_op A B b s i j = 2 then 0 else 1)) (j + (if sc_op A B b s i j = 1 then 0 else 1)) + (if sc_op A B b s i j = 0 then 0 else 1) = ed_D A B b s i j := by
  by_cases k : i < b
  · by_cases k2 : j < s
    · by_cases e : A i = B j
      · rw [sc_op_k k k2 e, if_neg (by decide), if_neg (by decide), if_pos rfl, ed_eq k k2 e]
        rfl
      · by_cases q : ed_D A B b s (i + 1) j + 1 = ed_D A B b s i j
        · rw [sc_op_d k k2 e q, if_neg (by decide), if_pos rfl, if_neg (by decide)]
          exact q
        · rw [sc_op_n (fun z => e z.2.2) (fun z => q z.2), if_pos rfl, if_neg (by decide), if_neg (by decide)]
          have q2 := ed_ne k k2 e
          show ed_D A B b s i (j + 1) + 1 = _
          omega
    · have q1 := ed_end (A := A) (B := B) (b := b) (s := s) (i := i) (j := j) (by omega)
      have q2 := ed_end (A := A) (B := B) (b := b) (s := s) (i := i + 1) (j := j) (by omega)
      rw [sc_op_s k k2, if_neg (by decide), if_pos rfl, if_neg (by decide)]
      show ed_D A B b s (i + 1) j + 1 = _
      omega
  · have q1 := ed_end (A := A) (B := B) (b := b) (s := s) (i := i) (j := j) (by omega)
    have q2 := ed_end (A := A) (B := B) (b := b) (s := s) (i := i) (j := j + 1) (by omega)
    rw [sc_op_b k, if_pos rfl, if_neg (by decide), if_neg (by decide)]
    show ed_D A B b s i (j + 1) + 1 = _
    omega
theorem sc_mono1 (t : Nat) : sc_i A B b s t ≤ sc_i A B b s (t + 1) ∧ sc_j A B b s t ≤ sc_j A B b s (t + 1) ∧ sc_i A B b s t + sc_j A B b s t < sc_i A B b s (t + 1) + sc_j A B b s (t + 1) ∧ sc_i A B b s (t + 1) ≤ sc_i A B b s t + 1 ∧ sc_j A B b s (t + 1) ≤ sc_j A B b s t + 1 := by
  rw [sc_iS, sc_jS]
  rcases sc_o3 (A := A) (B := B) (b := b) (s := s) t with e | e | e
  · rw [e, if_neg (by decide), if_neg (by decide)]
    omega
  · rw [e, if_neg (by decide), if_pos rfl]
    omega
  · rw [e, if_pos rfl, if_neg (by decide)]
    omega
theorem sc_mono {t u : Nat} (h : t ≤ u) : sc_i A B b s t ≤ sc_i A B b s u ∧ sc_j A B b s t ≤ sc_j A B b s u ∧ sc_i A B b s t + sc_j A B b s t + (u - t) ≤ sc_i A B b s u + sc_j A B b s u := by
  obtain ⟨k, rfl⟩ : ∃ k, u = t + k := ⟨u - t, by omega⟩
  induction k with
  | zero => exact ⟨Nat.le_refl _, Nat.le_refl _, by simp⟩
  | succ k ih =>
    have h1 := ih (by omega)
    have h2 := sc_mono1 (A := A) (B := B) (b := b) (s := s) (t + k)
    have e : t + (k + 1) = t + k + 1 := by omega
    rw [e]
    omega
theorem sc_ex (A B : Nat → Int32) (b s : Nat) : ∃ N, N ≤ b + s ∧ sc_i A B b s N = b ∧ sc_j A B b s N = s := by
  refine Classical.byContradiction fun no => ?_
  have st : ∀ t, t ≤ b + s + 1 → sc_i A B b s t ≤ b ∧ sc_j A B b s t ≤ s := by
    intro t
    induction t with
    | zero => exact fun _ => ⟨Nat.zero_le _, Nat.zero_le _⟩
    | succ t ih =>
      intro ht
      obtain ⟨h1, h2⟩ := ih (by omega)
      have h3 : sc_i A B b s t < b ∨ sc_j A B b s t < s := by
        refine Classical.byContradiction fun k => ?_
        exact no ⟨t, by omega, by omega, by omega⟩
      obtain ⟨g0, g1, g2⟩ := sc_adv (A := A) (B := B) h1 h2 h3
      rw [sc_iS, sc_jS]
      rcases sc_o3 (A := A) (B := B) (b := b) (s := s) t with e | e | e
      · have := g0 e
        rw [e, if_neg (by decide), if_neg (by decide)]
        omega
      · have := g1 e
        rw [e, if_neg (by decide), if_pos rfl]
        omega
      · have := g2 e
        rw [e, if_pos rfl, if_neg (by decide)]
        omega
  have h1 := st (b + s + 1) (Nat.le_refl _)
  have h2 := (sc_mono (A := A) (B := B) (b := b) (s := s) (Nat.zero_le (b + s + 1))).2.2
  have e0 : sc_i A B b s 0 = 0 := rfl
  have e1 : sc_j A B b s 0 = 0 := rfl
  omega
end
/-- the length of the script -/
noncomputable def sc_n (A B : Nat → Int32) (b s : Nat) : Nat := Classical.choose (sc_ex A B b s)
section
variable {A B : Nat → Int32} {b s : Nat}
theorem sc_nE : sc_n A B b s ≤ b + s ∧ sc_i A B b s (sc_n A B b s) = b ∧ sc_j A B b s (sc_n A B b s) = s := Classical.choose_spec (sc_ex A B b s)
theorem sc_in {t : Nat} (h : t ≤ sc_n A B b s) : sc_i A B b s t ≤ b ∧ sc_j A B b s t ≤ s := by
  have h1 := sc_mono (A := A) (B := B) (b := b) (s := s) h
  have h2 := sc_nE (A := A) (B := B) (b := b) (s := s)
  omega
theorem sc_lt {t : Nat} (h : t < sc_n A B b s) : sc_i A B b s t < b ∨ sc_j A B b s t < s := by
  have h1 := sc_mono (A := A) (B := B) (b := b) (s := s) (t := t) (u := sc_n A B b s) (by omega)
  have h2 := sc_nE (A := A) (B := B) (b := b) (s := s)
  omega
/-- the walk has ended exactly at the length -/
theorem sc_endn {t : Nat} (h : t ≤ sc_n A B b s) : (sc_i A B b s t < b ∨ sc_j A B b s t < s) ↔ t < sc_n A B b s := by
  constructor
  · intro z
    refine Nat.not_le.mp fun k => ?_
    have e : t = sc_n A B b s := by omega
    have h2 := sc_nE (A := A) (B := B) (b := b) (s := s)
    rw [e] at z
    omega
  · exact sc_lt
theorem sc_at {t : Nat} (h : t < sc_n A B b s) : (sc_o A B b s t = 0 → sc_i A B b s t < b ∧ sc_j A B b s t < s ∧ A (sc_i A B b s t) = B (sc_j A B b s t)) ∧ (sc_o A B b s t = 1 → sc_i A B b s t < b) ∧ (sc_o A B b s t = 2 → sc_j A B b s t < s) := by
  have h1 := sc_in (A := A) (B := B) (b := b) (s := s) (t := t) (by omega)
  exact sc_adv h1.1 h1.2 (sc_lt h)
theorem sc_dl {t : Nat} (h : t < sc_n A B b s) : ed_D A B b s (sc_i A B b s (t + 1)) (sc_j A B b s (t + 1)) + (if sc_o A B b s t = 0 then 0 else 1) = ed_D A B b s (sc_i A B b s t) (sc_j A B b s t) := by
  have h1 := sc_in (A := A) (B := B) (b := b) (s := s) (t := t) (by omega)
  exact sc_left h1.1 h1.2 (sc_lt h)
theorem sc_dle {t : Nat} (h : t ≤ sc_n A B b s) : ed_D A B b s (sc_i A B b s t) (sc_j A B b s t) ≤ ed_D A B b s 0 0 := by
  induction t with
  | zero => exact Nat.le_refl _
  | succ t ih =>
    have h1 := ih (by omega)
    have h2 := sc_dl (A := A) (B := B) (b := b) (s := s) (t := t) (by omega)
    omega
/-- an earlier step that used up a base line used another one -/
theorem sc_ine {t u : Nat} (h : u < t) (hu : ¬ sc_o A B b s u = 2) : sc_i A B b s u < sc_i A B b s t := by
  have h1 := sc_mono (A := A) (B := B) (b := b) (s := s) (t := u + 1) (u := t) (by omega)
  have h2 := sc_iS (A := A) (B := B) (b := b) (s := s) u
  rw [if_neg hu] at h2
  omega
theorem sc_jne {t u : Nat} (h : u < t) (hu : ¬ sc_o A B b s u = 1) : sc_j A B b s u < sc_j A B b s t := by
  have h1 := sc_mono (A := A) (B := B) (b := b) (s := s) (t := u + 1) (u := t) (by omega)
  have h2 := sc_jS (A := A) (B := B) (b := b) (s := s) u
  rw [if_neg hu] at h2
  omega
/-- every base line is used up by some step -/
theorem sc_cov : ∀ t i : Nat, i < sc_i A B b s t → ∃ u, u < t ∧ ¬ sc_o A B b s u = 2 ∧ sc_i A B b s u = i := by
  intro t
  induction t with
  | zero =>
    intro i h
    have e0 : sc_i A B b s 0 = 0 := rfl
    omega
  | succ t ih =>
    intro i h
    by_cases k : i < sc_i A B b s t
    · obtain ⟨u, h1, h2, h3⟩ := ih i k
      exact ⟨u, by omega, h2, h3⟩
    · rw [sc_iS] at h
      by_cases e : sc_o A B b s t = 2
      · rw [if_pos e] at h
        omega
      · rw [if_neg e] at h
        exact ⟨t, by omega, e, by omega⟩
end
/-- the match of base line i after t steps -/
def sc_mt (A B : Nat → Int32) (b s : Nat) : Nat → Nat → Int32
  | 0, _ => 0
  | t + 1, i => if ¬ sc_o A B b s t = 2 ∧ sc_i A B b s t = i then sc_v A B b s t else sc_mt A B b s t i
noncomputable def sc_m (A B : Nat → Int32) (b s i : Nat) : Int32 := sc_mt A B b s (sc_n A B b s) i
section
variable {A B : Nat → Int32} {b s : Nat}
theorem sc_mtv : ∀ t u : Nat, u < t → ¬ sc_o A B b s u = 2 → sc_mt A B b s t (sc_i A B b s u) = sc_v A B b s u := by
  intro t
  induction t with
  | zero => intro u h; omega
  | succ t ih =>
    intro u h hu
    rw [sc_mt]
    by_cases k : u = t
    · subst k
      rw [if_pos ⟨hu, rfl⟩]
    · rw [if_neg]
      · exact ih u (by omega) hu
      · intro z
        have := sc_ine (A := A) (B := B) (b := b) (s := s) (t := t) (u := u) (by omega) hu
        omega
theorem sc_mv {u : Nat} (h : u < sc_n A B b s) (hu : ¬ sc_o A B b s u = 2) : sc_m A B b s (sc_i A B b s u) = sc_v A B b s u := sc_mtv _ u h hu
/-- an array that holds the steps' matches holds sc_m -/
theorem sc_mAll {f : Nat → Int32} (h : ∀ u, u < sc_n A B b s → ¬ sc_o A B b s u = 2 → f (sc_i A B b s u) = sc_v A B b s u) : ∀ i, i < b → f i = sc_m A B b s i := by
  intro i hi
  have hb := sc_nE (A := A) (B := B) (b := b) (s := s)
  obtain ⟨u, h1, h2, h3⟩ := sc_cov (A := A) (B := B) (b := b) (s := s) (sc_n A B b s) i (by omega)
  rw [← h3, h u h1 h2, sc_mv h1 h2]
/-- a match that isn't negative is a place of the other text -/
theorem sc_mpos {i : Nat} (hs : s ≤ 12) (hi : i < b) (h : ¬ sc_m A B b s i < 0) : ∃ u, u < sc_n A B b s ∧ sc_o A B b s u = 0 ∧ sc_i A B b s u = i ∧ sc_j A B b s u < s ∧ sc_m A B b s i = nI (sc_j A B b s u) := by
  have hb := sc_nE (A := A) (B := B) (b := b) (s := s)
  obtain ⟨u, h1, h2, h3⟩ := sc_cov (A := A) (B := B) (b := b) (s := s) (sc_n A B b s) i (by omega)
  have e := sc_mv h1 h2
  rw [h3] at e
  unfold sc_v at e
  by_cases k : sc_o A B b s u = 0
  · rw [if_pos k] at e
    exact ⟨u, h1, k, h3, ((sc_at h1).1 k).2.1, e⟩
  · rw [if_neg k] at e
    rw [e] at h
    exact absurd (by decide) h
theorem sc_mneg {i : Nat} (hs : s ≤ 12) (hi : i < b) : sc_m A B b s i < 0 ∨ ∃ q, q < s ∧ sc_m A B b s i = nI q := by
  by_cases h : sc_m A B b s i < 0
  · exact Or.inl h
  · obtain ⟨u, _, _, _, h4, h5⟩ := sc_mpos hs hi h
    exact Or.inr ⟨_, h4, h5⟩
/-- matches grow -/
theorem sc_mgrow {i i' q q' : Nat} (hs : s ≤ 12) (hi : i < b) (hi' : i' < b) (hq : q < 2 ^ 31) (hq' : q' < 2 ^ 31) (h : sc_m A B b s i = nI q) (h' : sc_m A B b s i' = nI q') (lt : i < i') : q < q' ∧ q' < s := by
  obtain ⟨u, a1, a2, a3, a4, a5⟩ := sc_mpos hs hi (by rw [h]; exact nI_pos hq)
  obtain ⟨u', c1, c2, c3, c4, c5⟩ := sc_mpos hs hi' (by rw [h']; exact nI_pos hq')
  have e1 := ib_inj (by omega) hq (a5.symm.trans h)
  have e2 := ib_inj (by omega) hq' (c5.symm.trans h')
  have k : u < u' := by
    refine Nat.not_le.mp fun z => ?_
    have := sc_mono (A := A) (B := B) (b := b) (s := s) z
    omega
  have := sc_jne (A := A) (B := B) (b := b) (s := s) k (by omega)
  omega
end
end
section
/-! which steps are shown, and the patch: cells, hunks, content -/
def sh_s (O : Nat → Nat) (N x t : Nat) : Bool := (List.range N).any (fun u => decide (O u ≠ 0 ∧ t ≤ u + x ∧ u ≤ t + x))
theorem sh_iff {O : Nat → Nat} {N x t : Nat} : sh_s O N x t = true ↔ ∃ u, u < N ∧ O u ≠ 0 ∧ t ≤ u + x ∧ u ≤ t + x := by
  unfold sh_s
  rw [List.any_eq_true]
  constructor
  · intro ⟨u, h1, h2⟩
    exact ⟨u, List.mem_range.mp h1, of_decide_eq_true h2⟩
  · intro ⟨u, h1, h2⟩
    exact ⟨u, List.mem_range.mpr h1, decide_eq_true h2⟩
/-- step t begins a hunk -/
def sh_b (S : Nat → Bool) (t : Nat) : Bool := S t && (t == 0 || !S (t - 1))
def pt_n (S : Nat → Bool) : Nat → Nat
  | 0 => 0
  | t + 1 => pt_n S t + (if sh_b S t = true then 5 else 0) + (if S t = true then 2 else 0)
def pt_hs (S : Nat → Bool) : Nat → Nat
  | 0 => 0
  | t + 1 => if sh_b S t = true then t else pt_hs S t
def pt_k (S : Nat → Bool) : Nat → Nat
  | 0 => 0
  | t + 1 => pt_k S t + (if sh_b S t = true then 1 else 0)
def pt_s (S : Nat → Bool) : Nat → Nat → Nat
  | 0, _ => 0
  | t + 1, h => if sh_b S t = true ∧ h = pt_k S t then t else pt_s S t h
/-- where the run of shown steps from u ends, t steps known -/
def pt_e (S : Nat → Bool) (u : Nat) : Nat → Nat
  | 0 => u
  | t + 1 => if t + 1 ≤ u then u else if pt_e S u t = t ∧ S t = true then t + 1 else pt_e S u t
/-- the cell of step u's own pair -/
def pt_c (S : Nat → Bool) (u : Nat) : Nat := pt_n S u + (if sh_b S u = true then 5 else 0)
def pt_open (G : Nat → Int32) (n : Nat) (i j : Int32) : Nat → Int32 := upd (upd (upd (upd (upd G n (-20)) (n + 1) i) (n + 2) 0) (n + 3) j) (n + 4) 0
def pt_2 (G : Nat → Int32) (n : Nat) (o l : Int32) : Nat → Int32 := upd (upd G n o) (n + 1) l
def pt_inc (G : Nat → Int32) (n : Nat) : Nat → Int32 := upd G n (G n + 1)
def pt_add (G : Nat → Int32) (n h o : Nat) (l : Int32) : Nat → Int32 :=
  if o = 1 then (if o = 2 then pt_2 G n (nI o) l else pt_inc (pt_2 G n (nI o) l) (h + 2))
  else pt_inc (if o = 2 then pt_2 G n (nI o) l else pt_inc (pt_2 G n (nI o) l) (h + 2)) (h + 4)
def pt_G1 (S : Nat → Bool) (I J : Nat → Nat) (t : Nat) (G : Nat → Int32) : Nat → Int32 := if sh_b S t = true then pt_open G (pt_n S t) (nI (I t)) (nI (J t)) else G
def pt_G (S : Nat → Bool) (O I J : Nat → Nat) (l : Nat → Int32) : Nat → Nat → Int32
  | 0 => fun _ => 0
  | t + 1 => if S t = true then pt_add (pt_G1 S I J t (pt_G S O I J l t)) (pt_c S t) (pt_n S (pt_hs S (t + 1))) (O t) (l t) else pt_G1 S I J t (pt_G S O I J l t)
section
variable {S : Nat → Bool}
theorem sh_bS {t : Nat} (h : sh_b S t = true) : S t = true ∧ (t = 0 ∨ S (t - 1) = false) := by
  unfold sh_b at h
  cases e : S t <;> cases e2 : S (t - 1) <;> rw [e, e2] at h <;> simp_all
theorem sh_bN {t : Nat} (h : ¬ sh_b S t = true) (hs : S t = true) : 1 ≤ t ∧ S (t - 1) = true := by
  unfold sh_b at h
  cases e2 : S (t - 1) <;> rw [hs, e2] at h <;> simp_all
  omega
theorem sh_b0 {t : Nat} (h : S t = false) : ¬ sh_b S t = true := by
  intro z
  have := (sh_bS z).1
  rw [h] at this
  cases this
theorem sh_bI {t : Nat} (h : S t = true) (h2 : t = 0 ∨ S (t - 1) = false) : sh_b S t = true := by
  unfold sh_b
  rw [h]
  rcases h2 with z | z
  · subst z; rfl
  · rw [z]; simp
theorem pt_nS (t : Nat) : pt_n S (t + 1) = pt_n S t + (if sh_b S t = true then 5 else 0) + (if S t = true then 2 else 0) := rfl
theorem pt_nc {t : Nat} (h : S t = true) : pt_n S (t + 1) = pt_c S t + 2 := by
  rw [pt_nS, if_pos h]
  rfl
theorem pt_n0 {t : Nat} (h : S t = false) : pt_n S (t + 1) = pt_n S t := by
  rw [pt_nS, if_neg (sh_b0 h), if_neg (by rw [h]; decide)]
  rfl
theorem pt_cn (u : Nat) : pt_n S u ≤ pt_c S u := Nat.le_add_right _ _
theorem pt_c5 {u : Nat} (h : sh_b S u = true) : pt_c S u = pt_n S u + 5 := by
  unfold pt_c
  rw [if_pos h]
theorem pt_c0 {u : Nat} (h : ¬ sh_b S u = true) : pt_c S u = pt_n S u := by
  unfold pt_c
  rw [if_neg h]
  rfl
theorem pt_mono {t u : Nat} (h : t ≤ u) : pt_n S t ≤ pt_n S u := by
  obtain ⟨k, rfl⟩ : ∃ k, u = t + k := ⟨u - t, by omega⟩
  induction k with
  | zero => exact Nat.le_refl _
  | succ k ih =>
    have h1 := ih (by omega)
    have h2 := pt_nS (S := S) (t + k)
    have e : t + (k + 1) = t + k + 1 := by omega
    rw [e]
    omega
theorem pt_after {u t : Nat} (h : u < t) (hs : S u = true) : pt_c S u + 2 ≤ pt_n S t := by
  rw [← pt_nc hs]
  exact pt_mono h
/-- hunks are few -/
theorem pt_few0 (t : Nat) : 2 * pt_k S t ≤ t + (if 1 ≤ t ∧ S (t - 1) = true then 1 else 0) ∧ pt_n S t ≤ 5 * pt_k S t + 2 * t := by
  induction t with
  | zero => exact ⟨by simp [pt_k], by simp [pt_n]⟩
  | succ t ih =>
    obtain ⟨h1, h2⟩ := ih
    have e : t + 1 - 1 = t := rfl
    rw [e, pt_nS]
    show 2 * (pt_k S t + (if sh_b S t = true then 1 else 0)) ≤ _ ∧ _ ≤ 5 * (pt_k S t + (if sh_b S t = true then 1 else 0)) + _
    by_cases hs : S t = true
    · by_cases hb : sh_b S t = true
      · have q := (sh_bS hb).2
        have k : ¬ (1 ≤ t ∧ S (t - 1) = true) := by
          intro z
          rcases q with q | q
          · omega
          · rw [q] at z
            exact absurd z.2 (by decide)
        rw [if_neg k] at h1
        rw [if_pos hb, if_pos hb, if_pos hs, if_pos ⟨by omega, hs⟩]
        omega
      · have q := sh_bN hb hs
        rw [if_pos q] at h1
        rw [if_neg hb, if_neg hb, if_pos hs, if_pos ⟨by omega, hs⟩]
        omega
    · have hb : ¬ sh_b S t = true := fun z => hs (sh_bS z).1
      rw [if_neg hb, if_neg hb, if_neg hs, if_neg (fun z => hs z.2)]
      split at h1 <;> omega
theorem pt_few {t : Nat} (h : t ≤ 24) : pt_k S t ≤ 12 ∧ pt_n S t ≤ 108 := by
  have h1 := pt_few0 (S := S) t
  split at h1 <;> omega
theorem pt_eS (u t : Nat) : pt_e S u (t + 1) = if t + 1 ≤ u then u else if pt_e S u t = t ∧ S t = true then t + 1 else pt_e S u t := rfl
theorem pt_el {u t : Nat} (h : t ≤ u) : pt_e S u t = u := by
  cases t with
  | zero => rfl
  | succ t => rw [pt_eS, if_pos h]
/-- the run: shown, and ended by a step that isn't -/
theorem pt_run (u : Nat) : ∀ t, u ≤ t → u ≤ pt_e S u t ∧ pt_e S u t ≤ t ∧ (∀ w, u ≤ w → w < pt_e S u t → S w = true) ∧ (pt_e S u t < t → S (pt_e S u t) = false) := by
  intro t
  induction t with
  | zero =>
    intro h
    rw [pt_el (by omega)]
    exact ⟨Nat.le_refl _, h, fun w h1 h2 => by omega, fun z => by omega⟩
  | succ t ih =>
    intro h
    by_cases k : u = t + 1
    · rw [pt_el (by omega)]
      exact ⟨Nat.le_refl _, h, fun w h1 h2 => by omega, fun z => by omega⟩
    · obtain ⟨h1, h2, h3, h4⟩ := ih (by omega)
      rw [pt_eS, if_neg (by omega)]
      by_cases z : pt_e S u t = t ∧ S t = true
      · rw [if_pos z]
        refine ⟨by omega, Nat.le_refl _, fun w g1 g2 => ?_, fun y => by omega⟩
        by_cases y : w = t
        · rw [y]; exact z.2
        · exact h3 w g1 (by omega)
      · rw [if_neg z]
        refine ⟨h1, by omega, h3, fun y => ?_⟩
        by_cases x : pt_e S u t < t
        · exact h4 x
        · have e : pt_e S u t = t := by omega
          rw [e]
          cases q : S t
          · rfl
          · exact absurd ⟨e, q⟩ z
theorem pt_hsS (t : Nat) : pt_hs S (t + 1) = if sh_b S t = true then t else pt_hs S t := rfl
/-- inside a hunk: its head, and that the run still goes on -/
theorem pt_cur : ∀ t, 1 ≤ t → S (t - 1) = true → sh_b S (pt_hs S t) = true ∧ pt_hs S t < t ∧ pt_e S (pt_hs S t) t = t ∧ (∀ u, u < t → sh_b S u = true → u ≤ pt_hs S t) := by
  intro t
  induction t with
  | zero => intro h; omega
  | succ t ih =>
    intro _ hs
    have hs : S t = true := hs
    rw [pt_hsS]
    by_cases hb : sh_b S t = true
    · rw [if_pos hb]
      refine ⟨hb, by omega, ?_, fun u h1 _ => by omega⟩
      rw [pt_eS, if_neg (by omega), pt_el (Nat.le_refl t), if_pos ⟨rfl, hs⟩]
    · rw [if_neg hb]
      obtain ⟨q1, q2⟩ := sh_bN hb hs
      obtain ⟨g1, g2, g3, g4⟩ := ih q1 q2
      refine ⟨g1, by omega, ?_, fun u h1 h2 => ?_⟩
      · rw [pt_eS, if_neg (by omega), g3, if_pos ⟨rfl, hs⟩]
      · by_cases e : u = t
        · rw [e] at h2; exact absurd h2 hb
        · exact g4 u (by omega) h2
/-- the run of an earlier hunk has ended -/
theorem pt_eold {u u' t : Nat} (h : u < u') (ht : u' ≤ t) (hb : sh_b S u' = true) : pt_e S u t < u' := by
  obtain ⟨h1, h2, h3, _⟩ := pt_run (S := S) u t (by omega)
  refine Nat.not_le.mp fun z => ?_
  have q := (sh_bS hb).2
  have := h3 (u' - 1) (by omega) (by omega)
  rcases q with q | q
  · omega
  · rw [q] at this; cases this
theorem pt_estay {u t : Nat} (h : u ≤ t) (z : ¬ (pt_e S u t = t ∧ S t = true)) : pt_e S u (t + 1) = pt_e S u t := by
  rw [pt_eS, if_neg (by omega), if_neg z]
end
/-- the cells, by steps and hunks -/
def pt_Lay (S : Nat → Bool) (O I J : Nat → Nat) (l : Nat → Int32) (t : Nat) (G : Nat → Int32) : Prop :=
  (∀ u, u < t → S u = true → G (pt_c S u) = nI (O u) ∧ G (pt_c S u + 1) = l u) ∧
  (∀ u, u < t → sh_b S u = true → G (pt_n S u + 1) = nI (I u) ∧ G (pt_n S u + 3) = nI (J u) ∧ G (pt_n S u + 2) = nI (I (pt_e S u t) - I u) ∧ G (pt_n S u + 4) = nI (J (pt_e S u t) - J u))
section
variable {S : Nat → Bool} {O I J : Nat → Nat} {l : Nat → Int32}
theorem pt_openL {t : Nat} {G : Nat → Int32} (hb : sh_b S t = true) (h : pt_Lay S O I J l t G) :
    (∀ u, u < t → S u = true → pt_open G (pt_n S t) (nI (I t)) (nI (J t)) (pt_c S u) = nI (O u) ∧ pt_open G (pt_n S t) (nI (I t)) (nI (J t)) (pt_c S u + 1) = l u) ∧
    (∀ u, u < t → sh_b S u = true → pt_open G (pt_n S t) (nI (I t)) (nI (J t)) (pt_n S u + 1) = nI (I u) ∧ pt_open G (pt_n S t) (nI (I t)) (nI (J t)) (pt_n S u + 3) = nI (J u) ∧ pt_open G (pt_n S t) (nI (I t)) (nI (J t)) (pt_n S u + 2) = nI (I (pt_e S u t) - I u) ∧ pt_open G (pt_n S t) (nI (I t)) (nI (J t)) (pt_n S u + 4) = nI (J (pt_e S u t) - J u)) ∧
    (pt_open G (pt_n S t) (nI (I t)) (nI (J t)) (pt_n S t + 1) = nI (I t) ∧ pt_open G (pt_n S t) (nI (I t)) (nI (J t)) (pt_n S t + 3) = nI (J t) ∧ pt_open G (pt_n S t) (nI (I t)) (nI (J t)) (pt_n S t + 2) = 0 ∧ pt_open G (pt_n S t) (nI (I t)) (nI (J t)) (pt_n S t + 4) = 0) := by
  have old : ∀ k, k < pt_n S t → pt_open G (pt_n S t) (nI (I t)) (nI (J t)) k = G k := by
    intro k hk
    unfold pt_open
    rw [pk_un (by omega), pk_un (by omega), pk_un (by omega), pk_un (by omega), pk_un (by omega)]
  refine ⟨fun u hu hs => ?_, fun u hu hs => ?_, ?_⟩
  · have a := pt_after (S := S) hu hs
    rw [old _ (by omega), old _ (by omega)]
    exact h.1 u hu hs
  · have a := pt_after (S := S) hu (sh_bS hs).1
    rw [pt_c5 hs] at a
    rw [old _ (by omega), old _ (by omega), old _ (by omega), old _ (by omega)]
    exact h.2 u hu hs
  · unfold pt_open
    refine ⟨?_, ?_, ?_, ?_⟩
    · rw [pk_un (by omega), pk_un (by omega), pk_un (by omega), pk_us]
    · rw [pk_un (by omega), pk_us]
    · rw [pk_un (by omega), pk_un (by omega), pk_us]
    · rw [pk_us]
theorem pt_addV {G : Nat → Int32} {n h o : Nat} {l : Int32} (ho : o = 0 ∨ o = 1 ∨ o = 2) (hh : h + 4 < n) :
    pt_add G n h o l n = nI o ∧ pt_add G n h o l (n + 1) = l ∧ pt_add G n h o l (h + 2) = G (h + 2) + nI (if o = 2 then 0 else 1) ∧ pt_add G n h o l (h + 4) = G (h + 4) + nI (if o = 1 then 0 else 1) ∧
    (∀ k, k ≠ n → k ≠ n + 1 → k ≠ h + 2 → k ≠ h + 4 → pt_add G n h o l k = G k) := by
  have e1 : nI 1 = 1 := rfl
  rcases ho with e | e | e
  · subst e
    unfold pt_add
    rw [if_neg (by decide), if_neg (by decide), if_neg (by decide), if_neg (by decide)]
    unfold pt_inc pt_2
    refine ⟨?_, ?_, ?_, ?_, fun k h1 h2 h3 h4 => ?_⟩
    · rw [pk_un (by omega), pk_un (by omega), pk_un (by omega), pk_us]
    · rw [pk_un (by omega), pk_un (by omega), pk_us]
    · rw [pk_un (by omega), pk_us, pk_un (by omega), pk_un (by omega), e1]
    · rw [pk_us, pk_un (by omega), pk_un (by omega), pk_un (by omega), e1]
    · rw [pk_un h4, pk_un h3, pk_un h2, pk_un h1]
  · subst e
    unfold pt_add
    rw [if_pos rfl, if_neg (by decide), if_neg (by decide), if_pos rfl, nI_0, Int32.add_zero]
    unfold pt_inc pt_2
    refine ⟨?_, ?_, ?_, ?_, fun k h1 h2 h3 h4 => ?_⟩
    · rw [pk_un (by omega), pk_un (by omega), pk_us]
    · rw [pk_un (by omega), pk_us]
    · rw [pk_us, pk_un (by omega), pk_un (by omega), e1]
    · rw [pk_un (by omega), pk_un (by omega), pk_un (by omega)]
    · rw [pk_un h3, pk_un h2, pk_un h1]
  · subst e
    unfold pt_add
    rw [if_neg (by decide), if_pos rfl, if_pos rfl, if_neg (by decide), nI_0, Int32.add_zero]
    unfold pt_inc pt_2
    refine ⟨?_, ?_, ?_, ?_, fun k h1 h2 h3 h4 => ?_⟩
    · rw [pk_un (by omega), pk_un (by omega), pk_us]
    · rw [pk_un (by omega), pk_us]
    · rw [pk_un (by omega), pk_un (by omega), pk_un (by omega)]
    · rw [pk_us, pk_un (by omega), pk_un (by omega), e1]
    · rw [pk_un h4, pk_un h2, pk_un h1]
/-- one shown step: G1 holds all but step t's own pair, the current hunk begins at v -/
theorem pt_addL {t v : Nat} {G1 : Nat → Int32} (hI : ∀ u, I (u + 1) = I u + (if O u = 2 then 0 else 1)) (hJ : ∀ u, J (u + 1) = J u + (if O u = 1 then 0 else 1)) (hO : ∀ u, O u = 0 ∨ O u = 1 ∨ O u = 2)
    (hs : S t = true) (hv : sh_b S v = true) (hvt : v ≤ t) (hve : pt_e S v t = t) (hI2 : I v ≤ I t) (hJ2 : J v ≤ J t) (hvh : pt_n S v + 5 ≤ pt_c S t) (hvl : ∀ u, u ≤ t → sh_b S u = true → u ≤ v)
    (h1 : ∀ u, u < t → S u = true → G1 (pt_c S u) = nI (O u) ∧ G1 (pt_c S u + 1) = l u)
    (h2 : ∀ u, u ≤ t → sh_b S u = true → G1 (pt_n S u + 1) = nI (I u) ∧ G1 (pt_n S u + 3) = nI (J u) ∧ G1 (pt_n S u + 2) = nI (I (pt_e S u t) - I u) ∧ G1 (pt_n S u + 4) = nI (J (pt_e S u t) - J u)) :
    pt_Lay S O I J l (t + 1) (pt_add G1 (pt_c S t) (pt_n S v) (O t) (l t)) := by
  obtain ⟨g1, g2, g3, g4, g5⟩ := pt_addV (G := G1) (n := pt_c S t) (h := pt_n S v) (o := O t) (l := l t) (hO t) (by omega)
  have cv := pt_c5 hv
  have vS := (sh_bS hv).1
  refine ⟨fun u hu hsu => ?_, fun u hu hbu => ?_⟩
  · by_cases e : u = t
    · subst e
      exact ⟨g1, g2⟩
    · have a := pt_after (S := S) (u := u) (t := t) (by omega) hsu
      have a2 := pt_cn (S := S) t
      have d : pt_c S u + 1 < pt_n S v ∨ pt_n S v + 5 ≤ pt_c S u := by
        by_cases k : u < v
        · exact Or.inl (by have := pt_after (S := S) k hsu; omega)
        · refine Or.inr ?_
          by_cases k2 : u = v
          · rw [k2, cv]; exact Nat.le_refl _
          · have := pt_after (S := S) (u := v) (t := u) (by omega) vS
            have := pt_cn (S := S) u
            omega
      rw [g5 _ (by omega) (by omega) (by omega) (by omega), g5 _ (by omega) (by omega) (by omega) (by omega)]
      exact h1 u (by omega) hsu
  · by_cases e : u = v
    · subst e
      obtain ⟨k1, k2, k3, k4⟩ := h2 u hvt hbu
      have e1 : pt_e S u (t + 1) = t + 1 := by rw [pt_eS, if_neg (by omega), hve, if_pos ⟨rfl, hs⟩]
      rw [hve] at k3 k4
      rw [e1, g3, g4, k3, k4, nI_add, nI_add, hI t, hJ t, g5 _ (by omega) (by omega) (by omega) (by omega), g5 _ (by omega) (by omega) (by omega) (by omega)]
      refine ⟨k1, k2, congrArg nI (by omega), congrArg nI (by omega)⟩
    · have uv : u < v := by have := hvl u (by omega) hbu; omega
      have a := pt_after (S := S) uv (sh_bS hbu).1
      rw [pt_c5 hbu] at a
      have a2 := pt_cn (S := S) t
      have e2 : pt_e S u (t + 1) = pt_e S u t := pt_estay (by omega) (fun z => by have := pt_eold (S := S) uv hvt hv; omega)
      rw [e2, g5 _ (by omega) (by omega) (by omega) (by omega), g5 _ (by omega) (by omega) (by omega) (by omega), g5 _ (by omega) (by omega) (by omega) (by omega), g5 _ (by omega) (by omega) (by omega) (by omega)]
      exact h2 u (by omega) hbu
theorem pt_Imono (hI : ∀ u, I (u + 1) = I u + (if O u = 2 then 0 else 1)) {t u : Nat} (h : t ≤ u) : I t ≤ I u := by
  obtain ⟨k, rfl⟩ : ∃ k, u = t + k := ⟨u - t, by omega⟩
  induction k with
  | zero => exact Nat.le_refl _
  | succ k ih =>
    have h1 := ih (by omega)
    have h2 := hI (t + k)
    have e : t + (k + 1) = t + k + 1 := by omega
    rw [e]
    omega
theorem pt_Jmono (hJ : ∀ u, J (u + 1) = J u + (if O u = 1 then 0 else 1)) {t u : Nat} (h : t ≤ u) : J t ≤ J u := by
  obtain ⟨k, rfl⟩ : ∃ k, u = t + k := ⟨u - t, by omega⟩
  induction k with
  | zero => exact Nat.le_refl _
  | succ k ih =>
    have h1 := ih (by omega)
    have h2 := hJ (t + k)
    have e : t + (k + 1) = t + k + 1 := by omega
    rw [e]
    omega
/-- the law of the patch's cells -/
theorem pt_law (hI : ∀ u, I (u + 1) = I u + (if O u = 2 then 0 else 1)) (hJ : ∀ u, J (u + 1) = J u + (if O u = 1 then 0 else 1)) (hO : ∀ u, O u = 0 ∨ O u = 1 ∨ O u = 2) : ∀ t, pt_Lay S O I J l t (pt_G S O I J l t) := by
  intro t
  induction t with
  | zero => exact ⟨fun u h => by omega, fun u h => by omega⟩
  | succ t ih =>
    rw [pt_G]
    by_cases hs : S t = true
    · rw [if_pos hs]
      by_cases hb : sh_b S t = true
      · unfold pt_G1
        rw [if_pos hb, pt_hsS, if_pos hb]
        obtain ⟨k1, k2, k3, k4, k5, k6⟩ := pt_openL hb ih
        refine pt_addL hI hJ hO hs hb (Nat.le_refl _) (pt_el (Nat.le_refl _)) (Nat.le_refl _) (Nat.le_refl _) (by rw [pt_c5 hb]; exact Nat.le_refl _) (fun u h _ => h) k1 (fun u hu hbu => ?_)
        by_cases e : u = t
        · subst e
          rw [pt_el (Nat.le_refl _), Nat.sub_self, Nat.sub_self]
          exact ⟨k3, k4, k5, k6⟩
        · exact k2 u (by omega) hbu
      · unfold pt_G1
        rw [if_neg hb, pt_hsS, if_neg hb]
        obtain ⟨q1, q2⟩ := sh_bN hb hs
        obtain ⟨c1, c2, c3, c4⟩ := pt_cur (S := S) t q1 q2
        have af := pt_after (S := S) c2 (sh_bS c1).1
        rw [pt_c5 c1] at af
        have a2 := pt_cn (S := S) t
        refine pt_addL hI hJ hO hs c1 (by omega) c3 (pt_Imono hI (by omega)) (pt_Jmono hJ (by omega)) (by omega) (fun u hu hbu => ?_) ih.1 (fun u hu hbu => ?_)
        · by_cases e : u = t
          · rw [e] at hbu; exact absurd hbu hb
          · exact c4 u (by omega) hbu
        · by_cases e : u = t
          · rw [e] at hbu; exact absurd hbu hb
          · exact ih.2 u (by omega) hbu
    · have hb : ¬ sh_b S t = true := fun z => hs (sh_bS z).1
      unfold pt_G1
      rw [if_neg hs, if_neg hb]
      refine ⟨fun u hu hsu => ?_, fun u hu hbu => ?_⟩
      · by_cases e : u = t
        · rw [e] at hsu; exact absurd hsu hs
        · exact ih.1 u (by omega) hsu
      · by_cases e : u = t
        · rw [e] at hbu; exact absurd hbu hb
        · rw [pt_estay (by omega) (fun z => hs z.2)]
          exact ih.2 u (by omega) hbu
/-- the hunks' first steps -/
theorem pt_st (t : Nat) : (∀ h, h < pt_k S t → sh_b S (pt_s S t h) = true ∧ pt_s S t h < t) ∧ (∀ h h', h < h' → h' < pt_k S t → pt_s S t h < pt_s S t h') ∧ (∀ u, u < t → sh_b S u = true → ∃ h, h < pt_k S t ∧ pt_s S t h = u) := by
  induction t with
  | zero => exact ⟨fun h z => absurd z (Nat.not_lt_zero _), fun h h' _ z => absurd z (Nat.not_lt_zero _), fun u z => by omega⟩
  | succ t ih =>
    obtain ⟨h1, h2, h3⟩ := ih
    by_cases hb : sh_b S t = true
    · have ek : pt_k S (t + 1) = pt_k S t + 1 := by
        show pt_k S t + (if sh_b S t = true then 1 else 0) = _
        rw [if_pos hb]
      have eo : ∀ h, h < pt_k S t → pt_s S (t + 1) h = pt_s S t h := by
        intro h hh
        rw [pt_s, if_neg (by omega)]
      have en : pt_s S (t + 1) (pt_k S t) = t := by rw [pt_s, if_pos ⟨hb, rfl⟩]
      rw [ek]
      refine ⟨fun h hh => ?_, fun h h' g1 g2 => ?_, fun u hu hbu => ?_⟩
      · by_cases e : h = pt_k S t
        · rw [e, en]; exact ⟨hb, by omega⟩
        · rw [eo h (by omega)]
          have := h1 h (by omega)
          exact ⟨this.1, by omega⟩
      · by_cases e : h' = pt_k S t
        · rw [e, en, eo h (by omega)]
          exact (h1 h (by omega)).2
        · rw [eo h (by omega), eo h' (by omega)]
          exact h2 h h' g1 (by omega)
      · by_cases e : u = t
        · exact ⟨pt_k S t, by omega, by rw [en, e]⟩
        · obtain ⟨h, g1, g2⟩ := h3 u (by omega) hbu
          exact ⟨h, by omega, by rw [eo h g1, g2]⟩
    · have ek : pt_k S (t + 1) = pt_k S t := by
        show pt_k S t + (if sh_b S t = true then 1 else 0) = _
        rw [if_neg hb]
        rfl
      have eo : ∀ h, pt_s S (t + 1) h = pt_s S t h := by
        intro h
        rw [pt_s, if_neg (fun z => hb z.1)]
      rw [ek]
      refine ⟨fun h hh => ?_, fun h h' g1 g2 => ?_, fun u hu hbu => ?_⟩
      · rw [eo]
        have := h1 h hh
        exact ⟨this.1, by omega⟩
      · rw [eo, eo]
        exact h2 h h' g1 g2
      · by_cases e : u = t
        · rw [e] at hbu; exact absurd hbu hb
        · obtain ⟨h, g1, g2⟩ := h3 u (by omega) hbu
          exact ⟨h, g1, by rw [eo, g2]⟩
end
/-- the first step of hunk h; behind the last one the script's end -/
def pt_q (S : Nat → Bool) (N h : Nat) : Nat := if h < pt_k S N then pt_s S N h else N
section
variable {S : Nat → Bool} {N : Nat}
theorem pt_qlt {h : Nat} (hh : h < pt_k S N) : sh_b S (pt_q S N h) = true ∧ pt_q S N h < pt_q S N (h + 1) ∧ pt_q S N (h + 1) ≤ N := by
  obtain ⟨h1, h2, h3⟩ := pt_st (S := S) N
  unfold pt_q
  rw [if_pos hh]
  have a := h1 h hh
  by_cases k : h + 1 < pt_k S N
  · rw [if_pos k]
    have c := h2 h (h + 1) (by omega) k
    have c2 := h1 (h + 1) k
    exact ⟨a.1, c, by omega⟩
  · rw [if_neg k]
    exact ⟨a.1, a.2, Nat.le_refl _⟩
/-- no hunk begins between -/
theorem pt_qno {h u : Nat} (hh : h < pt_k S N) (h1 : pt_q S N h < u) (h2 : u < pt_q S N (h + 1)) : ¬ sh_b S u = true := by
  intro hb
  obtain ⟨_, g2, g3⟩ := pt_st (S := S) N
  have hN := (pt_qlt hh).2.2
  obtain ⟨h', k1, k2⟩ := g3 u (by omega) hb
  unfold pt_q at h1 h2
  rw [if_pos hh] at h1
  have a : ¬ h' ≤ h := by
    intro z
    by_cases e : h' = h
    · subst e; omega
    · have := g2 h' h (by omega) hh
      omega
  by_cases k : h + 1 < pt_k S N
  · rw [if_pos k] at h2
    by_cases e : h' = h + 1
    · subst e; omega
    · have := g2 (h + 1) h' (by omega) k1
      omega
  · omega
theorem pt_q0 {u : Nat} (h : u < pt_q S N 0) : S u = false := by
  have no : ∀ u, u < pt_q S N 0 → ¬ sh_b S u = true := by
    intro u hu hb
    obtain ⟨g1, g2, g3⟩ := pt_st (S := S) N
    unfold pt_q at hu
    by_cases k : 0 < pt_k S N
    · rw [if_pos k] at hu
      have := (g1 0 k).2
      obtain ⟨h', k1, k2⟩ := g3 u (by omega) hb
      by_cases e : h' = 0
      · subst e; omega
      · have := g2 0 h' (by omega) k1
        omega
    · rw [if_neg k] at hu
      obtain ⟨h', k1, k2⟩ := g3 u hu hb
      omega
  induction u with
  | zero =>
    cases e : S 0
    · rfl
    · exact absurd (sh_bI e (Or.inl rfl)) (no 0 h)
  | succ u ih =>
    cases e : S (u + 1)
    · rfl
    · exact absurd (sh_bI e (Or.inr (ih (by omega)))) (no (u + 1) h)
theorem pt_qN : pt_q S N (pt_k S N) = N := by
  unfold pt_q
  rw [if_neg (by omega)]
/-- behind the run of hunk h nothing is shown up to the next one -/
theorem pt_qoff {h u : Nat} (hh : h < pt_k S N) (h1 : pt_e S (pt_q S N h) N ≤ u) (h2 : u < pt_q S N (h + 1)) : S u = false := by
  obtain ⟨a1, a2, a3⟩ := pt_qlt hh
  obtain ⟨r1, r2, r3, r4⟩ := pt_run (S := S) (pt_q S N h) N (by omega)
  obtain ⟨k, rfl⟩ : ∃ k, u = pt_e S (pt_q S N h) N + k := ⟨u - pt_e S (pt_q S N h) N, by omega⟩
  have es : pt_q S N h < pt_e S (pt_q S N h) N := by
    refine Nat.not_le.mp fun z => ?_
    have e : pt_e S (pt_q S N h) N = pt_q S N h := by omega
    have := r4 (by omega)
    rw [e, (sh_bS a1).1] at this
    cases this
  induction k with
  | zero => exact r4 (by omega)
  | succ k ih =>
    have q := ih (by omega) (by omega)
    cases e : S (pt_e S (pt_q S N h) N + (k + 1))
    · rfl
    · exact absurd (sh_bI e (Or.inr q)) (pt_qno hh (by omega) h2)
theorem pt_qe {h : Nat} (hh : h < pt_k S N) : pt_q S N h < pt_e S (pt_q S N h) N ∧ pt_e S (pt_q S N h) N ≤ pt_q S N (h + 1) := by
  obtain ⟨a1, a2, a3⟩ := pt_qlt hh
  obtain ⟨r1, r2, r3, r4⟩ := pt_run (S := S) (pt_q S N h) N (by omega)
  have es : pt_q S N h < pt_e S (pt_q S N h) N := by
    refine Nat.not_le.mp fun z => ?_
    have e : pt_e S (pt_q S N h) N = pt_q S N h := by omega
    have := r4 (by omega)
    rw [e, (sh_bS a1).1] at this
    cases this
  refine ⟨es, Nat.not_lt.mp fun z => ?_⟩
  by_cases k : h + 1 < pt_k S N
  · have c1 := (pt_qlt k).1
    have := pt_eold (S := S) a2 a3 c1
    omega
  · have e : pt_q S N (h + 1) = N := by
      unfold pt_q
      rw [if_neg k]
    omega
/-- the cells of hunk h end where the next one's begin -/
theorem pt_qn {h : Nat} (hh : h < pt_k S N) : pt_n S (pt_e S (pt_q S N h) N) = pt_n S (pt_q S N (h + 1)) := by
  obtain ⟨a1, a2⟩ := pt_qe hh
  have st : ∀ k, pt_e S (pt_q S N h) N + k ≤ pt_q S N (h + 1) → pt_n S (pt_e S (pt_q S N h) N + k) = pt_n S (pt_e S (pt_q S N h) N) := by
    intro k
    induction k with
    | zero => intro _; rfl
    | succ k ih =>
      intro hk
      have q := pt_qoff hh (u := pt_e S (pt_q S N h) N + k) (by omega) (by omega)
      rw [show pt_e S (pt_q S N h) N + (k + 1) = pt_e S (pt_q S N h) N + k + 1 by omega, pt_n0 q]
      exact ih (by omega)
  have := st (pt_q S N (h + 1) - pt_e S (pt_q S N h) N) (by omega)
  rw [show pt_e S (pt_q S N h) N + (pt_q S N (h + 1) - pt_e S (pt_q S N h) N) = pt_q S N (h + 1) by omega] at this
  exact this.symm
end
end
section
/-! the chunks by positions of the base, and the merged text -/
def ck_same (L : Nat → Int32) (a n c m : Nat) : Bool := decide (n = m) && (List.range n).all (fun k => decide (L (a + k) = L (c + k)))
theorem ck_same_iff {L : Nat → Int32} {a n c m : Nat} : ck_same L a n c m = true ↔ n = m ∧ ∀ k, k < n → L (a + k) = L (c + k) := by
  unfold ck_same
  rw [Bool.and_eq_true, List.all_eq_true, decide_eq_true_eq]
  exact ⟨fun h => ⟨h.1, fun k hk => of_decide_eq_true (h.2 k (List.mem_range.mpr hk))⟩, fun h => ⟨h.1, fun k hk => decide_eq_true (h.2 k (List.mem_range.mp hk))⟩⟩
/-- the kind of a gap: segments of base, left, right by start and length -/
def ck_kind (L : Nat → Int32) (x0 n0 x1 n1 x2 n2 : Nat) : Nat :=
  if ck_same L (12 + x1) n1 x0 n0 = true then 2 else if ck_same L (24 + x2) n2 x0 n0 = true then 1 else if ck_same L (12 + x1) n1 (24 + x2) n2 = true then 3 else 4
theorem ck_kind_pos (L : Nat → Int32) (x0 n0 x1 n1 x2 n2 : Nat) : 1 ≤ ck_kind L x0 n0 x1 n1 x2 n2 ∧ ck_kind L x0 n0 x1 n1 x2 n2 ≤ 4 := by
  unfold ck_kind
  split
  · omega
  · split
    · omega
    · split <;> omega
def ck_row (k x1 n1 x2 n2 x3 n3 : Nat) : Nat → Nat
  | 0 => k
  | 1 => x1
  | 2 => n1
  | 3 => x2
  | 4 => n2
  | 5 => x3
  | 6 => n3
  | _ => 0
def ck_put (T : Nat → Nat → Nat) (c : Nat) (r : Nat → Nat) : Nat → Nat → Nat := fun c' => if c' = c then r else T c'
theorem ck_puts {T : Nat → Nat → Nat} {c : Nat} {r : Nat → Nat} : ck_put T c r c = r := if_pos rfl
theorem ck_putn {T : Nat → Nat → Nat} {c c' : Nat} {r : Nat → Nat} (h : c' ≠ c) : ck_put T c r c' = T c' := if_neg h
/-- a stable chunk made longer by one -/
def ck_inc (r : Nat → Nat) : Nat → Nat := fun f => if f = 2 ∨ f = 4 ∨ f = 6 then r f + 1 else r f
abbrev ck_S : Type := Nat × (Nat → Nat → Nat) × Nat × Nat × Nat
def ck_isg (B0 L0 R0 p u v : Nat) : Bool := decide (B0 < p ∨ L0 < u ∨ R0 < v)
def ck_gr (L : Nat → Int32) (B0 L0 R0 p u v : Nat) : Nat → Nat := ck_row (ck_kind L B0 (p - B0) L0 (u - L0) R0 (v - R0)) B0 (p - B0) L0 (u - L0) R0 (v - R0)
/-- count and table behind the gap -/
def ck_gc (c : Nat) (g : Bool) : Nat := if g = true then c + 1 else c
def ck_gT (T : Nat → Nat → Nat) (c : Nat) (g : Bool) (r : Nat → Nat) : Nat → Nat → Nat := if g = true then ck_put T c r else T
/-- count and table behind the anchor -/
def ck_ac (c : Nat) (g : Bool) : Nat := if g = true ∨ c = 0 then ck_gc c g + 1 else c
def ck_aT (T : Nat → Nat → Nat) (c : Nat) (g : Bool) (r : Nat → Nat) (p u v : Nat) : Nat → Nat → Nat :=
  if g = true ∨ c = 0 then ck_put (ck_gT T c g r) (ck_gc c g) (ck_row 0 p 1 u 1 v 1) else ck_put T (c - 1) (ck_inc (T (c - 1)))
def ck_one (L : Nat → Int32) (b p : Nat) (cut : Bool) (u v : Nat) (s : ck_S) : ck_S :=
  if cut = true then
    (if p < b then (ck_ac s.1 (ck_isg s.2.2.1 s.2.2.2.1 s.2.2.2.2 p u v), ck_aT s.2.1 s.1 (ck_isg s.2.2.1 s.2.2.2.1 s.2.2.2.2 p u v) (ck_gr L s.2.2.1 s.2.2.2.1 s.2.2.2.2 p u v) p u v, p + 1, u + 1, v + 1)
     else (ck_gc s.1 (ck_isg s.2.2.1 s.2.2.2.1 s.2.2.2.2 p u v), ck_gT s.2.1 s.1 (ck_isg s.2.2.1 s.2.2.2.1 s.2.2.2.2 p u v) (ck_gr L s.2.2.1 s.2.2.2.1 s.2.2.2.2 p u v), p + 1, u + 1, v + 1))
  else s
def ck_st (L : Nat → Int32) (b : Nat) (ct : Nat → Bool) (q1 q2 : Nat → Nat) : Nat → ck_S
  | 0 => (0, fun _ _ => 0, 0, 0, 0)
  | p + 1 => ck_one L b p (ct p) (q1 p) (q2 p) (ck_st L b ct q1 q2 p)
/-- the cuts grow in all three texts -/
def ck_W (b l r : Nat) (ct : Nat → Bool) (q1 q2 : Nat → Nat) : Prop :=
  (∀ p, p ≤ b → ct p = true → q1 p ≤ l ∧ q2 p ≤ r ∧ (p < b → q1 p < l ∧ q2 p < r)) ∧
  (∀ p p', p < p' → p' ≤ b → ct p = true → ct p' = true → q1 p < q1 p' ∧ q2 p < q2 p')
/-- most cells that a chunk gives -/
def ck_w (r : Nat → Nat) : Nat := if r 0 = 4 then r 2 + r 4 + r 6 + 4 else if r 0 = 0 then r 2 else r 2 + r 4 + r 6
def ck_E (T : Nat → Nat → Nat) : Nat → Nat
  | 0 => 0
  | c + 1 => ck_E T c + ck_w (T c)
def ck_rows (b l r : Nat) (c : Nat) (T : Nat → Nat → Nat) : Prop := ∀ c', c' < c → T c' 1 + T c' 2 ≤ b ∧ T c' 3 + T c' 4 ≤ l ∧ T c' 5 + T c' 6 ≤ r ∧ T c' 0 ≤ 4
/-- at the head of the turn for position p -/
def ck_Inv (b l r : Nat) (ct : Nat → Bool) (q1 q2 : Nat → Nat) (p : Nat) (s : ck_S) : Prop :=
  s.2.2.1 ≤ p ∧ (∀ p', p ≤ p' → p' ≤ b → ct p' = true → s.2.2.2.1 ≤ q1 p' ∧ s.2.2.2.2 ≤ q2 p') ∧ s.1 ≤ 2 * s.2.2.1 ∧
  (0 < s.1 → s.2.1 (s.1 - 1) 0 = 0 ∧ s.2.1 (s.1 - 1) 1 + s.2.1 (s.1 - 1) 2 = s.2.2.1 ∧ s.2.1 (s.1 - 1) 3 + s.2.1 (s.1 - 1) 4 = s.2.2.2.1 ∧ s.2.1 (s.1 - 1) 5 + s.2.1 (s.1 - 1) 6 = s.2.2.2.2) ∧
  ck_rows b l r s.1 s.2.1 ∧ ck_E s.2.1 s.1 ≤ 3 * s.2.2.1 + s.2.2.2.1 + s.2.2.2.2
theorem ck_Ecg {T T' : Nat → Nat → Nat} : ∀ c, (∀ c', c' < c → T' c' = T c') → ck_E T' c = ck_E T c := by
  intro c
  induction c with
  | zero => intro _; rfl
  | succ c ih =>
    intro h
    rw [ck_E, ck_E, ih (fun c' hc => h c' (by omega)), h c (by omega)]
theorem ck_Eput {T : Nat → Nat → Nat} {c : Nat} {r : Nat → Nat} : ck_E (ck_put T c r) (c + 1) = ck_E T c + ck_w r := by
  rw [ck_E, ck_puts, ck_Ecg c (fun c' hc => ck_putn (by omega))]
theorem ck_rowsput {b l r c : Nat} {T : Nat → Nat → Nat} {ro : Nat → Nat} (h : ck_rows b l r c T) (h1 : ro 1 + ro 2 ≤ b ∧ ro 3 + ro 4 ≤ l ∧ ro 5 + ro 6 ≤ r ∧ ro 0 ≤ 4) : ck_rows b l r (c + 1) (ck_put T c ro) := by
  intro c' hc
  by_cases e : c' = c
  · rw [e, ck_puts]
    exact h1
  · rw [ck_putn e]
    exact h c' (by omega)
section
variable {L : Nat → Int32} {b l r : Nat} {ct : Nat → Bool} {q1 q2 : Nat → Nat}
theorem ck_wgr (L : Nat → Int32) (B0 L0 R0 p u v : Nat) : ck_w (ck_gr L B0 L0 R0 p u v) ≤ (p - B0) + (u - L0) + (v - R0) + 4 := by
  unfold ck_w ck_gr
  show (if ck_kind L B0 (p - B0) L0 (u - L0) R0 (v - R0) = 4 then (p - B0) + (u - L0) + (v - R0) + 4 else if ck_kind L B0 (p - B0) L0 (u - L0) R0 (v - R0) = 0 then (p - B0) else (p - B0) + (u - L0) + (v - R0)) ≤ _
  split
  · omega
  · split <;> omega
/-- behind the gap: rows and cells -/
theorem ck_gapI {p c B0 L0 R0 u v : Nat} {T : Nat → Nat → Nat} (hp : p ≤ b) (hB : B0 ≤ p) (hL : L0 ≤ u) (hR : R0 ≤ v) (hu : u ≤ l) (hv : v ≤ r) (hr : ck_rows b l r c T) (hE : ck_E T c ≤ 3 * B0 + L0 + R0) :
    ck_rows b l r (ck_gc c (ck_isg B0 L0 R0 p u v)) (ck_gT T c (ck_isg B0 L0 R0 p u v) (ck_gr L B0 L0 R0 p u v)) ∧ ck_E (ck_gT T c (ck_isg B0 L0 R0 p u v) (ck_gr L B0 L0 R0 p u v)) (ck_gc c (ck_isg B0 L0 R0 p u v)) ≤ 2 * B0 + p + u + v + 4 := by
  unfold ck_gc ck_gT
  by_cases g : ck_isg B0 L0 R0 p u v = true
  · rw [if_pos g, if_pos g]
    refine ⟨ck_rowsput hr ?_, ?_⟩
    · have k := (ck_kind_pos L B0 (p - B0) L0 (u - L0) R0 (v - R0)).2
      show B0 + (p - B0) ≤ b ∧ L0 + (u - L0) ≤ l ∧ R0 + (v - R0) ≤ r ∧ ck_kind L B0 (p - B0) L0 (u - L0) R0 (v - R0) ≤ 4
      omega
    · have k := ck_wgr L B0 L0 R0 p u v
      rw [ck_Eput]
      omega
  · rw [if_neg g, if_neg g]
    exact ⟨hr, by omega⟩
theorem ck_step {p : Nat} {s : ck_S} (hW : ck_W b l r ct q1 q2) (hp : p < b) (h : ck_Inv b l r ct q1 q2 p s) : ck_Inv b l r ct q1 q2 (p + 1) (ck_one L b p (ct p) (q1 p) (q2 p) s) := by
  obtain ⟨c, T, B0, L0, R0⟩ := s
  obtain ⟨h1, h2, h3, h4, h5, h6⟩ := h
  dsimp only at h1 h2 h3 h4 h5 h6
  unfold ck_one
  by_cases hc : ct p = true
  · rw [if_pos hc, if_pos hp]
    have w := (hW.1 p (by omega) hc).2.2 hp
    have hl := h2 p (Nat.le_refl _) (by omega) hc
    obtain ⟨g1, g2⟩ := ck_gapI (L := L) (p := p) (u := q1 p) (v := q2 p) (by omega) h1 hl.1 hl.2 (Nat.le_of_lt w.1) (Nat.le_of_lt w.2) h5 h6
    refine ⟨Nat.le_refl _, fun p' a1 a2 a3 => ?_, ?_, ?_, ?_, ?_⟩
    · exact hW.2 p p' (by omega) a2 hc a3
    · show ck_ac c _ ≤ 2 * (p + 1)
      unfold ck_ac ck_gc
      split
      · split <;> omega
      · omega
    · intro _
      show ck_aT T c _ _ p (q1 p) (q2 p) (ck_ac c _ - 1) 0 = 0 ∧ ck_aT T c _ _ p (q1 p) (q2 p) (ck_ac c _ - 1) 1 + ck_aT T c _ _ p (q1 p) (q2 p) (ck_ac c _ - 1) 2 = p + 1 ∧ ck_aT T c _ _ p (q1 p) (q2 p) (ck_ac c _ - 1) 3 + ck_aT T c _ _ p (q1 p) (q2 p) (ck_ac c _ - 1) 4 = q1 p + 1 ∧ ck_aT T c _ _ p (q1 p) (q2 p) (ck_ac c _ - 1) 5 + ck_aT T c _ _ p (q1 p) (q2 p) (ck_ac c _ - 1) 6 = q2 p + 1
      by_cases z : ck_isg B0 L0 R0 p (q1 p) (q2 p) = true ∨ c = 0
      · unfold ck_aT ck_ac
        rw [if_pos z, if_pos z, Nat.add_sub_cancel, ck_puts]
        exact ⟨rfl, rfl, rfl, rfl⟩
      · unfold ck_aT ck_ac
        rw [if_neg z, if_neg z, ck_puts]
        have ng : ¬ (B0 < p ∨ L0 < q1 p ∨ R0 < q2 p) := fun y => z (Or.inl (decide_eq_true y))
        obtain ⟨k1, k2, k3, k4⟩ := h4 (by omega)
        unfold ck_inc
        simp only [Nat.reduceEqDiff, or_self, or_true, or_false, true_or, false_or, if_true, if_false]
        exact ⟨k1, by omega, by omega, by omega⟩
    · show ck_rows b l r (ck_ac c _) (ck_aT T c _ _ p (q1 p) (q2 p))
      by_cases z : ck_isg B0 L0 R0 p (q1 p) (q2 p) = true ∨ c = 0
      · unfold ck_aT ck_ac
        rw [if_pos z, if_pos z]
        refine ck_rowsput g1 ?_
        show p + 1 ≤ b ∧ q1 p + 1 ≤ l ∧ q2 p + 1 ≤ r ∧ 0 ≤ 4
        omega
      · unfold ck_aT ck_ac
        rw [if_neg z, if_neg z]
        have ng : ¬ (B0 < p ∨ L0 < q1 p ∨ R0 < q2 p) := fun y => z (Or.inl (decide_eq_true y))
        obtain ⟨k1, k2, k3, k4⟩ := h4 (by omega)
        intro c' hc'
        by_cases e : c' = c - 1
        · rw [e, ck_puts]
          unfold ck_inc
          simp only [Nat.reduceEqDiff, or_self, or_true, or_false, true_or, false_or, if_true, if_false]
          omega
        · rw [ck_putn e]
          exact h5 c' hc'
    · show ck_E (ck_aT T c _ _ p (q1 p) (q2 p)) (ck_ac c _) ≤ 3 * (p + 1) + (q1 p + 1) + (q2 p + 1)
      dsimp only
      by_cases z : ck_isg B0 L0 R0 p (q1 p) (q2 p) = true ∨ c = 0
      · unfold ck_aT ck_ac
        rw [if_pos z, if_pos z, ck_Eput]
        have e : ck_w (ck_row 0 p 1 (q1 p) 1 (q2 p) 1) = 1 := rfl
        omega
      · unfold ck_aT ck_ac
        rw [if_neg z, if_neg z]
        obtain ⟨c, rfl⟩ : ∃ c', c = c' + 1 := ⟨c - 1, by omega⟩
        rw [Nat.add_sub_cancel, ck_Eput]
        rw [Nat.add_sub_cancel] at h4
        obtain ⟨k1, k2, k3, k4⟩ := h4 (by omega)
        have e : ck_w (ck_inc (T c)) = ck_w (T c) + 1 := by
          unfold ck_w ck_inc
          simp only [Nat.reduceEqDiff, or_self, or_true, or_false, true_or, false_or, if_true, if_false, k1]
        rw [ck_E] at h6
        omega
  · rw [if_neg hc]
    exact ⟨by dsimp only; omega, fun p' a1 a2 a3 => h2 p' (by omega) a2 a3, h3, h4, h5, h6⟩
theorem ck_inv (hW : ck_W b l r ct q1 q2) : ∀ p, p ≤ b → ck_Inv b l r ct q1 q2 p (ck_st L b ct q1 q2 p) := by
  intro p
  induction p with
  | zero =>
    intro _
    exact ⟨Nat.le_refl _, fun _ _ _ _ => ⟨Nat.zero_le _, Nat.zero_le _⟩, Nat.le_refl _, fun z => absurd z (Nat.lt_irrefl _), fun c' z => absurd z (Nat.not_lt_zero _), Nat.le_refl _⟩
  | succ p ih =>
    intro hp
    exact ck_step hW (by omega) (ih (by omega))
/-- the whole table -/
theorem ck_fin (hW : ck_W b l r ct q1 q2) (hb : ct b = true) : (ck_st L b ct q1 q2 (b + 1)).1 ≤ 2 * b + 1 ∧ ck_rows b l r (ck_st L b ct q1 q2 (b + 1)).1 (ck_st L b ct q1 q2 (b + 1)).2.1 ∧ ck_E (ck_st L b ct q1 q2 (b + 1)).2.1 (ck_st L b ct q1 q2 (b + 1)).1 ≤ 3 * b + l + r + 4 := by
  have h := ck_inv (L := L) hW b (Nat.le_refl _)
  rw [ck_st]
  generalize ck_st L b ct q1 q2 b = s at h
  obtain ⟨c, T, B0, L0, R0⟩ := s
  obtain ⟨h1, h2, h3, h4, h5, h6⟩ := h
  dsimp only at h1 h2 h3 h4 h5 h6
  have w := hW.1 b (Nat.le_refl _) hb
  have hl := h2 b (Nat.le_refl _) (Nat.le_refl _) hb
  obtain ⟨g1, g2⟩ := ck_gapI (L := L) (p := b) (u := q1 b) (v := q2 b) (Nat.le_refl _) h1 hl.1 hl.2 w.1 w.2.1 h5 h6
  unfold ck_one
  rw [if_pos hb, if_neg (Nat.lt_irrefl _)]
  refine ⟨?_, g1, ?_⟩
  · show ck_gc c _ ≤ 2 * b + 1
    unfold ck_gc
    split <;> omega
  · show ck_E (ck_gT T c _ _) (ck_gc c _) ≤ _
    dsimp only
    omega
end
/-! the merged text -/
def mg_seg (L : Nat → Int32) (a n : Nat) : List Int32 := (List.range n).map (fun k => L (a + k))
theorem mg_segl (L : Nat → Int32) (a n : Nat) : (mg_seg L a n).length = n := by
  unfold mg_seg
  rw [List.length_map, List.length_range]
theorem mg_segS (L : Nat → Int32) (a n : Nat) : mg_seg L a (n + 1) = mg_seg L a n ++ [L (a + n)] := by
  unfold mg_seg
  rw [List.range_succ, List.map_append]
  rfl
theorem mg_segcg {L L' : Nat → Int32} {a n : Nat} (h : ∀ k, k < n → L (a + k) = L' (a + k)) : mg_seg L a n = mg_seg L' a n := by
  unfold mg_seg
  exact List.map_congr_left (fun k hk => h k (List.mem_range.mp hk))
def mg_b (L : Nat → Int32) (r : Nat → Nat) : List Int32 := mg_seg L (r 1) (r 2)
def mg_l (L : Nat → Int32) (r : Nat → Nat) : List Int32 := mg_seg L (12 + r 3) (r 4)
def mg_r (L : Nat → Int32) (r : Nat → Nat) : List Int32 := mg_seg L (24 + r 5) (r 6)
def mg_mk (L : Nat → Int32) (r : Nat → Nat) : List Int32 := ((((([-11] ++ mg_l L r) ++ [-12]) ++ mg_b L r) ++ [-13]) ++ mg_r L r) ++ [-14]
def mg_cf (L : Nat → Int32) (r : Nat → Nat) (h : Int32) : List Int32 :=
  if h = 0 then mg_mk L r else if h = 3 then mg_b L r else if h = 1 then mg_l L r else if h = 4 then mg_l L r ++ mg_r L r else if h = 2 then mg_r L r else []
def mg_ch (L : Nat → Int32) (r : Nat → Nat) (h : Int32) : List Int32 :=
  if r 0 = 4 then mg_cf L r h else if r 0 = 0 then mg_b L r else if r 0 = 2 then mg_r L r else mg_l L r
def mg_all (L : Nat → Int32) (T : Nat → Nat → Nat) (ch : Nat → Int32) : Nat → List Int32
  | 0 => []
  | c + 1 => mg_all L T ch c ++ mg_ch L (T c) (ch c)
def mg_open (T : Nat → Nat → Nat) (ch : Nat → Int32) : Nat → Nat
  | 0 => 0
  | c + 1 => mg_open T ch c + (if T c 0 = 4 ∧ ch c = 0 then 1 else 0)
theorem mg_chl (L : Nat → Int32) (r : Nat → Nat) (h : Int32) : (mg_ch L r h).length ≤ ck_w r := by
  unfold mg_ch ck_w
  by_cases k : r 0 = 4
  · rw [if_pos k, if_pos k]
    unfold mg_cf mg_mk mg_b mg_l mg_r
    repeat' split
    all_goals simp only [List.length_append, mg_segl, List.length_cons, List.length_nil]
    all_goals omega
  · rw [if_neg k, if_neg k]
    unfold mg_b mg_l mg_r
    split
    · rw [mg_segl]; exact Nat.le_refl _
    · split <;> rw [mg_segl] <;> omega
theorem mg_alll (L : Nat → Int32) (T : Nat → Nat → Nat) (ch : Nat → Int32) : ∀ c, (mg_all L T ch c).length ≤ ck_E T c := by
  intro c
  induction c with
  | zero => exact Nat.le_refl _
  | succ c ih =>
    have h := mg_chl L (T c) (ch c)
    rw [mg_all, ck_E, List.length_append]
    omega
theorem mg_allmono (L : Nat → Int32) (T : Nat → Nat → Nat) (ch : Nat → Int32) {c c' : Nat} (h : c ≤ c') : (mg_all L T ch c).length ≤ (mg_all L T ch c').length := by
  obtain ⟨k, rfl⟩ : ∃ k, c' = c + k := ⟨c' - c, by omega⟩
  induction k with
  | zero => exact Nat.le_refl _
  | succ k ih =>
    have h1 := ih (by omega)
    rw [show c + (k + 1) = c + k + 1 by omega, mg_all, List.length_append]
    omega
theorem mg_opl (T : Nat → Nat → Nat) (ch : Nat → Int32) : ∀ c, mg_open T ch c ≤ c := by
  intro c
  induction c with
  | zero => exact Nat.le_refl _
  | succ c ih =>
    rw [mg_open]
    split <;> omega
/-! an array that begins with a list -/
def ls_A (a : Nat → Int32) (l : List Int32) : Prop := ∀ i, i < l.length → a i = l.getD i 0
theorem ls_nil (a : Nat → Int32) : ls_A a [] := fun i h => absurd h (Nat.not_lt_zero _)
theorem ls_add {a : Nat → Int32} {l : List Int32} (v : Int32) (h : ls_A a l) : ls_A (upd a l.length v) (l ++ [v]) := by
  intro i hi
  rw [List.length_append] at hi
  have e1 : [v].length = 1 := rfl
  by_cases e : i = l.length
  · subst e
    rw [pk_us, List.getD_eq_getElem?_getD, List.getElem?_append_right (Nat.le_refl _), Nat.sub_self]
    rfl
  · rw [pk_un e, h i (by omega), List.getD_eq_getElem?_getD, List.getD_eq_getElem?_getD, List.getElem?_append_left (by omega)]
/-! the cuts of a pair of matches -/
def ck_ct (M1 M2 : Nat → Int32) (b p : Nat) : Bool := decide (b ≤ p ∨ (¬ M1 p < 0 ∧ ¬ M2 p < 0))
def ck_q (M : Nat → Int32) (b s p : Nat) : Nat := if p < b then (M p).toNatClampNeg else s
theorem ck_qM {A B : Nat → Int32} {b s p : Nat} (hs : s ≤ 12) (hp : p < b) (h : ¬ sc_m A B b s p < 0) : sc_m A B b s p = nI (ck_q (sc_m A B b s) b s p) ∧ ck_q (sc_m A B b s) b s p < s := by
  obtain ⟨u, _, _, _, h4, h5⟩ := sc_mpos hs hp h
  unfold ck_q
  rw [if_pos hp, h5, nI_clamp (by omega)]
  exact ⟨rfl, h4⟩
theorem ck_qgrow {A B : Nat → Int32} {b s p p' : Nat} (hs : s ≤ 12) (hp' : p' ≤ b) (lt : p < p') (h : ¬ sc_m A B b s p < 0) (h' : p' < b → ¬ sc_m A B b s p' < 0) : ck_q (sc_m A B b s) b s p < ck_q (sc_m A B b s) b s p' := by
  obtain ⟨a1, a2⟩ := ck_qM hs (by omega : p < b) h
  by_cases e : p' < b
  · obtain ⟨c1, c2⟩ := ck_qM hs e (h' e)
    exact (sc_mgrow hs (by omega) e (by omega) (by omega) a1 c1 lt).1
  · have e2 : ck_q (sc_m A B b s) b s p' = s := if_neg e
    omega
theorem ck_Wm {A B1 B2 : Nat → Int32} {b l r : Nat} (hl : l ≤ 12) (hr : r ≤ 12) : ck_W b l r (ck_ct (sc_m A B1 b l) (sc_m A B2 b r) b) (ck_q (sc_m A B1 b l) b l) (ck_q (sc_m A B2 b r) b r) := by
  have cc : ∀ p, p < b → ck_ct (sc_m A B1 b l) (sc_m A B2 b r) b p = true → ¬ sc_m A B1 b l p < 0 ∧ ¬ sc_m A B2 b r p < 0 := by
    intro p hp h
    rcases of_decide_eq_true h with z | z
    · omega
    · exact z
  refine ⟨fun p hp hc => ?_, fun p p' lt hp' h h' => ?_⟩
  · by_cases e : p < b
    · obtain ⟨z1, z2⟩ := cc p e hc
      have a1 := (ck_qM hl e z1).2
      have a2 := (ck_qM hr e z2).2
      exact ⟨by omega, by omega, fun _ => ⟨a1, a2⟩⟩
    · have e1 : ck_q (sc_m A B1 b l) b l p = l := if_neg e
      have e2 : ck_q (sc_m A B2 b r) b r p = r := if_neg e
      exact ⟨by omega, by omega, fun z => absurd z e⟩
  · obtain ⟨z1, z2⟩ := cc p (by omega) h
    exact ⟨ck_qgrow hl hp' lt z1 (fun e => (cc p' e h').1), ck_qgrow hr hp' lt z2 (fun e => (cc p' e h').2)⟩
/-! chunks of three texts -/
noncomputable def ck_M1 (L : Nat → Int32) (b l : Nat) : Nat → Int32 := sc_m L (sc_B L 1) b l
noncomputable def ck_M2 (L : Nat → Int32) (b r : Nat) : Nat → Int32 := sc_m L (sc_B L 2) b r
noncomputable def ck_z (L : Nat → Int32) (b l r p : Nat) : ck_S := ck_st L b (ck_ct (ck_M1 L b l) (ck_M2 L b r) b) (ck_q (ck_M1 L b l) b l) (ck_q (ck_M2 L b r) b r) p
noncomputable def ck_n (L : Nat → Int32) (b l r : Nat) : Nat := (ck_z L b l r (b + 1)).1
noncomputable def ck_t (L : Nat → Int32) (b l r : Nat) : Nat → Nat → Nat := (ck_z L b l r (b + 1)).2.1
theorem ck_facts {L : Nat → Int32} {b l r : Nat} (hb : b ≤ 12) (hl : l ≤ 12) (hr : r ≤ 12) : ck_n L b l r ≤ 25 ∧ ck_rows b l r (ck_n L b l r) (ck_t L b l r) ∧ ck_E (ck_t L b l r) (ck_n L b l r) ≤ 64 := by
  obtain ⟨h1, h2, h3⟩ := ck_fin (L := L) (ck_Wm (A := L) (B1 := sc_B L 1) (B2 := sc_B L 2) (b := b) hl hr) (decide_eq_true (Or.inl (Nat.le_refl _)))
  exact ⟨by have := h1; unfold ck_n ck_z ck_M1 ck_M2; omega, h2, by have := h3; unfold ck_n ck_t ck_z ck_M1 ck_M2; omega⟩
end
section
/-! apply: F and P count the from-lines and the to-lines, sf is the shift, W the work text of w lines -/
def ap_Ok (S : Nat → Bool) (O F : Nat → Nat) (l W : Nat → Int32) (ad w : Nat) (sf : Int) (u : Nat) : Prop :=
  (sh_b S u = true → 0 ≤ (F u : Int) + sf ∧ (F u : Int) + sf ≤ w) ∧ (S u = true → O u ≠ ad → (F u : Int) + sf < w ∧ W ((F u : Int) + sf).toNat = l u)
def ap_Fit (S : Nat → Bool) (O F : Nat → Nat) (l W : Nat → Int32) (ad w : Nat) (sf : Int) (t : Nat) : Prop := ∀ u, u < t → ap_Ok S O F l W ad w sf u
/-- lines of the work text that are read -/
def ap_r (S : Nat → Bool) (O F : Nat → Nat) (ad : Nat) (sf : Int) : Nat → Nat
  | 0 => 0
  | t + 1 => if S t = true ∧ O t ≠ ad then ((F t : Int) + sf).toNat + 1 else if sh_b S t = true then max (ap_r S O F ad sf t) ((F t : Int) + sf).toNat else ap_r S O F ad sf t
/-- the cells: with the lines in front of a hunk, and with the step's own line -/
def ap_g (S : Nat → Bool) (F : Nat → Nat) (W : Nat → Int32) (sf : Int) (r t : Nat) : List Int32 := if sh_b S t = true then mg_seg W r (((F t : Int) + sf).toNat - r) else []
def ap_o (S : Nat → Bool) (O : Nat → Nat) (l : Nat → Int32) (tk t : Nat) : List Int32 := if S t = true ∧ O t ≠ tk then [l t] else []
def ap_L (S : Nat → Bool) (O F : Nat → Nat) (l W : Nat → Int32) (ad tk : Nat) (sf : Int) : Nat → List Int32
  | 0 => []
  | t + 1 => (ap_L S O F l W ad tk sf t ++ ap_g S F W sf (ap_r S O F ad sf t) t) ++ ap_o S O l tk t
def ap_fin (S : Nat → Bool) (O F : Nat → Nat) (l W : Nat → Int32) (ad tk w N : Nat) (sf : Int) : List Int32 :=
  ap_L S O F l W ad tk sf N ++ mg_seg W (ap_r S O F ad sf N) (w - ap_r S O F ad sf N)
/-- the to-lines of k shown steps from u on -/
def ap_to (O : Nat → Nat) (l : Nat → Int32) (tk u : Nat) : Nat → List Int32
  | 0 => []
  | k + 1 => ap_to O l tk u k ++ (if O (u + k) ≠ tk then [l (u + k)] else [])
section
variable {S : Nat → Bool} {O F P : Nat → Nat} {l W : Nat → Int32} {ad tk w N : Nat} {sf : Int}
theorem ap_LS (t : Nat) : ap_L S O F l W ad tk sf (t + 1) = (ap_L S O F l W ad tk sf t ++ ap_g S F W sf (ap_r S O F ad sf t) t) ++ ap_o S O l tk t := rfl
theorem ap_rS (t : Nat) : ap_r S O F ad sf (t + 1) = if S t = true ∧ O t ≠ ad then ((F t : Int) + sf).toNat + 1 else if sh_b S t = true then max (ap_r S O F ad sf t) ((F t : Int) + sf).toNat else ap_r S O F ad sf t := rfl
theorem ap_Lmono {t t' : Nat} (h : t ≤ t') : (ap_L S O F l W ad tk sf t).length ≤ (ap_L S O F l W ad tk sf t').length := by
  obtain ⟨k, rfl⟩ : ∃ k, t' = t + k := ⟨t' - t, by omega⟩
  induction k with
  | zero => exact Nat.le_refl _
  | succ k ih =>
    have h1 := ih (by omega)
    rw [show t + (k + 1) = t + k + 1 by omega, ap_LS, List.length_append, List.length_append]
    omega
theorem ap_gl {r t : Nat} (h : sh_b S t = true) : (ap_g S F W sf r t).length = ((F t : Int) + sf).toNat - r := by
  unfold ap_g
  rw [if_pos h, mg_segl]
theorem ap_gn {r t : Nat} (h : ¬ sh_b S t = true) : ap_g S F W sf r t = [] := if_neg h
theorem ap_Fmono (hF : ∀ u, F (u + 1) = F u + (if O u = ad then 0 else 1)) {t u : Nat} (h : t ≤ u) : F t ≤ F u := by
  obtain ⟨k, rfl⟩ : ∃ k, u = t + k := ⟨u - t, by omega⟩
  induction k with
  | zero => exact Nat.le_refl _
  | succ k ih =>
    have h1 := ih (by omega)
    have h2 := hF (t + k)
    rw [show t + (k + 1) = t + k + 1 by omega]
    omega
/-- what holds at the head of step t, all steps in front of it fitting -/
theorem ap_inv (hF : ∀ u, F (u + 1) = F u + (if O u = ad then 0 else 1)) (hP : ∀ u, P (u + 1) = P u + (if O u = tk then 0 else 1)) (hF0 : F 0 = 0) (hP0 : P 0 = 0) (hat : ad ≠ 0 ∧ tk ≠ 0) (hS0 : ∀ u, u < N → S u = false → O u = 0) :
    ∀ t, t ≤ N → ap_Fit S O F l W ad w sf t → ap_r S O F ad sf t ≤ w ∧ (ap_r S O F ad sf t = 0 ∨ (ap_r S O F ad sf t : Int) ≤ (F t : Int) + sf) ∧ (1 ≤ t → S (t - 1) = true → (ap_r S O F ad sf t : Int) = (F t : Int) + sf) ∧
      (ap_L S O F l W ad tk sf t).length + F t = ap_r S O F ad sf t + P t := by
  intro t
  induction t with
  | zero =>
    intro _ _
    refine ⟨Nat.zero_le _, Or.inl rfl, fun z => by omega, ?_⟩
    rw [hF0, hP0]
    rfl
  | succ t ih =>
    intro ht hfit
    obtain ⟨h1, h2, h3, h4⟩ := ih (by omega) (fun u hu => hfit u (by omega))
    obtain ⟨k1, k2⟩ := hfit t (by omega)
    have hf := hF t
    have hp := hP t
    have e1 : t + 1 - 1 = t := rfl
    rw [e1]
    by_cases hs : S t = true
    · -- where the read mark stands when the hunk's line comes
      have key : 0 ≤ (F t : Int) + sf ∧ (F t : Int) + sf ≤ w ∧ ((ap_L S O F l W ad tk sf t ++ ap_g S F W sf (ap_r S O F ad sf t) t).length : Int) + F t = ((F t : Int) + sf) + P t ∧ (sh_b S t = true → max (ap_r S O F ad sf t) ((F t : Int) + sf).toNat = ((F t : Int) + sf).toNat) ∧ (¬ sh_b S t = true → ap_r S O F ad sf t = ((F t : Int) + sf).toNat) := by
        by_cases hb : sh_b S t = true
        · obtain ⟨a1, a2⟩ := k1 hb
          refine ⟨a1, a2, ?_, fun _ => by omega, fun z => absurd hb z⟩
          rw [List.length_append, ap_gl hb]
          omega
        · obtain ⟨q1, q2⟩ := sh_bN hb hs
          have := h3 q1 q2
          refine ⟨by omega, by omega, ?_, fun z => absurd z hb, fun _ => by omega⟩
          rw [ap_gn hb, List.append_nil]
          omega
      obtain ⟨c1, c2, c3, c4, c5⟩ := key
      have er : (ap_r S O F ad sf (t + 1) : Int) = (F (t + 1) : Int) + sf := by
        rw [ap_rS, hf]
        by_cases ha : O t = ad
        · rw [if_neg (fun z => z.2 ha), if_pos ha]
          by_cases hb : sh_b S t = true
          · rw [if_pos hb, c4 hb]
            omega
          · rw [if_neg hb, c5 hb]
            omega
        · rw [if_pos ⟨hs, ha⟩, if_neg ha]
          omega
      have ew : (F (t + 1) : Int) + sf ≤ w := by
        rw [hf]
        by_cases ha : O t = ad
        · rw [if_pos ha]
          omega
        · have := (k2 hs ha).1
          rw [if_neg ha]
          omega
      have el : ((ap_L S O F l W ad tk sf (t + 1)).length : Int) + F t = ((F t : Int) + sf) + P (t + 1) := by
        rw [ap_LS, List.length_append, hp]
        unfold ap_o
        by_cases ha : O t = tk
        · rw [if_neg (fun z => z.2 ha), if_pos ha]
          simp only [List.length_nil]
          omega
        · rw [if_pos ⟨hs, ha⟩, if_neg ha]
          simp only [List.length_cons, List.length_nil]
          omega
      refine ⟨by omega, Or.inr (by omega), fun _ _ => er, ?_⟩
      have hf2 : F (t + 1) = F t ∨ F (t + 1) = F t + 1 := by
        rw [hf]
        split
        · exact Or.inl rfl
        · exact Or.inr rfl
      omega
    · have hb : ¬ sh_b S t = true := fun z => hs (sh_bS z).1
      have hs' : S t = false := by
        cases e : S t
        · rfl
        · exact absurd e hs
      have o0 := hS0 t (by omega) hs'
      rw [ap_rS, if_neg (fun z => hs z.1), if_neg hb, ap_LS, ap_gn hb, List.append_nil]
      unfold ap_o
      rw [if_neg (fun z => hs z.1), List.append_nil]
      rw [o0, if_neg (fun z => hat.1 z.symm)] at hf
      rw [o0, if_neg (fun z => hat.2 z.symm)] at hp
      refine ⟨h1, by omega, fun _ z => absurd z hs, by omega⟩
theorem ap_finl (hF : ∀ u, F (u + 1) = F u + (if O u = ad then 0 else 1)) (hP : ∀ u, P (u + 1) = P u + (if O u = tk then 0 else 1)) (hF0 : F 0 = 0) (hP0 : P 0 = 0) (hat : ad ≠ 0 ∧ tk ≠ 0) (hS0 : ∀ u, u < N → S u = false → O u = 0)
    (hfit : ap_Fit S O F l W ad w sf N) : (ap_fin S O F l W ad tk w N sf).length + F N = w + P N := by
  obtain ⟨h1, h2, h3, h4⟩ := ap_inv (P := P) hF hP hF0 hP0 hat hS0 N (Nat.le_refl _) hfit
  unfold ap_fin
  rw [List.length_append, mg_segl]
  omega
/-- one hunk's own condition -/
def ap_H (S : Nat → Bool) (O F : Nat → Nat) (l W : Nat → Int32) (ad w N : Nat) (sf : Int) (h : Nat) : Prop :=
  0 ≤ (F (pt_q S N h) : Int) + sf ∧ (F (pt_e S (pt_q S N h) N) : Int) + sf ≤ w ∧ ∀ u, pt_q S N h ≤ u → u < pt_e S (pt_q S N h) N → O u ≠ ad → W ((F u : Int) + sf).toNat = l u
theorem ap_hunk (hF : ∀ u, F (u + 1) = F u + (if O u = ad then 0 else 1)) {h : Nat} (hh : h < pt_k S N) (hfit : ap_Fit S O F l W ad w sf (pt_q S N h)) : ap_H S O F l W ad w N sf h ↔ ap_Fit S O F l W ad w sf (pt_q S N (h + 1)) := by
  obtain ⟨a1, a2, a3⟩ := pt_qlt hh
  obtain ⟨e1, e2⟩ := pt_qe hh
  obtain ⟨r1, r2, r3, r4⟩ := pt_run (S := S) (pt_q S N h) N (by omega)
  constructor
  · intro ⟨g1, g2, g3⟩ u hu
    by_cases k : u < pt_q S N h
    · exact hfit u k
    · by_cases ke : u < pt_e S (pt_q S N h) N
      · refine ⟨fun hb => ?_, fun hs ho => ⟨?_, g3 u (by omega) ke ho⟩⟩
        · have e : u = pt_q S N h := by
            refine Classical.byContradiction fun z => ?_
            exact pt_qno hh (u := u) (by omega) hu hb
          have m := ap_Fmono hF (t := pt_q S N h) (u := pt_e S (pt_q S N h) N) (by omega)
          rw [e]
          omega
        · have m := ap_Fmono hF (t := u + 1) (u := pt_e S (pt_q S N h) N) (by omega)
          rw [hF u, if_neg ho] at m
          omega
      · have q := pt_qoff hh (u := u) (by omega) hu
        refine ⟨fun hb => absurd hb (sh_b0 q), fun hs => ?_⟩
        rw [q] at hs
        cases hs
  · intro g
    obtain ⟨b1, b2⟩ := (g (pt_q S N h) (by omega)).1 a1
    refine ⟨b1, ?_, fun u h1 h2 h3 => ((g u (by omega)).2 (r3 u h1 h2) h3).2⟩
    have st : ∀ k, pt_q S N h + k ≤ pt_e S (pt_q S N h) N → (F (pt_q S N h + k) : Int) + sf ≤ w := by
      intro k
      induction k with
      | zero => intro _; exact b2
      | succ k ih =>
        intro hk
        have q := ih (by omega)
        have c := (g (pt_q S N h + k) (by omega)).2 (r3 _ (by omega) (by omega))
        rw [show pt_q S N h + (k + 1) = pt_q S N h + k + 1 by omega, hF]
        by_cases ho : O (pt_q S N h + k) = ad
        · rw [if_pos ho]
          omega
        · have := (c ho).1
          rw [if_neg ho]
          omega
    have := st (pt_e S (pt_q S N h) N - pt_q S N h) (by omega)
    rw [show pt_q S N h + (pt_e S (pt_q S N h) N - pt_q S N h) = pt_e S (pt_q S N h) N by omega] at this
    exact this
theorem ap_Fit0 : ap_Fit S O F l W ad w sf (pt_q S N 0) := by
  intro u hu
  have q := pt_q0 hu
  refine ⟨fun hb => absurd hb (sh_b0 q), fun hs => ?_⟩
  rw [q] at hs
  cases hs
/-- unshown steps change nothing -/
theorem ap_skip {t : Nat} : ∀ k, (∀ u, t ≤ u → u < t + k → S u = false) → ap_L S O F l W ad tk sf (t + k) = ap_L S O F l W ad tk sf t ∧ ap_r S O F ad sf (t + k) = ap_r S O F ad sf t := by
  intro k
  induction k with
  | zero => intro _; exact ⟨rfl, rfl⟩
  | succ k ih =>
    intro h
    obtain ⟨h1, h2⟩ := ih (fun u a c => h u a (by omega))
    have q := h (t + k) (by omega) (by omega)
    have hs : ¬ S (t + k) = true := by rw [q]; decide
    rw [show t + (k + 1) = t + k + 1 by omega, ap_LS, ap_rS, if_neg (fun z => hs z.1), if_neg (sh_b0 q), ap_gn (sh_b0 q), List.append_nil]
    unfold ap_o
    rw [if_neg (fun z => hs z.1), List.append_nil]
    exact ⟨h1, h2⟩
/-- a run of shown steps -/
theorem ap_runL {u : Nat} : ∀ k, 1 ≤ k → (∀ v, u ≤ v → v < u + k → S v = true) → (∀ v, u < v → v < u + k → ¬ sh_b S v = true) →
    ap_L S O F l W ad tk sf (u + k) = (ap_L S O F l W ad tk sf u ++ ap_g S F W sf (ap_r S O F ad sf u) u) ++ ap_to O l tk u k := by
  intro k
  induction k with
  | zero => intro h; omega
  | succ k ih =>
    intro _ h1 h2
    rw [show u + (k + 1) = u + k + 1 by omega, ap_LS, ap_to]
    have hs := h1 (u + k) (by omega) (by omega)
    have eo : ap_o S O l tk (u + k) = if O (u + k) ≠ tk then [l (u + k)] else [] := by
      unfold ap_o
      by_cases z : O (u + k) = tk
      · rw [if_neg (fun y => y.2 z), if_neg (fun y => y z)]
      · rw [if_pos ⟨hs, z⟩, if_pos z]
    rw [eo]
    by_cases k0 : k = 0
    · subst k0
      rw [ap_to, List.nil_append]
      rfl
    · rw [ih (by omega) (fun v a c => h1 v a (by omega)) (fun v a c => h2 v a (by omega)), ap_gn (h2 (u + k) (by omega) (by omega)), List.append_nil, List.append_assoc]
/-- a hunk as the component passes it -/
theorem ap_hunkL {h : Nat} (hh : h < pt_k S N) : ap_L S O F l W ad tk sf (pt_q S N (h + 1)) = (ap_L S O F l W ad tk sf (pt_q S N h) ++ mg_seg W (ap_r S O F ad sf (pt_q S N h)) (((F (pt_q S N h) : Int) + sf).toNat - ap_r S O F ad sf (pt_q S N h))) ++ ap_to O l tk (pt_q S N h) (pt_e S (pt_q S N h) N - pt_q S N h) := by
  obtain ⟨a1, a2, a3⟩ := pt_qlt hh
  obtain ⟨e1, e2⟩ := pt_qe hh
  obtain ⟨r1, r2, r3, r4⟩ := pt_run (S := S) (pt_q S N h) N (by omega)
  have k1 := (ap_skip (S := S) (O := O) (F := F) (l := l) (W := W) (ad := ad) (tk := tk) (sf := sf) (t := pt_e S (pt_q S N h) N) (pt_q S N (h + 1) - pt_e S (pt_q S N h) N) (fun u c1 c2 => pt_qoff hh c1 (by omega))).1
  rw [show pt_e S (pt_q S N h) N + (pt_q S N (h + 1) - pt_e S (pt_q S N h) N) = pt_q S N (h + 1) by omega] at k1
  have k2 := ap_runL (S := S) (O := O) (F := F) (l := l) (W := W) (ad := ad) (tk := tk) (sf := sf) (u := pt_q S N h) (pt_e S (pt_q S N h) N - pt_q S N h) (by omega) (fun v c1 c2 => r3 v c1 (by omega)) (fun v c1 c2 => pt_qno hh c1 (by omega))
  rw [show pt_q S N h + (pt_e S (pt_q S N h) N - pt_q S N h) = pt_e S (pt_q S N h) N by omega] at k2
  rw [k1, k2]
  unfold ap_g
  rw [if_pos a1]
/-- the read mark behind a hunk -/
theorem ap_hunkr (hF : ∀ u, F (u + 1) = F u + (if O u = ad then 0 else 1)) (hP : ∀ u, P (u + 1) = P u + (if O u = tk then 0 else 1)) (hF0 : F 0 = 0) (hP0 : P 0 = 0) (hat : ad ≠ 0 ∧ tk ≠ 0) (hS0 : ∀ u, u < N → S u = false → O u = 0)
    (hfit : ap_Fit S O F l W ad w sf N) {h : Nat} (hh : h < pt_k S N) : (ap_r S O F ad sf (pt_q S N (h + 1)) : Int) = (F (pt_e S (pt_q S N h) N) : Int) + sf := by
  obtain ⟨a1, a2, a3⟩ := pt_qlt hh
  obtain ⟨e1, e2⟩ := pt_qe hh
  obtain ⟨r1, r2, r3, r4⟩ := pt_run (S := S) (pt_q S N h) N (by omega)
  have k1 := (ap_skip (S := S) (O := O) (F := F) (l := l) (W := W) (ad := ad) (tk := tk) (sf := sf) (t := pt_e S (pt_q S N h) N) (pt_q S N (h + 1) - pt_e S (pt_q S N h) N) (fun u c1 c2 => pt_qoff hh c1 (by omega))).2
  rw [show pt_e S (pt_q S N h) N + (pt_q S N (h + 1) - pt_e S (pt_q S N h) N) = pt_q S N (h + 1) by omega] at k1
  rw [k1]
  obtain ⟨_, _, h3, _⟩ := ap_inv (P := P) (tk := tk) hF hP hF0 hP0 hat hS0 (pt_e S (pt_q S N h) N) (by omega) (fun u hu => hfit u (by omega))
  exact h3 (by omega) (r3 _ (by omega) (by omega))
theorem ap_r0 {t : Nat} (h : ∀ u, u < t → S u = false) : ap_r S O F ad sf t = 0 ∧ ap_L S O F l W ad tk sf t = [] := by
  have k := ap_skip (S := S) (O := O) (F := F) (l := l) (W := W) (ad := ad) (tk := tk) (sf := sf) (t := 0) t (fun u _ c => h u (by omega))
  rw [Nat.zero_add] at k
  exact ⟨k.2, k.1⟩
theorem ap_tol (u : Nat) {k k' : Nat} (h : k ≤ k') : (ap_to O l tk u k).length ≤ (ap_to O l tk u k').length := by
  obtain ⟨d, rfl⟩ : ∃ d, k' = k + d := ⟨k' - k, by omega⟩
  induction d with
  | zero => exact Nat.le_refl _
  | succ d ih =>
    have := ih (by omega)
    rw [show k + (d + 1) = k + d + 1 by omega, ap_to, List.length_append]
    omega
end
end
section
/-! X: the search from the end -/
theorem ib_x5 {a c : Nat} (ha : a < 1000) (hc : c ≤ a + 13) : nI a - ib_k c = nI (a + 13 - c) := by
  apply Int32.toInt_inj.mp
  rw [Int32.toInt_sub, nI_toInt (by omega), ib_kT (by omega), nI_toInt (by omega)]
  exact (Int.bmod_eq_of_le (by omega) (by omega)).trans (by omega)
theorem ib_kd {b s : Nat} (hb : b < 1000) (hs : s ≤ 13) : nI b - nI s = ib_k (13 + b - s) := by
  apply Int32.toInt_inj.mp
  rw [pk_sub_toInt (by omega) (by omega), ib_kT (by omega)]
  omega
/-- a frontier that is being filled: columns below c are right, the others hold 99, other rows are as they were -/
def fr_I (A B : Nat → Int32) (b s d c : Nat) (f0 f : Nat → Int32) : Prop :=
  (∀ c', c' < c → ∃ m, m ≤ 99 ∧ f (27 * d + c') = nI m ∧ fr_C A B b s d c' m) ∧ (∀ c', c ≤ c' → c' < 27 → f (27 * d + c') = nI 99) ∧ (∀ j, j < 27 * d ∨ 27 * d + 27 ≤ j → f j = f0 j)
section
variable {A B : Nat → Int32} {b s d c : Nat} {f0 f : Nat → Int32}
theorem fr_I_skip (hc : c < 27) (h : fr_I A B b s d c f0 f) (hC : fr_C A B b s d c 99) : fr_I A B b s d (c + 1) f0 f := by
  obtain ⟨h1, h2, h3⟩ := h
  refine ⟨fun c' hc' => ?_, fun c' a1 a2 => h2 c' (by omega) a2, h3⟩
  by_cases e : c' = c
  · subst e
    exact ⟨99, Nat.le_refl _, h2 c' (Nat.le_refl _) hc, hC⟩
  · exact h1 c' (by omega)
theorem fr_I_put {m : Nat} (hc : c < 27) (hm : m ≤ 99) (h : fr_I A B b s d c f0 f) (hC : fr_C A B b s d c m) : fr_I A B b s d (c + 1) f0 (upd f (27 * d + c) (nI m)) := by
  obtain ⟨h1, h2, h3⟩ := h
  refine ⟨fun c' hc' => ?_, fun c' a1 a2 => ?_, fun j hj => ?_⟩
  · by_cases e : c' = c
    · subst e
      exact ⟨m, hm, pk_us, hC⟩
    · rw [pk_un (by omega)]
      exact h1 c' (by omega)
  · rw [pk_un (by omega)]
    exact h2 c' (by omega) a2
  · rw [pk_un (by omega)]
    exact h3 j hj
theorem fr_I_start (hb : b ≤ 12) (h2 : ∀ c', c' < 27 → f (27 * d + c') = nI 99) (h3 : ∀ j, j < 27 * d ∨ 27 * d + 27 ≤ j → f j = f0 j) : fr_I A B b s d (13 - s) f0 f :=
  ⟨fun c' hc' => ⟨99, Nat.le_refl _, h2 c' (by omega), fr_out hb (Or.inl (by omega))⟩, fun c' _ a2 => h2 c' a2, h3⟩
theorem fr_I_end (hb : b ≤ 12) (h : fr_I A B b s d (14 + b) f0 f) : fr_R A B b s d (fun c => f (27 * d + c)) ∧ (∀ j, j < 27 * d ∨ 27 * d + 27 ≤ j → f j = f0 j) := by
  obtain ⟨h1, h2, h3⟩ := h
  refine ⟨fun c' hc' => ?_, h3⟩
  by_cases e : c' < 14 + b
  · exact h1 c' e
  · exact ⟨99, Nat.le_refl _, h2 c' (by omega) hc', fr_out hb (Or.inr (by omega))⟩
end
section
variable {q0 q1 q2 q3 q4 q5 q6 q7 q8 q9 xC xK xD xT xM : Int32} {aL aS aR aO aN aZ aE aM aP aQ aH aW aU aV aX : Nat → Int32}
theorem xw_sb75 {post : Int32 → Prop} {z e : Nat} (hz : z < 2 ^ 31) (he : e < 2 ^ 31) (K : post (nI (if e < z then z else e))) : wX_stepBack_75 post (nI z) (nI e) q0 q1 q2 q3 q4 q5 q6 q7 q8 q9 xC xK xD xT xM aL aS aR aO aN aZ aE aM aP aQ aH aW aU aV aX := by
  unfold wX_stepBack_75
  refine pk_le z e (fun h => ?_) (fun h => ?_)
  · rw [if_neg (by omega)] at K
    exact K
  · rw [if_pos h] at K
    exact K
theorem xw_sb52 {post : Int32 → Prop} {x z e m0 : Nat} (hx : 1 ≤ x) (hx2 : x ≤ 675) (hz : z < 2 ^ 31) (he : e < 2 ^ 31) (hm : m0 < 2 ^ 31) (e0 : aR (x - 1) = nI m0) (K : post (nI (if (if m0 < e then m0 else e) < z then z else (if m0 < e then m0 else e)))) : wX_stepBack_52 post (nI x) (nI z) (nI e) q0 q1 q2 q3 q4 q5 q6 q7 q8 q9 xC xK xD xT xM aL aS aR aO aN aZ aE aM aP aQ aH aW aU aV aX := by
  have ex : nI x - 1 = nI (x - 1) := pk_sub (b := 1) hx
  have r0 : aR (nI x - 1).toNatClampNeg = nI m0 := by rw [ex, nI_clamp (by omega), e0]
  have w : vp_in (nI x - 1) 675 := by rw [ex]; exact vp_in_nI (by omega) (by omega)
  unfold wX_stepBack_52
  refine ⟨w, ?_⟩
  refine pk_le e m0 (fun h => ?_) (fun h => ?_) rfl r0
  · rw [if_neg (show ¬ m0 < e by omega)] at K
    exact xw_sb75 hz he K
  · rw [if_pos h] at K
    exact ⟨w, nm_r r0 (xw_sb75 hz hm K)⟩
theorem xw_sb21 {post : Int32 → Prop} {d c m1 m0 : Nat} (hd : d < 24) (hc : 1 ≤ c) (hc2 : c ≤ 25) (e1 : aR (27 * d + (c + 1)) = nI m1) (e0 : aR (27 * d + (c - 1)) = nI m0) (b1 : m1 ≤ 99) (b0 : m0 ≤ 99) (K : post (nI (fr_st m1 m0 c))) : wX_stepBack_21 post (nI (27 * d + c)) (nI (c - 13)) q0 q1 q2 q3 q4 q5 q6 q7 q8 q9 xC xK xD xT xM aL aS aR aO aN aZ aE aM aP aQ aH aW aU aV aX := by
  have ex : nI (27 * d + c) + 1 = nI (27 * d + (c + 1)) := nI_1 _
  have r1 : aR (nI (27 * d + c) + 1).toNatClampNeg = nI m1 := by rw [ex, nI_clamp (by omega), e1]
  have w : vp_in (nI (27 * d + c) + 1) 675 := by rw [ex]; exact vp_in_nI (by omega) (by omega)
  have e0' : aR (27 * d + c - 1) = nI m0 := by rw [show 27 * d + c - 1 = 27 * d + (c - 1) by omega]; exact e0
  unfold fr_st at K
  dsimp only at K
  unfold wX_stepBack_21
  refine ⟨w, pk_eq m1 99 (fun h => ?_) (fun h => ?_) r1⟩
  · rw [if_pos h] at K
    exact xw_sb52 (e := 99) (by omega) (by omega) (by omega) (by decide) (by omega) e0' K
  · rw [if_neg h] at K
    refine ⟨w, ?_⟩
    by_cases z : m1 = 0
    · subst z
      refine nm_r (e' := -1) (by rw [r1]; decide) ?_
      have ex0 : nI (27 * d + c) - 1 = nI (27 * d + c - 1) := pk_sub (b := 1) (by omega)
      have r0 : aR (nI (27 * d + c) - 1).toNatClampNeg = nI m0 := by rw [ex0, nI_clamp (by omega), e0']
      have w0 : vp_in (nI (27 * d + c) - 1) 675 := by rw [ex0]; exact vp_in_nI (by omega) (by omega)
      have K' : post (nI (c - 13)) := by
        rw [if_neg (show ¬ m0 < 0 - 1 by omega)] at K
        by_cases k : 0 - 1 < c - 13
        · rw [if_pos k] at K
          exact K
        · rw [if_neg k] at K
          rw [show c - 13 = 0 - 1 by omega]
          exact K
      unfold wX_stepBack_52
      refine ⟨w0, br_t ?_ ?_⟩
      · rw [r0, Int32.le_iff_toInt_le, nI_toInt (by omega), show (-1 : Int32).toInt = -1 from by decide]
        omega
      · unfold wX_stepBack_75
        refine br_f ?_ K'
        rw [Int32.le_iff_toInt_le, nI_toInt (by omega), show (-1 : Int32).toInt = -1 from by decide]
        omega
    · refine nm_r (e' := nI (m1 - 1)) (by rw [r1]; exact pk_sub (b := 1) (by omega)) ?_
      exact xw_sb52 (by omega) (by omega) (by omega) (by omega) (by omega) e0' K
theorem xw_stepBack {post : Int32 → Prop} {d c m1 m0 : Nat} (hd : d < 24) (hc : 1 ≤ c) (hc2 : c ≤ 25) (e1 : aR (27 * d + (c + 1)) = nI m1) (e0 : aR (27 * d + (c - 1)) = nI m0) (b1 : m1 ≤ 99) (b0 : m0 ≤ 99) (K : post (nI (fr_st m1 m0 c))) : wpX_stepBack post (q0, q1, q2, q3, q4, q5, q6, q7, q8, q9, xC, xK, xD, xT, xM, aL, aS, aR, aO, aN, aZ, aE, aM, aP, aQ, aH, aW, aU, aV, aX) (nI (d + 1)) (ib_k c) := by
  unfold wpX_stepBack
  refine nm_r (e' := nI (27 * d + c)) (by rw [nI_pred, ib_m27, ib_k13]) ?_
  by_cases k : c ≤ 13
  · refine br_t ((ib_kle (n := 0) (by omega) (by omega)).mpr (by omega)) ?_
    have h := xw_sb21 (q0 := q0) (q1 := q1) (q2 := q2) (q3 := q3) (q4 := q4) (q5 := q5) (q6 := q6) (q7 := q7) (q8 := q8) (q9 := q9) (xC := xC) (xK := xK) (xD := xD) (xT := xT) (xM := xM) (aL := aL) (aS := aS) (aO := aO) (aN := aN) (aZ := aZ) (aE := aE) (aM := aM) (aP := aP) (aQ := aQ) (aH := aH) (aW := aW) (aU := aU) (aV := aV) (aX := aX) hd hc hc2 e1 e0 b1 b0 K
    rw [show c - 13 = 0 by omega, nI_0] at h
    exact h
  · refine br_f (fun z => k ((ib_kle (n := 0) (by omega) (by omega)).mp z)) ?_
    rw [ib_kge (by omega)]
    exact xw_sb21 hd hc hc2 e1 e0 b1 b0 K
section
variable {L : Nat → Int32} {b s sd : Nat}
theorem xw_slide22 {post : Int32 → Prop} {c st : Nat} (hL : ∀ i, i < 36 → aL i = L i) (hb : b ≤ 12) (hs : s ≤ 12) (h1 : 1 ≤ sd) (h2 : sd ≤ 2) (hc : c ≤ 25) (hst : st ≤ b) (hst2 : 13 + st ≤ c + s)
    (K : ∀ m, c ≤ 13 + m → m ≤ st → (∀ k, m ≤ k → k < st → L k = sc_B L sd (13 + k - c)) → (m = c - 13 ∨ ¬ L (m - 1) = sc_B L sd (13 + (m - 1) - c)) → post (nI m)) :
    ∀ n i, c ≤ 13 + i → i ≤ st → i - (c - 13) < n → (∀ k, i ≤ k → k < st → L k = sc_B L sd (13 + k - c)) → wX_slideBack_22 post (nI (c - 13)) (nI (12 * sd + 13 - c)) q0 q1 q2 q3 q4 q5 q6 q7 q8 q9 xC xK xD xT xM aL aS aR aO aN aZ aE aM aP aQ aH aW aU aV aX n (nI i) := by
  intro n
  induction n with
  | zero => intro i _ _ h; omega
  | succ n ih =>
    intro i hi1 hi2 hn hrun
    rw [wX_slideBack_22]
    refine pk_le i (c - 13) (fun h => K i hi1 hi2 hrun (Or.inl (by omega))) (fun h => ?_)
    have x1 : nI i - 1 = nI (i - 1) := pk_sub (b := 1) (by omega)
    have x2 : nI (12 * sd + 13 - c) + nI i - 1 = nI (12 * sd + (13 + (i - 1) - c)) := by
      rw [nI_add, show (1 : Int32) = nI 1 from rfl, pk_sub (by omega)]
      exact congrArg nI (by omega)
    have r1 : aL (nI i - 1).toNatClampNeg = L (i - 1) := by rw [x1, nI_clamp (by omega), hL _ (by omega)]
    have r2 : aL (nI (12 * sd + 13 - c) + nI i - 1).toNatClampNeg = sc_B L sd (13 + (i - 1) - c) := by
      rw [x2, nI_clamp (by omega), hL _ (by omega)]
      rfl
    refine ⟨by rw [x1]; exact vp_in_nI (by omega) (by omega), by rw [x2]; exact vp_in_nI (by omega) (by omega), ?_⟩
    by_cases e : L (i - 1) = sc_B L sd (13 + (i - 1) - c)
    · refine br_t (by rw [r1, r2]; exact e) (nm_r (sb_m1 (by omega)) (ih (i - 1) (by omega) (by omega) (by omega) (fun k a1 a2 => ?_)))
      by_cases q : k = i - 1
      · rw [q]; exact e
      · exact hrun k (by omega) a2
    · exact br_f (by rw [r1, r2]; exact e) (K i hi1 hi2 hrun (Or.inr e))
theorem xw_slide {post : Int32 → Prop} {c st : Nat} (hL : ∀ i, i < 36 → aL i = L i) (hb : b ≤ 12) (hs : s ≤ 12) (h1 : 1 ≤ sd) (h2 : sd ≤ 2) (hc : c ≤ 25) (hst : st ≤ b) (hst1 : c ≤ 13 + st) (hst2 : 13 + st ≤ c + s)
    (K : ∀ m, c ≤ 13 + m → m ≤ st → (∀ k, m ≤ k → k < st → L k = sc_B L sd (13 + k - c)) → (m = c - 13 ∨ ¬ L (m - 1) = sc_B L sd (13 + (m - 1) - c)) → post (nI m)) :
    wpX_slideBack post (q0, q1, q2, q3, q4, q5, q6, q7, q8, q9, xC, xK, xD, xT, xM, aL, aS, aR, aO, aN, aZ, aE, aM, aP, aQ, aH, aW, aU, aV, aX) (nI sd) (ib_k c) (nI st) := by
  have h9 : wX_slideBack_9 post (nI sd) (ib_k c) (nI st) (nI (c - 13)) q0 q1 q2 q3 q4 q5 q6 q7 q8 q9 xC xK xD xT xM aL aS aR aO aN aZ aE aM aP aQ aH aW aU aV aX := by
    unfold wX_slideBack_9
    refine nm_r (e' := nI (12 * sd + 13 - c)) (by rw [ib_m12, ib_x5 (by omega) (by omega)]) ?_
    exact ⟨st + 1, xw_slide22 hL hb hs h1 h2 hc hst hst2 K (st + 1) st hst1 (Nat.le_refl _) (by omega) (fun k a1 a2 => by omega)⟩
  unfold wpX_slideBack
  by_cases k : c ≤ 13
  · refine br_t ((ib_kle (n := 0) (by omega) (by omega)).mpr (by omega)) ?_
    rw [show c - 13 = 0 by omega, nI_0] at h9
    exact h9
  · refine br_f (fun z => k ((ib_kle (n := 0) (by omega) (by omega)).mp z)) ?_
    rw [← ib_kge (by omega)] at h9
    exact h9
/-- one column -/
theorem xw_ff102 {post : SX → Prop} {J : Int32 → (Nat → Int32) → (Nat → Int32) → (Nat → Int32) → (Nat → Int32) → (Nat → Int32) → (Nat → Int32) → (Nat → Int32) → (Nat → Int32) → (Nat → Int32) → (Nat → Int32) → (Nat → Int32) → (Nat → Int32) → (Nat → Int32) → (Nat → Int32) → (Nat → Int32) → Prop}
    {d c st : Nat} {x2 x4 : Int32} {f0 : Nat → Int32} (hL : ∀ i, i < 36 → aL i = L i) (hb : b ≤ 12) (hs : s ≤ 12) (h1 : 1 ≤ sd) (h2 : sd ≤ 2) (hd : d ≤ 24) (hc : c ≤ 25) (hst99 : st ≤ 99)
    (hI : fr_I L (sc_B L sd) b s d c f0 aR)
    (hn : st = 99 → fr_C L (sc_B L sd) b s d c 99)
    (hy : st ≠ 99 → st ≤ b ∧ c ≤ 13 + st ∧ 13 + st ≤ c + s ∧ ∀ m, c ≤ 13 + m → m ≤ st → (∀ k, m ≤ k → k < st → L k = sc_B L sd (13 + k - c)) → (m = c - 13 ∨ ¬ L (m - 1) = sc_B L sd (13 + (m - 1) - c)) → fr_C L (sc_B L sd) b s d c m)
    (K : ∀ f, fr_I L (sc_B L sd) b s d (c + 1) f0 f → J (ib_k (c + 1)) aL aS f aO aN aZ aE aM aP aQ aH aW aU aV aX) :
    wX_fillFrontier_102 post J (nI sd) x2 (nI (27 * d)) x4 (ib_k c) (nI st) q0 q1 q2 q3 q4 q5 q6 q7 q8 q9 xC xK xD xT xM aL aS aR aO aN aZ aE aM aP aQ aH aW aU aV aX := by
  unfold wX_fillFrontier_102
  refine pk_eq st 99 (fun h => ?_) (fun h => ?_)
  · exact nm_r (ib_k1 c) (K _ (fr_I_skip (by omega) hI (hn h)))
  · obtain ⟨a1, a2, a3, a4⟩ := hy h
    refine xw_slide hL hb hs h1 h2 hc a1 a2 a3 (fun m c1 c2 c3 c4 => ?_)
    have ex : nI (27 * d) + 13 + ib_k c = nI (27 * d + c) := ib_k13 _ _
    refine ⟨by rw [ex]; exact vp_in_nI (by omega) (by omega), nm_r (e' := upd aR (27 * d + c) (nI m)) (by rw [ex, nI_clamp (by omega)]) (nm_r (ib_k1 c) (K _ ?_))⟩
    exact fr_I_put (by omega) (by omega) hI (a4 m c1 c2 c3 c4)
theorem xw_ff56 {post : SX → Prop} {d : Nat} {f0 : Nat → Int32} (hL : ∀ i, i < 36 → aL i = L i) (hb : b ≤ 12) (hs : s ≤ 12) (h1 : 1 ≤ sd) (h2 : sd ≤ 2) (hd : d ≤ 24) (h0 : aS 0 = nI b)
    (hp : d = 0 ∨ (1 ≤ d ∧ 1 ≤ b + s ∧ fr_R L (sc_B L sd) b s (d - 1) (fun c => f0 (27 * (d - 1) + c))))
    (K : ∀ f, fr_R L (sc_B L sd) b s d (fun c => f (27 * d + c)) → (∀ j, j < 27 * d ∨ 27 * d + 27 ≤ j → f j = f0 j) → post (q0, q1, q2, q3, q4, q5, q6, q7, q8, q9, xC, xK, xD, xT, xM, aL, aS, f, aO, aN, aZ, aE, aM, aP, aQ, aH, aW, aU, aV, aX)) :
    ∀ k c n f, c + k = 14 + b → 13 ≤ c + s → k < n → fr_I L (sc_B L sd) b s d c f0 f → wX_fillFrontier_56 post (nI sd) (nI d) (nI (27 * d)) (ib_k (13 + b - s)) q0 q1 q2 q3 q4 q5 q6 q7 q8 q9 xC xK xD xT xM n (ib_k c) aL aS f aO aN aZ aE aM aP aQ aH aW aU aV aX := by
  intro k
  induction k with
  | zero =>
    intro c n f hck hcs hn hI
    obtain ⟨n, rfl⟩ : ∃ m, n = m + 1 := ⟨n - 1, by omega⟩
    rw [wX_fillFrontier_56]
    obtain ⟨e1, e2⟩ := fr_I_end hb (by rw [← hck]; exact hI)
    exact br_t (by rw [h0]; exact (ib_klt (by omega) (by omega)).mpr (by omega)) (K f e1 e2)
  | succ k ih =>
    intro c n f hck hcs hn hI
    obtain ⟨n, rfl⟩ : ∃ m, n = m + 1 := ⟨n - 1, by omega⟩
    rw [wX_fillFrontier_56]
    refine br_f (by rw [h0]; exact fun z => absurd ((ib_klt (by omega) (by omega)).mp z) (by omega)) ?_
    have nx : ∀ f', fr_I L (sc_B L sd) b s d (c + 1) f0 f' → wX_fillFrontier_56 post (nI sd) (nI d) (nI (27 * d)) (ib_k (13 + b - s)) q0 q1 q2 q3 q4 q5 q6 q7 q8 q9 xC xK xD xT xM n (ib_k (c + 1)) aL aS f' aO aN aZ aE aM aP aQ aH aW aU aV aX :=
      fun f' hI' => ih (c + 1) n f' (by omega) (by omega) (by omega) hI'
    rcases hp with d0 | ⟨hd1, hbs, hR⟩
    · subst d0
      refine br_t (by decide) ?_
      by_cases e : c = 13 + b - s
      · refine br_t (by rw [e]) (nm_r h0 ?_)
        exact xw_ff102 hL hb hs h1 h2 hd (by omega) (by omega) hI (fun z => by omega) (fun _ => ⟨Nat.le_refl _, by omega, by omega, fun m c1 c2 c3 c4 => fr_0 hb (by omega) c2 c1 c3 c4⟩) nx
      · refine br_f (fun z => e ((ib_keq (by omega) (by omega)).mp z)) ?_
        exact xw_ff102 (st := 99) hL hb hs h1 h2 hd (by omega) (Nat.le_refl _) hI (fun _ => fr_0n hb (by omega)) (fun z => absurd rfl z) nx
    · obtain ⟨d, rfl⟩ : ∃ d', d = d' + 1 := ⟨d - 1, by omega⟩
      rw [Nat.add_sub_cancel] at hR
      obtain ⟨m1, l1, v1, c1⟩ := hR (c + 1) (by omega)
      obtain ⟨m0, l0, v0, c0⟩ := hR (c - 1) (by omega)
      refine br_f (nI_nle (by omega) (by omega)) ?_
      refine xw_stepBack (m1 := m1) (m0 := m0) (by omega) (by omega) (by omega) ?_ ?_ l1 l0 ?_
      · rw [hI.2.2 _ (by omega)]; exact v1
      · rw [hI.2.2 _ (by omega)]; exact v0
      · have q := fr_st_none (m1 := m1) (m0 := m0) (c := c) (by omega) l1 l0
        by_cases z : m1 = 99 ∧ m0 = 99
        · rw [q.mpr z]
          exact xw_ff102 (st := 99) hL hb hs h1 h2 hd (by omega) (Nat.le_refl _) hI (fun _ => fr_none hb (by omega) hbs c1 c0 (by omega) z) (fun y => absurd rfl y) nx
        · obtain ⟨g1, g2, g3, g4, g5⟩ := fr_step hb (by omega) c1 c0 (by omega) hcs (by omega) z
          exact xw_ff102 hL hb hs h1 h2 hd (by omega) (by omega) hI (fun y => absurd (q.mp y) z) (fun _ => ⟨g1, g2, g3, fun m k1 k2 k3 k4 => fr_slide hb g1 g2 g3 g4 k2 k1 k3 k4 g5⟩) nx
theorem xw_ff8 {post : SX → Prop} {d : Nat} {f0 : Nat → Int32} (hb : b ≤ 12) (hs : s ≤ 12) (h1 : 1 ≤ sd) (h2 : sd ≤ 2) (hd : d ≤ 24) (h0 : aS 0 = nI b) (hS : aS sd = nI s)
    (K : ∀ f, (∀ c, c < 27 → f (27 * d + c) = nI 99) → (∀ j, j < 27 * d ∨ 27 * d + 27 ≤ j → f j = f0 j) → ∃ n, wX_fillFrontier_56 post (nI sd) (nI d) (nI (27 * d)) (ib_k (13 + b - s)) q0 q1 q2 q3 q4 q5 q6 q7 q8 q9 xC xK xD xT xM n (ib_k (13 - s)) aL aS f aO aN aZ aE aM aP aQ aH aW aU aV aX) :
    ∀ k c n f, c + k = 27 → k < n → (∀ c', c' < c → f (27 * d + c') = nI 99) → (∀ j, j < 27 * d ∨ 27 * d + 27 ≤ j → f j = f0 j) → wX_fillFrontier_8 post (nI sd) (nI d) (nI (27 * d)) q0 q1 q2 q3 q4 q5 q6 q7 q8 q9 xC xK xD xT xM n (nI c) aL aS f aO aN aZ aE aM aP aQ aH aW aU aV aX := by
  intro k
  induction k with
  | zero =>
    intro c n f hck hn hf hj
    obtain ⟨n, rfl⟩ : ∃ m, n = m + 1 := ⟨n - 1, by omega⟩
    have c27 : c = 27 := by omega
    subst c27
    have r : aS (nI sd).toNatClampNeg = nI s := by rw [nI_clamp (by omega), hS]
    have w : vp_in (nI sd) 4 := vp_in_nI (by omega) (by omega)
    rw [wX_fillFrontier_8]
    exact br_t (by decide) ⟨w, nm_r (e' := ib_k (13 + b - s)) (by rw [h0, r]; exact ib_kd (by omega) (by omega)) ⟨w, nm_r (e' := ib_k (13 - s)) (by rw [r]; exact ib_kneg (by omega)) (K f hf hj)⟩⟩
  | succ k ih =>
    intro c n f hck hn hf hj
    obtain ⟨n, rfl⟩ : ∃ m, n = m + 1 := ⟨n - 1, by omega⟩
    rw [wX_fillFrontier_8]
    refine br_f (nI_ge (b := 27) (by omega) (by decide)) ⟨by rw [nI_add]; exact vp_in_nI (by omega) (by omega), nm_r (e' := upd f (27 * d + c) (nI 99)) (by rw [nI_add, nI_clamp (by omega)]; rfl) (nm_r (nI_1 c) (ih (c + 1) n _ (by omega) (by omega) (fun c' hc' => ?_) (fun j hj' => ?_)))⟩
    · by_cases e : c' = c
      · rw [e, pk_us]
      · rw [pk_un (by omega)]
        exact hf c' (by omega)
    · rw [pk_un (by omega)]
      exact hj j hj'
theorem xw_fill {post : SX → Prop} {d : Nat} (hL : ∀ i, i < 36 → aL i = L i) (hb : b ≤ 12) (hs : s ≤ 12) (h1 : 1 ≤ sd) (h2 : sd ≤ 2) (hd : d ≤ 24) (h0 : aS 0 = nI b) (hS : aS sd = nI s)
    (hp : d = 0 ∨ (1 ≤ d ∧ 1 ≤ b + s ∧ fr_R L (sc_B L sd) b s (d - 1) (fun c => aR (27 * (d - 1) + c))))
    (K : ∀ f, fr_R L (sc_B L sd) b s d (fun c => f (27 * d + c)) → (∀ j, j < 27 * d ∨ 27 * d + 27 ≤ j → f j = aR j) → post (q0, q1, q2, q3, q4, q5, q6, q7, q8, q9, xC, xK, xD, xT, xM, aL, aS, f, aO, aN, aZ, aE, aM, aP, aQ, aH, aW, aU, aV, aX)) :
    wpX_fillFrontier post (q0, q1, q2, q3, q4, q5, q6, q7, q8, q9, xC, xK, xD, xT, xM, aL, aS, aR, aO, aN, aZ, aE, aM, aP, aQ, aH, aW, aU, aV, aX) (nI sd) (nI d) := by
  unfold wpX_fillFrontier
  refine nm_r (ib_m27 d) ⟨28, xw_ff8 (f0 := aR) hb hs h1 h2 hd h0 hS (fun f hf hj => ?_) 27 0 28 aR (by omega) (by omega) (fun c' h => by omega) (fun _ _ => rfl)⟩
  exact ⟨_, xw_ff56 hL hb hs h1 h2 hd h0 hp K (14 + b - (13 - s)) (13 - s) (14 + b - (13 - s) + 1) f (by omega) (by omega) (by omega) (fr_I_start hb hf hj)⟩
theorem xw_search2 {post : Int32 → SX → Prop} (hL : ∀ i, i < 36 → aL i = L i) (hb : b ≤ 12) (hs : s ≤ 12) (h1 : 1 ≤ sd) (h2 : sd ≤ 2) (h0 : aS 0 = nI b) (hS : aS sd = nI s)
    (K : ∀ f, (∀ d, d ≤ ed_D L (sc_B L sd) b s 0 0 → fr_R L (sc_B L sd) b s d (fun c => f (27 * d + c))) → post (nI (ed_D L (sc_B L sd) b s 0 0)) (q0, q1, q2, q3, q4, q5, q6, q7, q8, q9, xC, xK, xD, xT, xM, aL, aS, f, aO, aN, aZ, aE, aM, aP, aQ, aH, aW, aU, aV, aX)) :
    ∀ k d n f, d + k = 24 → k < n → d ≤ ed_D L (sc_B L sd) b s 0 0 → (∀ d', d' < d → fr_R L (sc_B L sd) b s d' (fun c => f (27 * d' + c))) → wX_searchFromEnd_2 post (nI sd) n (nI d) q0 q1 q2 q3 q4 q5 q6 q7 q8 q9 xC xK xD xT xM aL aS f aO aN aZ aE aM aP aQ aH aW aU aV aX := by
  have hle := ed_le (A := L) (B := sc_B L sd) (b := b) (s := s) (i := 0) (j := 0) (Nat.zero_le _) (Nat.zero_le _)
  intro k
  induction k with
  | zero =>
    intro d n f hdk hn hd hR
    obtain ⟨n, rfl⟩ : ∃ m, n = m + 1 := ⟨n - 1, by omega⟩
    have d24 : d = 24 := by omega
    subst d24
    rw [wX_searchFromEnd_2]
    refine br_t (by decide) (xw_fill (d := 24) hL hb hs h1 h2 (by omega) h0 hS (Or.inr ⟨by omega, by omega, hR 23 (by omega)⟩) (fun g g1 g2 => ?_))
    have e : ed_D L (sc_B L sd) b s 0 0 = 24 := by omega
    rw [e] at K
    refine K g (fun d' hd' => ?_)
    by_cases q : d' = 24
    · rw [q]; exact g1
    · intro c hc
      obtain ⟨m, k1, k2, k3⟩ := hR d' (by omega) c hc
      exact ⟨m, k1, by show g (27 * d' + c) = nI m; rw [g2 _ (by omega)]; exact k2, k3⟩
  | succ k ih =>
    intro d n f hdk hn hd hR
    obtain ⟨n, rfl⟩ : ∃ m, n = m + 1 := ⟨n - 1, by omega⟩
    rw [wX_searchFromEnd_2]
    refine br_f (nI_ge (b := 24) (by omega) (by decide)) (xw_fill hL hb hs h1 h2 (by omega) h0 hS ?_ (fun g g1 g2 => ?_))
    · by_cases q : d = 0
      · exact Or.inl q
      · exact Or.inr ⟨by omega, by omega, hR (d - 1) (by omega)⟩
    · have hR' : ∀ d', d' < d + 1 → fr_R L (sc_B L sd) b s d' (fun c => g (27 * d' + c)) := by
        intro d' hd'
        by_cases q : d' = d
        · rw [q]; exact g1
        · intro c hc
          obtain ⟨m, k1, k2, k3⟩ := hR d' (by omega) c hc
          exact ⟨m, k1, by show g (27 * d' + c) = nI m; rw [g2 _ (by omega)]; exact k2, k3⟩
      have ex : nI d * 27 + 13 = nI (27 * d + 13) := ib_27 d 13
      obtain ⟨m, k1, k2, k3⟩ := g1 13 (by omega)
      have k2 : g (27 * d + 13) = nI m := k2
      have r : g (nI d * 27 + 13).toNatClampNeg = nI m := by rw [ex, nI_clamp (by omega), k2]
      have q := k3.2 0 0 (Nat.zero_le _) (Nat.zero_le _) (by omega)
      refine ⟨by rw [ex]; exact vp_in_nI (by omega) (by omega), pk_eq m 0 (fun z => ?_) (fun z => ?_) r⟩
      · have p := q.mp (by omega)
        have e : ed_D L (sc_B L sd) b s 0 0 = d := by have := p.1; omega
        rw [e] at K
        exact K g (fun d' hd' => hR' d' (by omega))
      · have p : ¬ fr_P L (sc_B L sd) b s d 0 0 := fun y => z (by have := q.mpr y; omega)
        have e : d + 1 ≤ ed_D L (sc_B L sd) b s 0 0 := by
          refine Classical.byContradiction fun y => p ?_
          have e : ed_D L (sc_B L sd) b s 0 0 = d := by omega
          unfold fr_P
          rw [e]
          exact ⟨Nat.le_refl _, by omega⟩
        exact nm_r (nI_1 d) (ih (d + 1) n g (by omega) (by omega) e hR')
theorem xw_search {post : Int32 → SX → Prop} (hL : ∀ i, i < 36 → aL i = L i) (hb : b ≤ 12) (hs : s ≤ 12) (h1 : 1 ≤ sd) (h2 : sd ≤ 2) (h0 : aS 0 = nI b) (hS : aS sd = nI s)
    (K : ∀ f, (∀ d, d ≤ ed_D L (sc_B L sd) b s 0 0 → fr_R L (sc_B L sd) b s d (fun c => f (27 * d + c))) → post (nI (ed_D L (sc_B L sd) b s 0 0)) (q0, q1, q2, q3, q4, q5, q6, q7, q8, q9, xC, xK, xD, xT, xM, aL, aS, f, aO, aN, aZ, aE, aM, aP, aQ, aH, aW, aU, aV, aX)) :
    wpX_searchFromEnd post (q0, q1, q2, q3, q4, q5, q6, q7, q8, q9, xC, xK, xD, xT, xM, aL, aS, aR, aO, aN, aZ, aE, aM, aP, aQ, aH, aW, aU, aV, aX) (nI sd) := by
  unfold wpX_searchFromEnd
  exact ⟨25, xw_search2 hL hb hs h1 h2 h0 hS K 24 0 25 aR (by omega) (by omega) (Nat.zero_le _) (fun d' h => by omega)⟩
end
end
end
section
/-! X: the script -/
section
variable {q0 q1 q2 q3 q4 q5 q6 q7 q8 q9 xC xK xD xT xM : Int32} {aL aS aR aO aN aZ aE aM aP aQ aH aW aU aV aX : Nat → Int32}
variable {L : Nat → Int32} {b s sd : Nat}
theorem xw_choose {post : Int32 → Prop} {i j lf : Nat} (hL : ∀ i, i < 36 → aL i = L i) (hb : b ≤ 12) (hs : s ≤ 12) (h1 : 1 ≤ sd) (h2 : sd ≤ 2) (h0 : aS 0 = nI b) (hS : aS sd = nI s)
    (hi : i ≤ b) (hj : j ≤ s) (hl : lf = ed_D L (sc_B L sd) b s i j) (hlf : lf ≤ 24) (hR : ∀ d, d < lf → fr_R L (sc_B L sd) b s d (fun c => aR (27 * d + c)))
    (K : post (nI (sc_op L (sc_B L sd) b s i j))) : wpX_chooseStep post (q0, q1, q2, q3, q4, q5, q6, q7, q8, q9, xC, xK, xD, xT, xM, aL, aS, aR, aO, aN, aZ, aE, aM, aP, aQ, aH, aW, aU, aV, aX) (nI sd) (nI i) (nI j) (nI lf) := by
  unfold wpX_chooseStep
  refine pk_lt i b (fun kb => ?_) (fun kb => ?_) rfl h0
  · refine ⟨vp_in_nI (by omega) (by omega), pk_lt j s (fun ks => ?_) (fun ks => ?_) rfl (by rw [nI_clamp (by omega), hS])⟩
    · have x2 : nI sd * 12 + nI j = nI (12 * sd + j) := ib_12 _ _
      have r1 : aL (nI i).toNatClampNeg = L i := by rw [nI_clamp (by omega), hL _ (by omega)]
      have r2 : aL (nI sd * 12 + nI j).toNatClampNeg = sc_B L sd j := by
        rw [x2, nI_clamp (by omega), hL _ (by omega)]
        rfl
      refine ⟨vp_in_nI (by omega) (by omega), by rw [x2]; exact vp_in_nI (by omega) (by omega), ?_⟩
      by_cases e : L i = sc_B L sd j
      · rw [sc_op_k kb ks e] at K
        exact br_t (by rw [r1, r2]; exact e) K
      · refine br_f (by rw [r1, r2]; exact e) ?_
        have q := ed_ne kb ks e
        obtain ⟨lf, rfl⟩ : ∃ l', lf = l' + 1 := ⟨lf - 1, by omega⟩
        refine br_t (nI_lt (a := 0) (by omega) (by omega)) ?_
        refine nm_r (e' := nI (27 * lf + (13 + (i + 1) - j))) ?_ ?_
        · rw [nI_pred, ib_m27, show (13 : Int32) = nI 13 from rfl, nI_add, nI_add, nI_1, pk_sub (by omega)]
          exact congrArg nI (by omega)
        · obtain ⟨m, k1, k2, k3⟩ := hR lf (by omega) (13 + (i + 1) - j) (by omega)
          have k2 : aR (27 * lf + (13 + (i + 1) - j)) = nI m := k2
          have a := fr_ask kb ks hl.symm k3 (by omega)
          refine ⟨vp_in_nI (by omega) (by omega), pk_lt (i + 1) m (fun z => ?_) (fun z => ?_) (nI_1 i) (by rw [nI_clamp (by omega), k2])⟩
          · rw [sc_op_n (fun y => e y.2.2) (fun y => by have := a.mpr y.2; omega)] at K
            exact K
          · rw [sc_op_d kb ks e (a.mp z)] at K
            exact K
    · rw [sc_op_s kb (by omega)] at K
      exact K
  · rw [sc_op_b (by omega)] at K
    exact K
theorem xw_wf103 {post : SX → Prop} {J : _} {o i j t lf : Nat} {v : Int32} (ho : o = 0 ∨ o = 1 ∨ o = 2) (hz : 24 * sd + t < 72) (hi : o ≠ 2 → 12 * sd + i < 36) (hlf : o ≠ 0 → 1 ≤ lf)
    (K : J (nI (i + if o = 2 then 0 else 1)) (nI (j + if o = 1 then 0 else 1)) (nI (lf - if o = 0 then 0 else 1)) (nI (t + 1)) aL aS aR aO (upd aN (24 * sd + t) v) aZ aE (if o = 2 then aM else upd aM (12 * sd + i) (if o = 0 then nI j else -6)) aP aQ aH aW aU aV aX) :
    wX_walkForward_103 post J (nI sd) (nI i) (nI j) (nI lf) (nI t) (nI o) v (nI (24 * sd + t)) q0 q1 q2 q3 q4 q5 q6 q7 q8 q9 xC xK xD xT xM aL aS aR aO aN aZ aE aM aP aQ aH aW aU aV aX := by
  unfold wX_walkForward_103
  refine ⟨vp_in_nI hz (by omega), nm_r (e' := upd aN (24 * sd + t) v) (by rw [nI_clamp (by omega)]) ?_⟩
  have x2 : nI sd * 12 + nI i = nI (12 * sd + i) := ib_12 _ _
  rcases ho with e | e | e
  · subst e
    rw [if_neg (by decide), if_neg (by decide), if_pos rfl, if_neg (by decide), if_pos rfl] at K
    refine br_f (by decide) (br_t rfl ?_)
    unfold wX_walkForward_131
    refine ⟨by rw [x2]; exact vp_in_nI (hi (by decide)) (by omega), nm_r (e' := upd aM (12 * sd + i) (nI j)) (by rw [x2, nI_clamp (by omega)]) ?_⟩
    unfold wX_walkForward_132 wX_walkForward_140 wX_walkForward_149
    exact br_t rfl (br_f (by decide) (nm_r (nI_1 i) (br_f (by decide) (nm_r (nI_1 j) (nm_r (nI_1 t) K)))))
  · subst e
    rw [if_neg (by decide), if_pos rfl, if_neg (by decide), if_neg (by decide), if_neg (by decide)] at K
    refine br_f (by decide) (br_f (by decide) ?_)
    unfold wX_walkForward_131
    refine ⟨by rw [x2]; exact vp_in_nI (hi (by decide)) (by omega), nm_r (e' := upd aM (12 * sd + i) (-6)) (by rw [x2, nI_clamp (by omega)]) ?_⟩
    unfold wX_walkForward_132 wX_walkForward_140 wX_walkForward_149
    exact br_f (by decide) (nm_r (sb_m1 (hlf (by decide))) (br_f (by decide) (nm_r (nI_1 i) (br_t rfl (nm_r (nI_1 t) K)))))
  · subst e
    rw [if_pos rfl, if_neg (by decide), if_neg (by decide), if_pos rfl] at K
    refine br_t rfl ?_
    unfold wX_walkForward_132 wX_walkForward_140 wX_walkForward_149
    exact br_f (by decide) (nm_r (sb_m1 (hlf (by decide))) (br_t rfl (br_f (by decide) (nm_r (nI_1 j) (nm_r (nI_1 t) K)))))
theorem xw_wf42 {post : SX → Prop} {J : _} {i j t lf : Nat} (hL : ∀ i, i < 36 → aL i = L i) (hb : b ≤ 12) (hs : s ≤ 12) (h1 : 1 ≤ sd) (h2 : sd ≤ 2) (h0 : aS 0 = nI b) (hS : aS sd = nI s)
    (hi : i ≤ b) (hj : j ≤ s) (hij : i < b ∨ j < s) (hl : lf = ed_D L (sc_B L sd) b s i j) (hlf : lf ≤ 24) (ht : t < 24) (hR : ∀ d, d < lf → fr_R L (sc_B L sd) b s d (fun c => aR (27 * d + c)))
    (K : J (nI (i + if sc_op L (sc_B L sd) b s i j = 2 then 0 else 1)) (nI (j + if sc_op L (sc_B L sd) b s i j = 1 then 0 else 1)) (nI (lf - if sc_op L (sc_B L sd) b s i j = 0 then 0 else 1)) (nI (t + 1)) aL aS aR (upd aO (24 * sd + t) (nI (sc_op L (sc_B L sd) b s i j))) (upd aN (24 * sd + t) (if sc_op L (sc_B L sd) b s i j = 2 then sc_B L sd j else L i)) aZ aE (if sc_op L (sc_B L sd) b s i j = 2 then aM else upd aM (12 * sd + i) (if sc_op L (sc_B L sd) b s i j = 0 then nI j else -6)) aP aQ aH aW aU aV aX) :
    wX_walkForward_42 post J (nI sd) (nI i) (nI j) (nI lf) (nI t) q0 q1 q2 q3 q4 q5 q6 q7 q8 q9 xC xK xD xT xM aL aS aR aO aN aZ aE aM aP aQ aH aW aU aV aX := by
  unfold wX_walkForward_42
  refine xw_choose hL hb hs h1 h2 h0 hS hi hj hl hlf hR ?_
  obtain ⟨g0, g1, g2⟩ := sc_adv (A := L) (B := sc_B L sd) hi hj hij
  have ho := sc_op3 (A := L) (B := sc_B L sd) (b := b) (s := s) i j
  have hq := sc_left (A := L) (B := sc_B L sd) hi hj hij
  generalize sc_op L (sc_B L sd) b s i j = o at K g0 g1 g2 ho hq
  have ex : nI sd * 24 + nI t = nI (24 * sd + t) := ib_24 _ _
  have x2 : nI sd * 12 + nI j = nI (12 * sd + j) := ib_12 _ _
  refine nm_r ex ⟨vp_in_nI (by omega) (by omega), nm_r (e' := upd aO (24 * sd + t) (nI o)) (by rw [nI_clamp (by omega)]) ?_⟩
  have hlf1 : o ≠ 0 → 1 ≤ lf := by
    intro z
    rw [if_neg z] at hq
    omega
  have hio : o ≠ 2 → 12 * sd + i < 36 := by
    intro z
    rcases ho with y | y | y
    · have := (g0 y).1; omega
    · have := g1 y; omega
    · exact absurd y z
  refine pk_eq o 2 (fun z => ?_) (fun z => ?_)
  · have := g2 z
    refine ⟨by rw [x2]; exact vp_in_nI (by omega) (by omega), ?_⟩
    rw [x2, nI_clamp (by omega), hL _ (by omega)]
    rw [show (if o = 2 then sc_B L sd j else L i) = L (12 * sd + j) from if_pos z] at K
    exact xw_wf103 ho (by omega) hio hlf1 K
  · have := hio z
    refine ⟨vp_in_nI (by omega) (by omega), ?_⟩
    rw [nI_clamp (by omega), hL _ (by omega)]
    rw [show (if o = 2 then sc_B L sd j else L i) = L i from if_neg z] at K
    exact xw_wf103 ho (by omega) hio hlf1 K
/-- the arrays after t steps -/
def xw_WI (L : Nat → Int32) (sd b s t : Nat) (fM0 fO fN fM : Nat → Int32) : Prop :=
  (∀ u, u < t → fO (24 * sd + u) = nI (sc_o L (sc_B L sd) b s u) ∧ fN (24 * sd + u) = sc_l L (sc_B L sd) b s u) ∧
  (∀ u, u < t → ¬ sc_o L (sc_B L sd) b s u = 2 → fM (12 * sd + sc_i L (sc_B L sd) b s u) = sc_v L (sc_B L sd) b s u) ∧ (∀ j, j < 12 * sd ∨ 12 * sd + 12 ≤ j → fM j = fM0 j)
theorem xw_WIS {t : Nat} {fM0 fO fN fM : Nat → Int32} (hb : b ≤ 12) (ht : t < sc_n L (sc_B L sd) b s) (h : xw_WI L sd b s t fM0 fO fN fM) :
    xw_WI L sd b s (t + 1) fM0 (upd fO (24 * sd + t) (nI (sc_o L (sc_B L sd) b s t))) (upd fN (24 * sd + t) (sc_l L (sc_B L sd) b s t)) (if sc_o L (sc_B L sd) b s t = 2 then fM else upd fM (12 * sd + sc_i L (sc_B L sd) b s t) (sc_v L (sc_B L sd) b s t)) := by
  obtain ⟨k1, k2, k3⟩ := h
  obtain ⟨g0, g1, g2⟩ := sc_at ht
  refine ⟨fun u hu => ?_, fun u hu ho => ?_, fun j hj => ?_⟩
  · by_cases e : u = t
    · rw [e, pk_us, pk_us]
      exact ⟨rfl, rfl⟩
    · rw [pk_un (by omega), pk_un (by omega)]
      exact k1 u (by omega)
  · by_cases e : u = t
    · subst e
      rw [if_neg ho, pk_us]
    · have q := sc_ine (A := L) (B := sc_B L sd) (b := b) (s := s) (t := t) (u := u) (by omega) ho
      by_cases z : sc_o L (sc_B L sd) b s t = 2
      · rw [if_pos z]
        exact k2 u (by omega) ho
      · rw [if_neg z, pk_un (by omega)]
        exact k2 u (by omega) ho
  · by_cases z : sc_o L (sc_B L sd) b s t = 2
    · rw [if_pos z]
      exact k3 j hj
    · have : sc_i L (sc_B L sd) b s t < b := by
        rcases sc_o3 (A := L) (B := sc_B L sd) (b := b) (s := s) t with y | y | y
        · exact (g0 y).1
        · exact g1 y
        · exact absurd y z
      rw [if_neg z, pk_un (by omega)]
      exact k3 j hj
theorem xw_wf15 {post : SX → Prop} {fM0 : Nat → Int32} (hL : ∀ i, i < 36 → aL i = L i) (hb : b ≤ 12) (hs : s ≤ 12) (h1 : 1 ≤ sd) (h2 : sd ≤ 2) (h0 : aS 0 = nI b) (hS : aS sd = nI s)
    (hR : ∀ d, d ≤ ed_D L (sc_B L sd) b s 0 0 → fr_R L (sc_B L sd) b s d (fun c => aR (27 * d + c)))
    (K : ∀ fO fN fM, xw_WI L sd b s (sc_n L (sc_B L sd) b s) fM0 fO fN fM → post (q0, q1, q2, q3, q4, q5, q6, q7, q8, q9, xC, xK, xD, xT, xM, aL, aS, aR, fO, fN, upd aZ sd (nI (sc_n L (sc_B L sd) b s)), aE, fM, aP, aQ, aH, aW, aU, aV, aX)) :
    ∀ k t n fO fN fM, t + k = sc_n L (sc_B L sd) b s → k < n → xw_WI L sd b s t fM0 fO fN fM →
    wX_walkForward_15 post (nI sd) q0 q1 q2 q3 q4 q5 q6 q7 q8 q9 xC xK xD xT xM n (nI (sc_i L (sc_B L sd) b s t)) (nI (sc_j L (sc_B L sd) b s t)) (nI (ed_D L (sc_B L sd) b s (sc_i L (sc_B L sd) b s t) (sc_j L (sc_B L sd) b s t))) (nI t) aL aS aR fO fN aZ aE fM aP aQ aH aW aU aV aX := by
  have hN := sc_nE (A := L) (B := sc_B L sd) (b := b) (s := s)
  have hD := ed_le (A := L) (B := sc_B L sd) (b := b) (s := s) (i := 0) (j := 0) (Nat.zero_le _) (Nat.zero_le _)
  intro k
  induction k with
  | zero =>
    intro t n fO fN fM htk hn hI
    obtain ⟨n, rfl⟩ : ∃ m, n = m + 1 := ⟨n - 1, by omega⟩
    have et : t = sc_n L (sc_B L sd) b s := by omega
    subst et
    rw [wX_walkForward_15, hN.2.1, hN.2.2]
    have w : vp_in (nI sd) 3 := vp_in_nI (by omega) (by omega)
    have fin : vp_in (nI sd) 3 ∧ ∀ z : Nat → Int32, z = upd aZ (nI sd).toNatClampNeg (nI (sc_n L (sc_B L sd) b s)) → post (q0, q1, q2, q3, q4, q5, q6, q7, q8, q9, xC, xK, xD, xT, xM, aL, aS, aR, fO, fN, z, aE, fM, aP, aQ, aH, aW, aU, aV, aX) := ⟨w, nm_r (e' := upd aZ sd (nI (sc_n L (sc_B L sd) b s))) (by rw [nI_clamp (by omega)]) (K fO fN fM hI)⟩
    refine pk_le 24 (sc_n L (sc_B L sd) b s) (fun _ => fin) (fun _ => ?_)
    refine br_f (by rw [h0]; exact nI_nlt (Nat.le_refl _) (by omega)) ⟨vp_in_nI (by omega) (by omega), br_t ?_ fin⟩
    rw [nI_clamp (by omega), hS]
    exact nI_le (Nat.le_refl _) (by omega)
  | succ k ih =>
    intro t n fO fN fM htk hn hI
    obtain ⟨n, rfl⟩ : ∃ m, n = m + 1 := ⟨n - 1, by omega⟩
    have ht : t < sc_n L (sc_B L sd) b s := by omega
    obtain ⟨hi, hj⟩ := sc_in (A := L) (B := sc_B L sd) (b := b) (s := s) (t := t) (by omega)
    have hij := sc_lt ht
    have hdl := sc_dl ht
    have hdle := sc_dle (A := L) (B := sc_B L sd) (b := b) (s := s) (t := t) (by omega)
    have nx := ih (t + 1) n _ _ _ (by omega) (by omega) (xw_WIS hb ht hI)
    rw [sc_iS, sc_jS] at nx hdl
    rw [show ed_D L (sc_B L sd) b s (sc_i L (sc_B L sd) b s t + if sc_o L (sc_B L sd) b s t = 2 then 0 else 1) (sc_j L (sc_B L sd) b s t + if sc_o L (sc_B L sd) b s t = 1 then 0 else 1) = ed_D L (sc_B L sd) b s (sc_i L (sc_B L sd) b s t) (sc_j L (sc_B L sd) b s t) - (if sc_o L (sc_B L sd) b s t = 0 then 0 else 1) by omega] at nx
    have body : wX_walkForward_42 post (wX_walkForward_15 post (nI sd) q0 q1 q2 q3 q4 q5 q6 q7 q8 q9 xC xK xD xT xM n) (nI sd) (nI (sc_i L (sc_B L sd) b s t)) (nI (sc_j L (sc_B L sd) b s t)) (nI (ed_D L (sc_B L sd) b s (sc_i L (sc_B L sd) b s t) (sc_j L (sc_B L sd) b s t))) (nI t) q0 q1 q2 q3 q4 q5 q6 q7 q8 q9 xC xK xD xT xM aL aS aR fO fN aZ aE fM aP aQ aH aW aU aV aX := xw_wf42 hL hb hs h1 h2 h0 hS hi hj hij rfl (by omega) (by omega) (fun d hd => hR d (by omega)) nx
    rw [wX_walkForward_15]
    refine br_f (nI_ge (b := 24) (by omega) (by decide)) ?_
    refine pk_lt (sc_i L (sc_B L sd) b s t) b (fun _ => body) (fun z => ?_) rfl h0
    refine ⟨vp_in_nI (by omega) (by omega), br_f ?_ body⟩
    rw [nI_clamp (by omega), hS]
    exact nI_ge (by omega) (by omega)
theorem xw_walk {post : SX → Prop} (hL : ∀ i, i < 36 → aL i = L i) (hb : b ≤ 12) (hs : s ≤ 12) (h1 : 1 ≤ sd) (h2 : sd ≤ 2) (h0 : aS 0 = nI b) (hS : aS sd = nI s) (hE : aE sd = nI (ed_D L (sc_B L sd) b s 0 0))
    (hR : ∀ d, d ≤ ed_D L (sc_B L sd) b s 0 0 → fr_R L (sc_B L sd) b s d (fun c => aR (27 * d + c)))
    (K : ∀ fO fN fM, xw_WI L sd b s (sc_n L (sc_B L sd) b s) aM fO fN fM → post (q0, q1, q2, q3, q4, q5, q6, q7, q8, q9, xC, xK, xD, xT, xM, aL, aS, aR, fO, fN, upd aZ sd (nI (sc_n L (sc_B L sd) b s)), aE, fM, aP, aQ, aH, aW, aU, aV, aX)) :
    wpX_walkForward post (q0, q1, q2, q3, q4, q5, q6, q7, q8, q9, xC, xK, xD, xT, xM, aL, aS, aR, aO, aN, aZ, aE, aM, aP, aQ, aH, aW, aU, aV, aX) (nI sd) := by
  unfold wpX_walkForward
  refine ⟨vp_in_nI (by omega) (by omega), nm_r (e' := nI (ed_D L (sc_B L sd) b s 0 0)) (by rw [nI_clamp (by omega), hE]) ?_⟩
  exact ⟨_, xw_wf15 hL hb hs h1 h2 h0 hS hR K (sc_n L (sc_B L sd) b s) 0 (sc_n L (sc_B L sd) b s + 1) aO aN aM (by omega) (by omega) ⟨fun u h => by omega, fun u h => by omega, fun _ _ => rfl⟩⟩
end
end
section
/-! X: the patch -/
/-- f holds G's first n cells from off on -/
def pt_ag (f G : Nat → Int32) (off n : Nat) : Prop := ∀ i, i < n → f (off + i) = G i
theorem pt_agu {f G : Nat → Int32} {off n n' k : Nat} (v : Int32) (h : pt_ag f G off n) (hn : ∀ i, i < n' → i ≠ k → i < n) : pt_ag (upd f (off + k) v) (upd G k v) off n' := by
  intro i hi
  by_cases e : i = k
  · rw [e, pk_us, pk_us]
  · rw [pk_un e, pk_un (by omega)]
    exact h i (hn i hi e)
theorem pt_agopen {f G : Nat → Int32} {off n : Nat} {p q : Int32} (h : pt_ag f G off n) : pt_ag (pt_open f (off + n) p q) (pt_open G n p q) off (n + 5) := by
  unfold pt_open
  rw [Nat.add_assoc, Nat.add_assoc, Nat.add_assoc, Nat.add_assoc]
  refine pt_agu (n := n + 4) _ (pt_agu (n := n + 3) _ (pt_agu (n := n + 2) _ (pt_agu (n := n + 1) _ (pt_agu (n := n) _ h ?_) ?_) ?_) ?_) ?_ <;> (intro i h1 h2; omega)
theorem pt_aginc {f G : Nat → Int32} {off n k : Nat} (h : pt_ag f G off n) (hk : k < n) : pt_ag (pt_inc f (off + k)) (pt_inc G k) off n := by
  unfold pt_inc
  rw [h k hk]
  exact pt_agu _ h (fun i h1 _ => h1)
theorem pt_ag2 {f G : Nat → Int32} {off n : Nat} {o l : Int32} (h : pt_ag f G off n) : pt_ag (pt_2 f (off + n) o l) (pt_2 G n o l) off (n + 2) := by
  unfold pt_2
  rw [Nat.add_assoc]
  refine pt_agu (n := n + 1) _ (pt_agu (n := n) _ h ?_) ?_ <;> (intro i h1 h2; omega)
theorem pt_agadd {f G : Nat → Int32} {off n k o : Nat} {l : Int32} (h : pt_ag f G off n) (hk : k + 4 < n) : pt_ag (pt_add f (off + n) (off + k) o l) (pt_add G n k o l) off (n + 2) := by
  unfold pt_add
  rw [Nat.add_assoc, Nat.add_assoc]
  have h2 : pt_ag (pt_2 f (off + n) (nI o) l) (pt_2 G n (nI o) l) off (n + 2) := pt_ag2 h
  by_cases e1 : o = 1
  · rw [if_pos e1, if_pos e1, if_neg (by omega), if_neg (by omega)]
    exact pt_aginc h2 (by omega)
  · rw [if_neg e1, if_neg e1]
    refine pt_aginc ?_ (by omega)
    by_cases e2 : o = 2
    · rw [if_pos e2, if_pos e2]
      exact h2
    · rw [if_neg e2, if_neg e2]
      exact pt_aginc h2 (by omega)
theorem pt_fopen {f : Nat → Int32} {n j : Nat} {p q : Int32} (h : j < n ∨ n + 5 ≤ j) : pt_open f n p q j = f j := by
  unfold pt_open
  rw [pk_un (by omega), pk_un (by omega), pk_un (by omega), pk_un (by omega), pk_un (by omega)]
theorem pt_fadd {f : Nat → Int32} {n k o j : Nat} {l : Int32} (h1 : j ≠ n) (h2 : j ≠ n + 1) (h3 : j ≠ k + 2) (h4 : j ≠ k + 4) : pt_add f n k o l j = f j := by
  unfold pt_add pt_inc pt_2
  by_cases e1 : o = 1
  · rw [if_pos e1, if_neg (by omega), pk_un h3, pk_un h2, pk_un h1]
  · rw [if_neg e1]
    by_cases e2 : o = 2
    · rw [if_pos e2, pk_un h4, pk_un h2, pk_un h1]
    · rw [if_neg e2, pk_un h4, pk_un h3, pk_un h2, pk_un h1]
/-- the latest hunk is the last one -/
theorem pt_last {S : Nat → Bool} : ∀ t, 1 ≤ pt_k S t → pt_s S t (pt_k S t - 1) = pt_hs S t := by
  intro t
  induction t with
  | zero => intro h; exact absurd (show 1 ≤ 0 from h) (by decide)
  | succ t ih =>
    intro h
    by_cases hb : sh_b S t = true
    · have ek : pt_k S (t + 1) = pt_k S t + 1 := by
        show pt_k S t + (if sh_b S t = true then 1 else 0) = _
        rw [if_pos hb]
      rw [ek, Nat.add_sub_cancel, pt_s, if_pos ⟨hb, rfl⟩, pt_hsS, if_pos hb]
    · have ek : pt_k S (t + 1) = pt_k S t := by
        show pt_k S t + (if sh_b S t = true then 1 else 0) = _
        rw [if_neg hb]
        rfl
      rw [ek] at h
      rw [ek, pt_s, if_neg (fun z => hb z.1), pt_hsS, if_neg hb]
      exact ih h
theorem xw_flag1 {S : Nat → Bool} {t : Nat} (hs : S t = true) : (1 : Int32) = 0 ↔ (t + 1 = 0 ∨ S (t + 1 - 1) = false) := by
  refine ⟨fun z => absurd z (by decide), fun z => ?_⟩
  rcases z with z | z
  · omega
  · rw [Nat.add_sub_cancel, hs] at z
    cases z
section
variable {q0 q1 q2 q3 q4 q5 q6 q7 q8 q9 xC xK xD xT xM : Int32} {aL aS aR aO aN aZ aE aM aP aQ aH aW aU aV aX : Nat → Int32}
variable {sd : Nat}
theorem xw_shown31 {post : Int32 → Prop} {O : Nat → Nat} {N x t : Nat} (h2 : sd ≤ 2) (hN : N ≤ 24) (hx : x ≤ 3) (ht : t < 24) (hO3 : ∀ u, O u = 0 ∨ O u = 1 ∨ O u = 2) (hZ : aZ sd = nI N) (hO : ∀ u, u < N → aO (24 * sd + u) = nI (O u))
    (K1 : sh_s O N x t = true → post 1) (K0 : sh_s O N x t = false → post 0) :
    ∀ k u n, u + k = 28 → k < n → t - x ≤ u → (∀ v, t ≤ v + x → v < u → v < N → O v = 0) → wX_isShown_31 post (nI sd) (nI (t + x)) q0 q1 q2 q3 q4 q5 q6 q7 q8 q9 xC xK xD xT xM aL aS aR aO aN aZ aE aM aP aQ aH aW aU aV aX n (nI u) := by
  have no : ∀ u, (∀ v, t ≤ v + x → v < u → v < N → O v = 0) → (t + x < u ∨ N ≤ u) → post 0 := by
    intro u hv hu
    apply K0
    cases e : sh_s O N x t
    · rfl
    · obtain ⟨v, a1, a2, a3, a4⟩ := sh_iff.mp e
      exact absurd (hv v a3 (by omega) a1) a2
  intro k
  induction k with
  | zero =>
    intro u n huk hn hu hv
    obtain ⟨n, rfl⟩ : ∃ m, n = m + 1 := ⟨n - 1, by omega⟩
    rw [wX_isShown_31]
    exact br_t (nI_lt (by omega) (by omega)) (no u hv (Or.inl (by omega)))
  | succ k ih =>
    intro u n huk hn hu hv
    obtain ⟨n, rfl⟩ : ∃ m, n = m + 1 := ⟨n - 1, by omega⟩
    rw [wX_isShown_31]
    refine pk_lt (t + x) u (fun z => no u hv (Or.inl z)) (fun z => ⟨vp_in_nI (by omega) (by omega), pk_le N u (fun y => no u hv (Or.inr y)) (fun y => ?_) (by rw [nI_clamp (by omega), hZ])⟩)
    have ex : nI sd * 24 + nI u = nI (24 * sd + u) := ib_24 _ _
    have r : aO (nI sd * 24 + nI u).toNatClampNeg = nI (O u) := by rw [ex, nI_clamp (by omega), hO u y]
    have h3 := hO3 u
    refine ⟨by rw [ex]; exact vp_in_nI (by omega) (by omega), pk_eq (O u) 0 (fun e => ?_) (fun e => ?_) r⟩
    · refine nm_r (nI_1 u) (ih (u + 1) n (by omega) (by omega) (by omega) (fun v a1 a2 a3 => ?_))
      by_cases q : v = u
      · rw [q]; exact e
      · exact hv v a1 (by omega) a3
    · exact K1 (sh_iff.mpr ⟨u, y, e, by omega, z⟩)
theorem xw_shown {post : Int32 → Prop} {O : Nat → Nat} {N x t : Nat} (h2 : sd ≤ 2) (hN : N ≤ 24) (hx : x ≤ 3) (hK : xK = nI x) (ht : t < 24) (hO3 : ∀ u, O u = 0 ∨ O u = 1 ∨ O u = 2) (hZ : aZ sd = nI N) (hO : ∀ u, u < N → aO (24 * sd + u) = nI (O u))
    (K1 : sh_s O N x t = true → post 1) (K0 : sh_s O N x t = false → post 0) : wpX_isShown post (q0, q1, q2, q3, q4, q5, q6, q7, q8, q9, xC, xK, xD, xT, xM, aL, aS, aR, aO, aN, aZ, aE, aM, aP, aQ, aH, aW, aU, aV, aX) (nI sd) (nI t) := by
  subst hK
  have g : wX_isShown_19 post (nI sd) (nI t) (nI (t - x)) q0 q1 q2 q3 q4 q5 q6 q7 q8 q9 xC (nI x) xD xT xM aL aS aR aO aN aZ aE aM aP aQ aH aW aU aV aX := by
    unfold wX_isShown_19
    refine nm_r (nI_add t x) ⟨29, xw_shown31 h2 hN hx ht hO3 hZ hO K1 K0 (28 - (t - x)) (t - x) 29 (by omega) (by omega) (Nat.le_refl _) (fun v a1 a2 _ => by omega)⟩
  unfold wpX_isShown
  by_cases k : x ≤ t
  · refine br_t ?_ ?_
    · rw [pk_sub k]
      exact nI_pos' (by omega)
    · rw [pk_sub k]
      exact g
  · refine br_f (Int32.not_le.mpr (pk_sneg (by omega) (by omega))) ?_
    rw [show t - x = 0 by omega] at g
    exact g
theorem xw_open {post : SX → Prop} {n k : Nat} {p q : Int32} (h2 : sd ≤ 2) (hn : n + 5 ≤ 128) (hk : k < 16) (hQ : aQ sd = nI n) (hW : aW sd = nI k)
    (K : post (q0, q1, q2, q3, q4, q5, q6, q7, q8, q9, xC, xK, xD, xT, xM, aL, aS, aR, aO, aN, aZ, aE, aM, pt_open aP (128 * sd + n) p q, upd aQ sd (nI (n + 5)), upd aH (16 * sd + k) (nI (128 * sd + n)), upd aW sd (nI (k + 1)), aU, aV, aX)) : wpX_openHunk post (q0, q1, q2, q3, q4, q5, q6, q7, q8, q9, xC, xK, xD, xT, xM, aL, aS, aR, aO, aN, aZ, aE, aM, aP, aQ, aH, aW, aU, aV, aX) (nI sd) p q := by
  have w : vp_in (nI sd) 3 := vp_in_nI (by omega) (by omega)
  have c : (nI sd).toNatClampNeg = sd := nI_clamp (by omega)
  have ex : nI sd * 128 + nI n = nI (128 * sd + n) := ib_128 _ _
  have eh : nI sd * 16 + nI k = nI (16 * sd + k) := ib_16 _ _
  have e1 : ∀ j, nI (128 * sd + n) + nI j = nI (128 * sd + n + j) := fun j => nI_add _ _
  have i1 : ∀ j, j < 5 → vp_in (nI (128 * sd + n) + nI j) 384 := fun j hj => by rw [e1]; exact vp_in_nI (by omega) (by omega)
  unfold wpX_openHunk
  dsimp only
  rw [c, hQ, hW, ex, eh]
  refine ⟨w, nm_e ⟨w, vp_in_nI (by omega) (by omega), nm_r (e' := upd aH (16 * sd + k) (nI (128 * sd + n))) (by rw [nI_clamp (by omega)]) ⟨w, w, nm_r (e' := upd aW sd (nI (k + 1))) (by rw [nI_1]) ?_⟩⟩⟩
  refine ⟨vp_in_nI (by omega) (by omega), nm_r (e' := upd aP (128 * sd + n) (-20)) (by rw [nI_clamp (by omega)]) ⟨i1 1 (by omega), nm_r (e' := upd (upd aP (128 * sd + n) (-20)) (128 * sd + n + 1) p) (ib_up _ _ _ (e1 1) (by omega)) ?_⟩⟩
  refine ⟨i1 2 (by omega), nm_r (e' := upd (upd (upd aP (128 * sd + n) (-20)) (128 * sd + n + 1) p) (128 * sd + n + 2) 0) (ib_up _ _ _ (e1 2) (by omega)) ⟨i1 3 (by omega), nm_r (e' := upd (upd (upd (upd aP (128 * sd + n) (-20)) (128 * sd + n + 1) p) (128 * sd + n + 2) 0) (128 * sd + n + 3) q) (ib_up _ _ _ (e1 3) (by omega)) ?_⟩⟩
  refine ⟨i1 4 (by omega), nm_r (e' := pt_open aP (128 * sd + n) p q) (ib_up _ _ _ (e1 4) (by omega)) ⟨w, w, nm_r (e' := upd aQ sd (nI (n + 5))) (congrArg (upd aQ sd) (nI_add n 5)) K⟩⟩
theorem xw_addh {post : SX → Prop} {n k h o t : Nat} {l : Int32} (h2 : sd ≤ 2) (hn : n + 2 ≤ 128) (hk : k < 16) (hh : h + 5 ≤ n) (ht : t < 24) (ho : o = 0 ∨ o = 1 ∨ o = 2) (hQ : aQ sd = nI n) (hW : aW sd = nI (k + 1)) (hH : aH (16 * sd + k) = nI (128 * sd + h)) (hO : aO (24 * sd + t) = nI o) (hN : aN (24 * sd + t) = l)
    (K : post (q0, q1, q2, q3, q4, q5, q6, q7, q8, q9, xC, xK, xD, xT, xM, aL, aS, aR, aO, aN, aZ, aE, aM, pt_add aP (128 * sd + n) (128 * sd + h) o l, upd aQ sd (nI (n + 2)), aH, aW, aU, aV, aX)) : wpX_addToHunk post (q0, q1, q2, q3, q4, q5, q6, q7, q8, q9, xC, xK, xD, xT, xM, aL, aS, aR, aO, aN, aZ, aE, aM, aP, aQ, aH, aW, aU, aV, aX) (nI sd) (nI t) := by
  have w : vp_in (nI sd) 3 := vp_in_nI (by omega) (by omega)
  have c : (nI sd).toNatClampNeg = sd := nI_clamp (by omega)
  have ex : nI sd * 128 + nI n = nI (128 * sd + n) := ib_128 _ _
  have eh : nI sd * 16 + nI (k + 1) - 1 = nI (16 * sd + k) := by
    rw [ib_16, ← Nat.add_assoc, nI_pred]
  have et : nI sd * 24 + nI t = nI (24 * sd + t) := ib_24 _ _
  have wt : vp_in (nI sd * 24 + nI t) 72 := by rw [et]; exact vp_in_nI (by omega) (by omega)
  have ct : (nI sd * 24 + nI t).toNatClampNeg = 24 * sd + t := by rw [et]; exact nI_clamp (by omega)
  have e1 : ∀ j, nI (128 * sd + h) + nI j = nI (128 * sd + h + j) := fun j => nI_add _ _
  have g111 : ∀ f, post (q0, q1, q2, q3, q4, q5, q6, q7, q8, q9, xC, xK, xD, xT, xM, aL, aS, aR, aO, aN, aZ, aE, aM, f, upd aQ sd (nI (n + 2)), aH, aW, aU, aV, aX) → wX_addToHunk_111 post (nI sd) q0 q1 q2 q3 q4 q5 q6 q7 q8 q9 xC xK xD xT xM aL aS aR aO aN aZ aE aM f aQ aH aW aU aV aX := by
    intro f hf
    unfold wX_addToHunk_111
    rw [c, hQ]
    exact ⟨w, w, nm_r (e' := upd aQ sd (nI (n + 2))) (congrArg (upd aQ sd) (nI_add n 2)) hf⟩
  have g93 : ∀ f, post (q0, q1, q2, q3, q4, q5, q6, q7, q8, q9, xC, xK, xD, xT, xM, aL, aS, aR, aO, aN, aZ, aE, aM, if o = 1 then f else pt_inc f (128 * sd + h + 4), upd aQ sd (nI (n + 2)), aH, aW, aU, aV, aX) → wX_addToHunk_93 post (nI sd) (nI (128 * sd + h)) (nI o) q0 q1 q2 q3 q4 q5 q6 q7 q8 q9 xC xK xD xT xM aL aS aR aO aN aZ aE aM f aQ aH aW aU aV aX := by
    intro f hf
    unfold wX_addToHunk_93
    refine pk_eq o 1 (fun z => ?_) (fun z => ?_)
    · rw [if_pos z] at hf
      exact g111 f hf
    · rw [if_neg z] at hf
      have i4 : vp_in (nI (128 * sd + h) + 4) 384 := pk_in (128 * sd + h + 4) 384 (by omega) (e1 4)
      exact ⟨i4, i4, nm_r (e' := pt_inc f (128 * sd + h + 4)) (by rw [pk_cl (x := nI (128 * sd + h) + 4) (128 * sd + h + 4) (e1 4)]; rfl) (g111 _ hf)⟩
  unfold wpX_addToHunk
  dsimp only
  rw [c, hQ, hW, eh, ex, nI_clamp (n := 16 * sd + k) (by omega), hH]
  refine ⟨w, vp_in_nI (by omega) (by omega), nm_e ⟨w, nm_e ⟨wt, nm_r (e' := nI o) (by rw [ct, hO]) ⟨vp_in_nI (by omega) (by omega), nm_r (e' := upd aP (128 * sd + n) (nI o)) (by rw [nI_clamp (by omega)]) ⟨wt, ?_⟩⟩⟩⟩⟩
  rw [ct, hN]
  refine ⟨pk_in (128 * sd + n + 1) 384 (by omega) (nI_1 _), nm_r (e' := pt_2 aP (128 * sd + n) (nI o) l) (by rw [nI_1, nI_clamp (by omega)]; rfl) ?_⟩
  refine pk_eq o 2 (fun z => ?_) (fun z => ?_)
  · refine g93 _ ?_
    unfold pt_add at K
    rw [if_pos z] at K
    exact K
  · have i2 : vp_in (nI (128 * sd + h) + 2) 384 := pk_in (128 * sd + h + 2) 384 (by omega) (e1 2)
    refine ⟨i2, i2, nm_r (e' := pt_inc (pt_2 aP (128 * sd + n) (nI o) l) (128 * sd + h + 2)) (by rw [pk_cl (x := nI (128 * sd + h) + 2) (128 * sd + h + 2) (e1 2)]; rfl) (g93 _ ?_)⟩
    unfold pt_add at K
    rw [if_neg z] at K
    exact K
theorem xw_pp73 {post : SX → Prop} {J : _} {i j t o : Nat} {x6 : Int32} (h2 : sd ≤ 2) (ht : t < 24) (ho : o = 0 ∨ o = 1 ∨ o = 2) (hO : aO (24 * sd + t) = nI o)
    (K : J (nI (i + if o = 2 then 0 else 1)) (nI (j + if o = 1 then 0 else 1)) x6 (nI (t + 1)) q0 q1 q2 q3 q4 q5 q6 q7 q8 q9 xC xK xD xT xM aL aS aR aO aN aZ aE aM aP aQ aH aW aU aV aX) : wX_printPatch_73 post J (nI sd) (nI i) (nI j) (nI t) x6 q0 q1 q2 q3 q4 q5 q6 q7 q8 q9 xC xK xD xT xM aL aS aR aO aN aZ aE aM aP aQ aH aW aU aV aX := by
  have et : nI sd * 24 + nI t = nI (24 * sd + t) := ib_24 _ _
  unfold wX_printPatch_73 wX_printPatch_100
  refine ⟨by rw [et]; exact vp_in_nI (by omega) (by omega), nm_r (e' := nI o) (by rw [et, nI_clamp (by omega), hO]) ?_⟩
  rcases ho with e | e | e
  · subst e
    rw [if_neg (by decide), if_neg (by decide)] at K
    exact br_f (by decide) (nm_r (nI_1 i) (br_f (by decide) (nm_r (nI_1 j) (nm_r (nI_1 t) K))))
  · subst e
    rw [if_neg (by decide), if_pos rfl] at K
    exact br_f (by decide) (nm_r (nI_1 i) (br_t rfl (nm_r (nI_1 t) K)))
  · subst e
    rw [if_pos rfl, if_neg (by decide)] at K
    exact br_t rfl (br_f (by decide) (nm_r (nI_1 j) (nm_r (nI_1 t) K)))
/-- the arrays after t steps of the print; f0 ..: as they were -/
def xw_PI (S : Nat → Bool) (O I J : Nat → Nat) (l : Nat → Int32) (sd t : Nat) (fP0 fQ0 fH0 fW0 fP fQ fH fW : Nat → Int32) : Prop :=
  pt_ag fP (pt_G S O I J l t) (128 * sd) (pt_n S t) ∧ fQ sd = nI (pt_n S t) ∧ fW sd = nI (pt_k S t) ∧ (∀ h, h < pt_k S t → fH (16 * sd + h) = nI (128 * sd + pt_n S (pt_s S t h))) ∧
  (∀ j, j < 128 * sd ∨ 128 * sd + 128 ≤ j → fP j = fP0 j) ∧ (∀ j, j ≠ sd → fQ j = fQ0 j) ∧ (∀ j, j ≠ sd → fW j = fW0 j) ∧ (∀ j, j < 16 * sd ∨ 16 * sd + 16 ≤ j → fH j = fH0 j)
section
variable {S : Nat → Bool} {O I J : Nat → Nat} {l : Nat → Int32} {t : Nat} {fP0 fQ0 fH0 fW0 fP fQ fH fW : Nat → Int32}
theorem xw_PIn (hs : S t = false) (h : xw_PI S O I J l sd t fP0 fQ0 fH0 fW0 fP fQ fH fW) : xw_PI S O I J l sd (t + 1) fP0 fQ0 fH0 fW0 fP fQ fH fW := by
  obtain ⟨h1, h2, h3, h4, h5⟩ := h
  have hb := sh_b0 hs
  have ek : pt_k S (t + 1) = pt_k S t := by
    show pt_k S t + (if sh_b S t = true then 1 else 0) = _
    rw [if_neg hb]
    rfl
  refine ⟨?_, ?_, ?_, fun k hk => ?_, h5⟩
  · rw [pt_n0 hs, pt_G, if_neg (by rw [hs]; decide)]
    unfold pt_G1
    rw [if_neg hb]
    exact h1
  · rw [pt_n0 hs]; exact h2
  · rw [ek]; exact h3
  · rw [ek] at hk
    rw [pt_s, if_neg (fun z => hb z.1)]
    exact h4 k hk
theorem xw_PIa (ht : t < 24) (hs : S t = true) (hb : ¬ sh_b S t = true) (h : xw_PI S O I J l sd t fP0 fQ0 fH0 fW0 fP fQ fH fW) : xw_PI S O I J l sd (t + 1) fP0 fQ0 fH0 fW0 (pt_add fP (128 * sd + pt_n S t) (128 * sd + pt_n S (pt_hs S t)) (O t) (l t)) (upd fQ sd (nI (pt_n S t + 2))) fH fW := by
  obtain ⟨h1, h2, h3, h4, h5, h6, h7, h8⟩ := h
  obtain ⟨q1, q2⟩ := sh_bN hb hs
  obtain ⟨c1, c2, c3, c4⟩ := pt_cur (S := S) t q1 q2
  have af := pt_after (S := S) c2 (sh_bS c1).1
  rw [pt_c5 c1] at af
  have few := pt_few (S := S) (t := t) (by omega)
  have ek : pt_k S (t + 1) = pt_k S t := by
    show pt_k S t + (if sh_b S t = true then 1 else 0) = _
    rw [if_neg hb]
    rfl
  have en : pt_n S (t + 1) = pt_n S t + 2 := by rw [pt_nc hs, pt_c0 hb]
  refine ⟨?_, ?_, ?_, fun k hk => ?_, fun j hj => ?_, fun j hj => ?_, h7, h8⟩
  · rw [en, pt_G, if_pos hs, pt_c0 hb, pt_hsS, if_neg hb]
    unfold pt_G1
    rw [if_neg hb]
    exact pt_agadd h1 (by omega)
  · rw [pk_us, en]
  · rw [ek]; exact h3
  · rw [ek] at hk
    rw [pt_s, if_neg (fun z => hb z.1)]
    exact h4 k hk
  · rw [pt_fadd (by omega) (by omega) (by omega) (by omega)]
    exact h5 j hj
  · rw [pk_un hj]
    exact h6 j hj
theorem xw_PIb (ht : t < 24) (hb : sh_b S t = true) (h : xw_PI S O I J l sd t fP0 fQ0 fH0 fW0 fP fQ fH fW) :
    xw_PI S O I J l sd (t + 1) fP0 fQ0 fH0 fW0 (pt_add (pt_open fP (128 * sd + pt_n S t) (nI (I t)) (nI (J t))) (128 * sd + (pt_n S t + 5)) (128 * sd + pt_n S t) (O t) (l t)) (upd (upd fQ sd (nI (pt_n S t + 5))) sd (nI (pt_n S t + 5 + 2))) (upd fH (16 * sd + pt_k S t) (nI (128 * sd + pt_n S t))) (upd fW sd (nI (pt_k S t + 1))) := by
  obtain ⟨h1, h2, h3, h4, h5, h6, h7, h8⟩ := h
  have hs := (sh_bS hb).1
  have few := pt_few (S := S) (t := t) (by omega)
  have ek : pt_k S (t + 1) = pt_k S t + 1 := by
    show pt_k S t + (if sh_b S t = true then 1 else 0) = _
    rw [if_pos hb]
  have en : pt_n S (t + 1) = pt_n S t + 5 + 2 := by rw [pt_nc hs, pt_c5 hb]
  refine ⟨?_, ?_, ?_, fun k hk => ?_, fun j hj => ?_, fun j hj => ?_, fun j hj => ?_, fun j hj => ?_⟩
  · rw [en, pt_G, if_pos hs, pt_c5 hb, pt_hsS, if_pos hb]
    unfold pt_G1
    rw [if_pos hb]
    exact pt_agadd (pt_agopen h1) (by omega)
  · rw [pk_us, en]
  · rw [pk_us, ek]
  · rw [ek] at hk
    by_cases e : k = pt_k S t
    · subst e
      rw [pk_us, pt_s, if_pos ⟨hb, rfl⟩]
    · rw [pk_un (by omega), pt_s, if_neg (fun z => e z.2)]
      exact h4 k (by omega)
  · rw [pt_fadd (by omega) (by omega) (by omega) (by omega), pt_fopen (by omega)]
    exact h5 j hj
  · rw [pk_un hj, pk_un hj]
    exact h6 j hj
  · rw [pk_un hj]
    exact h7 j hj
  · rw [pk_un (by omega)]
    exact h8 j hj
end
theorem xw_pp24 {post : SX → Prop} {O I J : Nat → Nat} {l : Nat → Int32} {N x : Nat} {fP0 fQ0 fH0 fW0 : Nat → Int32} (h2 : sd ≤ 2) (hN : N ≤ 24) (hx : x ≤ 3) (hK : xK = nI x) (hO3 : ∀ u, O u = 0 ∨ O u = 1 ∨ O u = 2) (hZ : aZ sd = nI N) (hO : ∀ u, u < N → aO (24 * sd + u) = nI (O u)) (hl : ∀ u, u < N → aN (24 * sd + u) = l u)
    (hI : ∀ u, I (u + 1) = I u + (if O u = 2 then 0 else 1)) (hJ : ∀ u, J (u + 1) = J u + (if O u = 1 then 0 else 1))
    (K : ∀ fP fQ fH fW, xw_PI (sh_s O N x) O I J l sd N fP0 fQ0 fH0 fW0 fP fQ fH fW → post (q0, q1, q2, q3, q4, q5, q6, q7, q8, q9, xC, xK, xD, xT, xM, aL, aS, aR, aO, aN, aZ, aE, aM, fP, fQ, upd fH (16 * sd + pt_k (sh_s O N x) N) (nI (128 * sd + pt_n (sh_s O N x) N)), fW, aU, aV, aX)) :
    ∀ k t n fP fQ fH fW (op : Int32), t + k = N → k < n → (op = 0 ↔ (t = 0 ∨ sh_s O N x (t - 1) = false)) → xw_PI (sh_s O N x) O I J l sd t fP0 fQ0 fH0 fW0 fP fQ fH fW →
    wX_printPatch_24 post (nI sd) n (nI (I t)) (nI (J t)) op (nI t) q0 q1 q2 q3 q4 q5 q6 q7 q8 q9 xC xK xD xT xM aL aS aR aO aN aZ aE aM fP fQ fH fW aU aV aX := by
  have w : vp_in (nI sd) 3 := vp_in_nI (by omega) (by omega)
  have c : (nI sd).toNatClampNeg = sd := nI_clamp (by omega)
  intro k
  induction k with
  | zero =>
    intro t n fP fQ fH fW op htk hn hop hPI
    obtain ⟨n, rfl⟩ : ∃ m, n = m + 1 := ⟨n - 1, by omega⟩
    have et : t = N := by omega
    subst et
    have few := pt_few (S := sh_s O t x) (t := t) (by omega)
    have eh : nI sd * 16 + nI (pt_k (sh_s O t x) t) = nI (16 * sd + pt_k (sh_s O t x) t) := ib_16 _ _
    have e1 := hPI.2.1
    have e2 := hPI.2.2.1
    rw [wX_printPatch_24]
    refine ⟨w, br_t (by rw [c, hZ]; exact nI_le (Nat.le_refl _) (by omega)) ⟨w, w, ?_⟩⟩
    rw [c, e1, e2, eh]
    exact ⟨vp_in_nI (by omega) (by omega), nm_r (e' := upd fH (16 * sd + pt_k (sh_s O t x) t) (nI (128 * sd + pt_n (sh_s O t x) t))) (by rw [nI_clamp (by omega), ib_128]) (K fP fQ fH fW hPI)⟩
  | succ k ih =>
    intro t n fP fQ fH fW op htk hn hop hPI
    obtain ⟨n, rfl⟩ : ∃ m, n = m + 1 := ⟨n - 1, by omega⟩
    have few := pt_few (S := sh_s O N x) (t := t) (by omega)
    have few1 := pt_few (S := sh_s O N x) (t := t + 1) (by omega)
    have e1 := hPI.2.1
    have e2 := hPI.2.2.1
    have o3 := hO3 t
    have oO := hO t (by omega)
    rw [wX_printPatch_24]
    refine ⟨w, br_f (by rw [c, hZ]; exact nI_ge (by omega) (by omega)) ?_⟩
    refine xw_shown (N := N) (x := x) h2 hN hx hK (by omega) hO3 hZ hO (fun hs => ?_) (fun hs => ?_)
    · refine br_f (by decide) ?_
      by_cases hb : sh_b (sh_s O N x) t = true
      · refine br_t (hop.mpr (sh_bS hb).2) ?_
        refine xw_open h2 (by omega) (by omega) e1 e2 ?_
        show wX_printPatch_61 post _ _ _ _ _ _ q0 q1 q2 q3 q4 q5 q6 q7 q8 q9 xC xK xD xT xM aL aS aR aO aN aZ aE aM _ _ _ _ aU aV aX
        unfold wX_printPatch_61
        refine br_f (by decide) ?_
        refine xw_addh (n := pt_n (sh_s O N x) t + 5) (h := pt_n (sh_s O N x) t) (o := O t) (l := l t) h2 (by rw [pt_nc hs, pt_c5 hb] at few1; omega) (k := pt_k (sh_s O N x) t) (by omega) (Nat.le_refl _) (by omega) o3 pk_us pk_us pk_us oO (hl t (by omega)) ?_
        refine xw_pp73 h2 (by omega) o3 oO ?_
        rw [← hI, ← hJ]
        exact ih (t + 1) n _ _ _ _ 1 (by omega) (by omega) (xw_flag1 hs) (xw_PIb (by omega) hb hPI)
      · obtain ⟨q1, q2⟩ := sh_bN hb hs
        refine br_f (fun z => ?_) ?_
        · rcases hop.mp z with y | y
          · omega
          · rw [q2] at y; cases y
        · obtain ⟨c1, c2, c3, c4⟩ := pt_cur (S := sh_s O N x) t q1 q2
          have kp : 1 ≤ pt_k (sh_s O N x) t := by
            obtain ⟨h', k1, k2⟩ := (pt_st (S := sh_s O N x) t).2.2 _ c2 c1
            omega
          have lst := pt_last (S := sh_s O N x) t kp
          have af := pt_after (S := sh_s O N x) c2 (sh_bS c1).1
          rw [pt_c5 c1] at af
          unfold wX_printPatch_61
          refine br_f (by decide) ?_
          refine xw_addh (n := pt_n (sh_s O N x) t) (h := pt_n (sh_s O N x) (pt_hs (sh_s O N x) t)) (o := O t) (l := l t) h2 (by rw [pt_nc hs, pt_c0 hb] at few1; omega) (k := pt_k (sh_s O N x) t - 1) (by omega) (by omega) (by omega) o3 e1 (by rw [e2, Nat.sub_add_cancel kp]) (by rw [hPI.2.2.2.1 _ (by omega), lst]) oO (hl t (by omega)) ?_
          refine xw_pp73 h2 (by omega) o3 oO ?_
          rw [← hI, ← hJ]
          exact ih (t + 1) n _ _ _ _ 1 (by omega) (by omega) (xw_flag1 hs) (xw_PIa (by omega) hs hb hPI)
    · refine br_t rfl ?_
      unfold wX_printPatch_61
      refine br_t rfl ?_
      refine xw_pp73 h2 (by omega) o3 oO ?_
      rw [← hI, ← hJ]
      exact ih (t + 1) n _ _ _ _ 0 (by omega) (by omega) ⟨fun _ => Or.inr (by rw [Nat.add_sub_cancel]; exact hs), fun _ => rfl⟩ (xw_PIn hs hPI)
theorem xw_print {post : SX → Prop} {O I J : Nat → Nat} {l : Nat → Int32} {N x : Nat} (h2 : sd ≤ 2) (hN : N ≤ 24) (hx : x ≤ 3) (hK : xK = nI x) (hO3 : ∀ u, O u = 0 ∨ O u = 1 ∨ O u = 2) (hZ : aZ sd = nI N) (hO : ∀ u, u < N → aO (24 * sd + u) = nI (O u)) (hl : ∀ u, u < N → aN (24 * sd + u) = l u)
    (hI : ∀ u, I (u + 1) = I u + (if O u = 2 then 0 else 1)) (hJ : ∀ u, J (u + 1) = J u + (if O u = 1 then 0 else 1)) (hI0 : I 0 = 0) (hJ0 : J 0 = 0)
    (K : ∀ fP fQ fH fW, xw_PI (sh_s O N x) O I J l sd N aP aQ aH aW fP fQ fH fW → post (q0, q1, q2, q3, q4, q5, q6, q7, q8, q9, xC, xK, xD, xT, xM, aL, aS, aR, aO, aN, aZ, aE, aM, fP, fQ, upd fH (16 * sd + pt_k (sh_s O N x) N) (nI (128 * sd + pt_n (sh_s O N x) N)), fW, aU, aV, aX)) :
    wpX_printPatch post (q0, q1, q2, q3, q4, q5, q6, q7, q8, q9, xC, xK, xD, xT, xM, aL, aS, aR, aO, aN, aZ, aE, aM, aP, aQ, aH, aW, aU, aV, aX) (nI sd) := by
  have w : vp_in (nI sd) 3 := vp_in_nI (by omega) (by omega)
  have c : (nI sd).toNatClampNeg = sd := nI_clamp (by omega)
  unfold wpX_printPatch
  dsimp only
  rw [c]
  refine ⟨w, nm_e ⟨w, nm_e ⟨N + 1, ?_⟩⟩⟩
  have g : wX_printPatch_24 post (nI sd) (N + 1) (nI (I 0)) (nI (J 0)) 0 (nI 0) q0 q1 q2 q3 q4 q5 q6 q7 q8 q9 xC xK xD xT xM aL aS aR aO aN aZ aE aM aP (upd aQ sd 0) aH (upd aW sd 0) aU aV aX := xw_pp24 h2 hN hx hK hO3 hZ hO hl hI hJ K N 0 (N + 1) aP (upd aQ sd 0) aH (upd aW sd 0) 0 (by omega) (by omega) ⟨fun _ => Or.inl rfl, fun _ => rfl⟩ ⟨fun i h => absurd h (Nat.not_lt_zero _), pk_us, pk_us, fun h z => absurd z (Nat.not_lt_zero _), fun _ _ => rfl, fun j hj => pk_un hj, fun j hj => pk_un hj, fun _ _ => rfl⟩
  rw [hI0, hJ0] at g
  exact g
end
end
section
/-! X: the chunks -/
/-- an array holds the first c rows of T, and ch in the eighth places -/
def xk_A (a : Nat → Int32) (T : Nat → Nat → Nat) (c : Nat) (ch : Nat → Int32) : Prop := ∀ c', c' < c → (∀ f, f < 7 → a (8 * c' + f) = nI (T c' f)) ∧ a (8 * c' + 7) = ch c'
theorem xk_7 {P : Nat → Prop} (h0 : P 0) (h1 : P 1) (h2 : P 2) (h3 : P 3) (h4 : P 4) (h5 : P 5) (h6 : P 6) : ∀ f, f < 7 → P f
  | 0, _ => h0
  | 1, _ => h1
  | 2, _ => h2
  | 3, _ => h3
  | 4, _ => h4
  | 5, _ => h5
  | 6, _ => h6
  | f + 7, h => absurd h (by omega)
theorem xk_put {a a' : Nat → Int32} {T : Nat → Nat → Nat} {c : Nat} {ro : Nat → Nat} {ch : Nat → Int32} (h : xk_A a T c ch) (h1 : ∀ f, f < 7 → a' (8 * c + f) = nI (ro f)) (h2 : a' (8 * c + 7) = ch c) (h3 : ∀ j, j < 8 * c → a' j = a j) : xk_A a' (ck_put T c ro) (c + 1) ch := by
  intro c' hc'
  by_cases e : c' = c
  · subst e
    rw [ck_puts]
    exact ⟨h1, h2⟩
  · rw [ck_putn e]
    obtain ⟨k1, k2⟩ := h c' (by omega)
    exact ⟨fun f hf => by rw [h3 _ (by omega)]; exact k1 f hf, by rw [h3 _ (by omega)]; exact k2⟩
theorem ck_cutv {L : Nat → Int32} {b l r p : Nat} (hl : l ≤ 12) (hr : r ≤ 12) (hp : p < b) (h : ck_ct (ck_M1 L b l) (ck_M2 L b r) b p = true) :
    ck_M1 L b l p = nI (ck_q (ck_M1 L b l) b l p) ∧ ck_M2 L b r p = nI (ck_q (ck_M2 L b r) b r p) := by
  rcases of_decide_eq_true h with z | z
  · omega
  · exact ⟨(ck_qM hl hp z.1).1, (ck_qM hr hp z.2).1⟩
section
variable {q0 q1 q2 q3 q4 q5 q6 q7 q8 q9 xC xK xD xT xM : Int32} {aL aS aR aO aN aZ aE aM aP aQ aH aW aU aV aX : Nat → Int32}
theorem xk_add {post : SX → Prop} {c x1 n1 x2 n2 x3 n3 : Nat} (hc : c < 25) (hT : xT = nI c)
    (K : ∀ a', (∀ f, f < 7 → a' (8 * c + f) = nI (ck_row 0 x1 n1 x2 n2 x3 n3 f)) → a' (8 * c + 7) = 0 → (∀ j, j < 8 * c → a' j = aU j) → post (q0, q1, q2, q3, q4, q5, q6, q7, q8, q9, xC, xK, xD, nI (c + 1), xM, aL, aS, aR, aO, aN, aZ, aE, aM, aP, aQ, aH, aW, a', aV, aX)) :
    wpX_addChunk post (q0, q1, q2, q3, q4, q5, q6, q7, q8, q9, xC, xK, xD, xT, xM, aL, aS, aR, aO, aN, aZ, aE, aM, aP, aQ, aH, aW, aU, aV, aX) (nI x1) (nI n1) (nI x2) (nI n2) (nI x3) (nI n3) := by
  subst hT
  have e1 : ∀ j, nI (8 * c) + nI j = nI (8 * c + j) := fun j => nI_add _ _
  have i1 : ∀ j, j < 8 → vp_in (nI (8 * c) + nI j) 200 := fun j hj => by rw [e1]; exact vp_in_nI (by omega) (by omega)
  have u1 : ∀ (a : Nat → Int32) (j : Nat) (v : Int32), j < 8 → upd a (nI (8 * c) + nI j).toNatClampNeg v = upd a (8 * c + j) v := fun a j v hj => ib_up a v _ (e1 j) (by omega)
  unfold wpX_addChunk
  refine nm_r (ib_m8 c) ⟨vp_in_nI (by omega) (by omega), nm_r (e' := upd aU (8 * c) 0) (by rw [nI_clamp (by omega)]) ?_⟩
  refine ⟨i1 1 (by omega), nm_r (u1 _ 1 _ (by omega)) ⟨i1 2 (by omega), nm_r (u1 _ 2 _ (by omega)) ⟨i1 3 (by omega), nm_r (u1 _ 3 _ (by omega)) ⟨i1 4 (by omega), nm_r (u1 _ 4 _ (by omega)) ?_⟩⟩⟩⟩
  refine ⟨i1 5 (by omega), nm_r (u1 _ 5 _ (by omega)) ⟨i1 6 (by omega), nm_r (u1 _ 6 _ (by omega)) ⟨i1 7 (by omega), nm_r (u1 _ 7 _ (by omega)) (nm_r (nI_1 c) ?_)⟩⟩⟩
  refine K _ (xk_7 ?_ ?_ ?_ ?_ ?_ ?_ ?_) pk_us (fun j hj => ?_)
  · rw [pk_un (by omega), pk_un (by omega), pk_un (by omega), pk_un (by omega), pk_un (by omega), pk_un (by omega), pk_un (by omega)]
    exact pk_us
  · rw [pk_un (by omega), pk_un (by omega), pk_un (by omega), pk_un (by omega), pk_un (by omega), pk_un (by omega)]
    exact pk_us
  · rw [pk_un (by omega), pk_un (by omega), pk_un (by omega), pk_un (by omega), pk_un (by omega)]
    exact pk_us
  · rw [pk_un (by omega), pk_un (by omega), pk_un (by omega), pk_un (by omega)]
    exact pk_us
  · rw [pk_un (by omega), pk_un (by omega), pk_un (by omega)]
    exact pk_us
  · rw [pk_un (by omega), pk_un (by omega)]
    exact pk_us
  · rw [pk_un (by omega)]
    exact pk_us
  · rw [pk_un (by omega), pk_un (by omega), pk_un (by omega), pk_un (by omega), pk_un (by omega), pk_un (by omega), pk_un (by omega), pk_un (by omega)]
theorem xk_seg84 {post : Int32 → Prop} {L : Nat → Int32} {n p q : Nat} (hL : ∀ i, i < 36 → aL i = L i) (hp : p + n ≤ 36) (hq : q + n ≤ 36) (K1 : (∀ k, k < n → L (p + k) = L (q + k)) → post 1) (K0 : (∃ k, k < n ∧ ¬ L (p + k) = L (q + k)) → post 0) :
    ∀ d k m, k + d = n → d < m → (∀ k', k' < k → L (p + k') = L (q + k')) → wX_segmentsEqual_84 post (nI n) (nI p) (nI q) q0 q1 q2 q3 q4 q5 q6 q7 q8 q9 xC xK xD xT xM aL aS aR aO aN aZ aE aM aP aQ aH aW aU aV aX m (nI k) := by
  intro d
  induction d with
  | zero =>
    intro k m hk hm h
    obtain ⟨m, rfl⟩ : ∃ m', m = m' + 1 := ⟨m - 1, by omega⟩
    rw [wX_segmentsEqual_84]
    exact br_t (nI_le (by omega) (by omega)) (K1 (fun k' hk' => h k' (by omega)))
  | succ d ih =>
    intro k m hk hm h
    obtain ⟨m, rfl⟩ : ∃ m', m = m' + 1 := ⟨m - 1, by omega⟩
    rw [wX_segmentsEqual_84]
    have r1 : aL (nI p + nI k).toNatClampNeg = L (p + k) := by rw [nI_add, nI_clamp (by omega), hL _ (by omega)]
    have r2 : aL (nI q + nI k).toNatClampNeg = L (q + k) := by rw [nI_add, nI_clamp (by omega), hL _ (by omega)]
    refine br_f (nI_ge (by omega) (by omega)) ⟨by rw [nI_add]; exact vp_in_nI (by omega) (by omega), by rw [nI_add]; exact vp_in_nI (by omega) (by omega), ?_⟩
    by_cases e : L (p + k) = L (q + k)
    · refine br_t (by rw [r1, r2]; exact e) (nm_r (nI_1 k) (ih (k + 1) m (by omega) (by omega) (fun k' hk' => ?_)))
      by_cases z : k' = k
      · rw [z]; exact e
      · exact h k' (by omega)
    · exact br_f (by rw [r1, r2]; exact e) (K0 ⟨k, by omega, e⟩)
theorem xk_seg {post : Int32 → Prop} {L : Nat → Int32} {c on ot x1 n1 x2 n2 : Nat} (hL : ∀ i, i < 36 → aL i = L i) (hc : c < 25) (hon : on ≤ 2) (hot : ot ≤ 2) (h1 : x1 + n1 ≤ 12) (h2 : x2 + n2 ≤ 12)
    (e1 : aU (8 * c + (1 + 2 * on)) = nI x1) (e2 : aU (8 * c + (2 + 2 * on)) = nI n1) (e3 : aU (8 * c + (1 + 2 * ot)) = nI x2) (e4 : aU (8 * c + (2 + 2 * ot)) = nI n2)
    (K1 : ck_same L (12 * on + x1) n1 (12 * ot + x2) n2 = true → post 1) (K0 : ck_same L (12 * on + x1) n1 (12 * ot + x2) n2 = false → post 0) : wpX_segmentsEqual post (q0, q1, q2, q3, q4, q5, q6, q7, q8, q9, xC, xK, xD, xT, xM, aL, aS, aR, aO, aN, aZ, aE, aM, aP, aQ, aH, aW, aU, aV, aX) (nI c) (nI on) (nI ot) := by
  have ix : ∀ j o, nI (8 * c) + nI j + 2 * nI o = nI (8 * c + (j + 2 * o)) := fun j o => by rw [ib_2m, nI_add, nI_add, Nat.add_assoc]
  have ix1 : ∀ o, nI (8 * c) + 1 + 2 * nI o = nI (8 * c + (1 + 2 * o)) := fun o => ix 1 o
  have ix2 : ∀ o, nI (8 * c) + 2 + 2 * nI o = nI (8 * c + (2 + 2 * o)) := fun o => ix 2 o
  have K0' : (n1 ≠ n2 ∨ ∃ k, k < n1 ∧ ¬ L (12 * on + x1 + k) = L (12 * ot + x2 + k)) → post 0 := by
    intro h
    apply K0
    cases e : ck_same L (12 * on + x1) n1 (12 * ot + x2) n2
    · rfl
    · obtain ⟨g1, g2⟩ := ck_same_iff.mp e
      rcases h with h | ⟨k, a1, a2⟩
      · exact absurd g1 h
      · exact absurd (g2 k a1) a2
  unfold wpX_segmentsEqual
  refine nm_r (ib_m8 c) ⟨pk_in (8 * c + (2 + 2 * on)) 200 (by omega) (ix2 on), nm_r (e' := nI n1) (by rw [pk_cl (8 * c + (2 + 2 * on)) (ix2 on), e2]) ⟨pk_in (8 * c + (2 + 2 * ot)) 200 (by omega) (ix2 ot), ?_⟩⟩
  refine pk_eq n1 n2 (fun z => ?_) (fun z => K0' (Or.inl z)) rfl (by rw [pk_cl (8 * c + (2 + 2 * ot)) (ix2 ot), e4])
  refine ⟨pk_in (8 * c + (1 + 2 * on)) 200 (by omega) (ix1 on), nm_r (e' := nI (12 * on + x1)) (by rw [pk_cl (8 * c + (1 + 2 * on)) (ix1 on), e1, ib_12]) ⟨pk_in (8 * c + (1 + 2 * ot)) 200 (by omega) (ix1 ot), nm_r (e' := nI (12 * ot + x2)) (by rw [pk_cl (8 * c + (1 + 2 * ot)) (ix1 ot), e3, ib_12]) ⟨n1 + 1, ?_⟩⟩⟩
  exact xk_seg84 hL (by omega) (by omega) (fun h => K1 (ck_same_iff.mpr ⟨z, h⟩)) (fun h => K0' (Or.inr h)) n1 0 (n1 + 1) (by omega) (by omega) (fun k' h => by omega)
theorem xk_kind {post : Int32 → Prop} {L : Nat → Int32} {c k x0 n0 x1 n1 x2 n2 : Nat} (hL : ∀ i, i < 36 → aL i = L i) (hc : c < 25) (h0 : x0 + n0 ≤ 12) (h1 : x1 + n1 ≤ 12) (h2 : x2 + n2 ≤ 12)
    (e : ∀ f, f < 7 → aU (8 * c + f) = nI (ck_row k x0 n0 x1 n1 x2 n2 f)) (K : post (nI (ck_kind L x0 n0 x1 n1 x2 n2))) : wpX_kindOfGap post (q0, q1, q2, q3, q4, q5, q6, q7, q8, q9, xC, xK, xD, xT, xM, aL, aS, aR, aO, aN, aZ, aE, aM, aP, aQ, aH, aW, aU, aV, aX) (nI c) := by
  have z0 : 12 * 0 + x0 = x0 := by omega
  unfold ck_kind at K
  unfold wpX_kindOfGap
  refine xk_seg (on := 1) (ot := 0) (L := L) hL hc (by omega) (by omega) h1 h0 (e 3 (by omega)) (e 4 (by omega)) (e 1 (by omega)) (e 2 (by omega)) (fun q => ?_) (fun q => ?_)
  · rw [z0] at q
    rw [if_pos q] at K
    exact br_f (by decide) K
  · rw [z0] at q
    have q' : ¬ ck_same L (12 + x1) n1 x0 n0 = true := by rw [q]; decide
    rw [if_neg q'] at K
    refine br_t rfl ?_
    refine xk_seg (on := 2) (ot := 0) (L := L) hL hc (by omega) (by omega) h2 h0 (e 5 (by omega)) (e 6 (by omega)) (e 1 (by omega)) (e 2 (by omega)) (fun q => ?_) (fun q => ?_)
    · rw [z0] at q
      rw [if_pos q] at K
      exact br_f (by decide) K
    · rw [z0] at q
      have q' : ¬ ck_same L (24 + x2) n2 x0 n0 = true := by rw [q]; decide
      rw [if_neg q'] at K
      refine br_t rfl ?_
      refine xk_seg (on := 1) (ot := 2) (L := L) hL hc (by omega) (by omega) h1 h2 (e 3 (by omega)) (e 4 (by omega)) (e 5 (by omega)) (e 6 (by omega)) (fun q => ?_) (fun q => ?_)
      · rw [if_pos q] at K
        exact br_f (by decide) K
      · have q' : ¬ ck_same L (12 + x1) n1 (24 + x2) n2 = true := by rw [q]; decide
        rw [if_neg q'] at K
        exact br_t rfl K
theorem xk_gap {post : SX → Prop} {L : Nat → Int32} {c B0 L0 R0 p u v : Nat} {T : Nat → Nat → Nat} (hL : ∀ i, i < 36 → aL i = L i) (hc : c < 25) (hT : xT = nI c) (hB : B0 ≤ p) (hl : L0 ≤ u) (hr : R0 ≤ v) (hp : p ≤ 12) (hu : u ≤ 12) (hv : v ≤ 12)
    (hA : xk_A aU T c (fun _ => 0))
    (K : ∀ a', xk_A a' (ck_gT T c (ck_isg B0 L0 R0 p u v) (ck_gr L B0 L0 R0 p u v)) (ck_gc c (ck_isg B0 L0 R0 p u v)) (fun _ => 0) → post (q0, q1, q2, q3, q4, q5, q6, q7, q8, q9, xC, xK, xD, nI (ck_gc c (ck_isg B0 L0 R0 p u v)), xM, aL, aS, aR, aO, aN, aZ, aE, aM, aP, aQ, aH, aW, a', aV, aX)) :
    wpX_addGap post (q0, q1, q2, q3, q4, q5, q6, q7, q8, q9, xC, xK, xD, xT, xM, aL, aS, aR, aO, aN, aZ, aE, aM, aP, aQ, aH, aW, aU, aV, aX) (nI B0) (nI p) (nI L0) (nI u) (nI R0) (nI v) := by
  have g19 : (B0 < p ∨ L0 < u ∨ R0 < v) → wX_addGap_19 post (nI B0) (nI p) (nI L0) (nI u) (nI R0) (nI v) q0 q1 q2 q3 q4 q5 q6 q7 q8 q9 xC xK xD xT xM aL aS aR aO aN aZ aE aM aP aQ aH aW aU aV aX := by
    intro hg
    have g : ck_isg B0 L0 R0 p u v = true := decide_eq_true hg
    rw [g] at K
    unfold ck_gT ck_gc at K
    rw [if_pos rfl, if_pos rfl] at K
    unfold wX_addGap_19
    rw [pk_sub hB, pk_sub hl, pk_sub hr]
    refine xk_add hc hT (fun a' k1 k2 k3 => ?_)
    refine nm_r (nI_pred c) ?_
    refine xk_kind (k := 0) hL hc (by omega) (by omega) (by omega) k1 ?_
    have ex : nI c * 8 = nI (8 * c) := ib_m8 c
    refine ⟨by rw [ex]; exact vp_in_nI (by omega) (by omega), nm_r (e' := upd a' (8 * c) (nI (ck_kind L B0 (p - B0) L0 (u - L0) R0 (v - R0)))) (by rw [ex, nI_clamp (by omega)]) ?_⟩
    refine K _ (xk_put hA (xk_7 pk_us ?_ ?_ ?_ ?_ ?_ ?_) ?_ (fun j hj => ?_))
    · rw [pk_un (by omega)]; exact k1 1 (by omega)
    · rw [pk_un (by omega)]; exact k1 2 (by omega)
    · rw [pk_un (by omega)]; exact k1 3 (by omega)
    · rw [pk_un (by omega)]; exact k1 4 (by omega)
    · rw [pk_un (by omega)]; exact k1 5 (by omega)
    · rw [pk_un (by omega)]; exact k1 6 (by omega)
    · rw [pk_un (by omega)]; exact k2
    · rw [pk_un (by omega)]; exact k3 j hj
  unfold wpX_addGap
  refine pk_eq B0 p (fun z1 => pk_eq L0 u (fun z2 => pk_eq R0 v (fun z3 => ?_) (fun z3 => g19 (by omega))) (fun z2 => g19 (by omega))) (fun z1 => g19 (by omega))
  have g : ck_isg B0 L0 R0 p u v = false := decide_eq_false (by omega)
  rw [g] at K
  subst hT
  exact K aU hA
theorem xk_anew {post : SX → Prop} {c p u v : Nat} {T : Nat → Nat → Nat} (hc : c < 25) (hT : xT = nI c) (hA : xk_A aU T c (fun _ => 0)) (hk : c = 0 ∨ (T (c - 1) 0 ≠ 0 ∧ T (c - 1) 0 ≤ 4))
    (K : ∀ a', xk_A a' (ck_put T c (ck_row 0 p 1 u 1 v 1)) (c + 1) (fun _ => 0) → post (q0, q1, q2, q3, q4, q5, q6, q7, q8, q9, xC, xK, xD, nI (c + 1), xM, aL, aS, aR, aO, aN, aZ, aE, aM, aP, aQ, aH, aW, a', aV, aX)) : wpX_addAnchor post (q0, q1, q2, q3, q4, q5, q6, q7, q8, q9, xC, xK, xD, xT, xM, aL, aS, aR, aO, aN, aZ, aE, aM, aP, aQ, aH, aW, aU, aV, aX) (nI p) (nI u) (nI v) := by
  have g71 : wX_addAnchor_71 post (nI p) (nI u) (nI v) q0 q1 q2 q3 q4 q5 q6 q7 q8 q9 xC xK xD xT xM aL aS aR aO aN aZ aE aM aP aQ aH aW aU aV aX := by
    unfold wX_addAnchor_71
    exact xk_add (n1 := 1) (n2 := 1) (n3 := 1) hc hT (fun a' k1 k2 k3 => K a' (xk_put hA k1 k2 k3))
  unfold wpX_addAnchor
  subst hT
  refine nm_e ?_
  by_cases z : c = 0
  · refine br_t ?_ g71
    rw [z]
    decide
  · refine br_f (nI_nle (by omega) (by omega)) ?_
    obtain ⟨c, rfl⟩ : ∃ c', c = c' + 1 := ⟨c - 1, by omega⟩
    rw [Nat.add_sub_cancel] at hk
    have ex : (nI (c + 1) - 1) * 8 = nI (8 * c + 0) := by rw [nI_pred, ib_m8]; rfl
    refine ⟨by rw [ex]; exact vp_in_nI (by omega) (by omega), br_f ?_ g71⟩
    rw [ex, nI_clamp (by omega), (hA c (by omega)).1 0 (by omega)]
    exact nI_ne0 (by omega) (by omega)
theorem xk_ainc {post : SX → Prop} {c p u v : Nat} {T : Nat → Nat → Nat} (hc : c ≤ 25) (h0 : 0 < c) (hT : xT = nI c) (hA : xk_A aU T c (fun _ => 0)) (hk : T (c - 1) 0 = 0)
    (K : ∀ a', xk_A a' (ck_put T (c - 1) (ck_inc (T (c - 1)))) c (fun _ => 0) → post (q0, q1, q2, q3, q4, q5, q6, q7, q8, q9, xC, xK, xD, xT, xM, aL, aS, aR, aO, aN, aZ, aE, aM, aP, aQ, aH, aW, a', aV, aX)) : wpX_addAnchor post (q0, q1, q2, q3, q4, q5, q6, q7, q8, q9, xC, xK, xD, xT, xM, aL, aS, aR, aO, aN, aZ, aE, aM, aP, aQ, aH, aW, aU, aV, aX) (nI p) (nI u) (nI v) := by
  subst hT
  obtain ⟨c, rfl⟩ : ∃ c', c = c' + 1 := ⟨c - 1, by omega⟩
  rw [Nat.add_sub_cancel] at hk K
  obtain ⟨k1, k2⟩ := hA c (by omega)
  have e1 : ∀ j, nI (8 * c) + nI j = nI (8 * c + j) := fun j => nI_add _ _
  have i1 : ∀ j, j < 8 → vp_in (nI (8 * c) + nI j) 200 := fun j hj => by rw [e1]; exact vp_in_nI (by omega) (by omega)
  have c1 : ∀ j, j < 8 → (nI (8 * c) + nI j).toNatClampNeg = 8 * c + j := fun j hj => by rw [e1]; exact nI_clamp (by omega)
  have u1 : ∀ (a : Nat → Int32) (j m : Nat), j < 8 → a (8 * c + j) = nI m → upd a (nI (8 * c) + nI j).toNatClampNeg (a (nI (8 * c) + nI j).toNatClampNeg + 1) = upd a (8 * c + j) (nI (m + 1)) := by
    intro a j m hj hm
    rw [c1 j hj, hm, nI_1]
  unfold wpX_addAnchor
  refine nm_r (e' := nI (8 * c)) (by rw [nI_pred, ib_m8]) ?_
  refine br_f (nI_nle (by omega) (by omega)) ⟨vp_in_nI (by omega) (by omega), br_t ?_ ?_⟩
  · rw [nI_clamp (by omega), show 8 * c = 8 * c + 0 from rfl, k1 0 (by omega), hk]
    rfl
  refine ⟨i1 2 (by omega), i1 2 (by omega), nm_r (u1 _ 2 (T c 2) (by omega) (k1 2 (by omega))) ⟨i1 4 (by omega), i1 4 (by omega), nm_r (u1 _ 4 (T c 4) (by omega) ?_) ⟨i1 6 (by omega), i1 6 (by omega), nm_r (u1 _ 6 (T c 6) (by omega) ?_) (K _ ?_)⟩⟩⟩
  · rw [pk_un (by omega)]; exact k1 4 (by omega)
  · rw [pk_un (by omega), pk_un (by omega)]; exact k1 6 (by omega)
  · have hA' : xk_A aU T c (fun _ => 0) := fun c' hc' => hA c' (by omega)
    refine xk_put hA' (xk_7 ?_ ?_ ?_ ?_ ?_ ?_ ?_) ?_ (fun j hj => ?_)
    · rw [pk_un (by omega), pk_un (by omega), pk_un (by omega)]; exact k1 0 (by omega)
    · rw [pk_un (by omega), pk_un (by omega), pk_un (by omega)]; exact k1 1 (by omega)
    · rw [pk_un (by omega), pk_un (by omega), pk_us]; rfl
    · rw [pk_un (by omega), pk_un (by omega), pk_un (by omega)]; exact k1 3 (by omega)
    · rw [pk_un (by omega), pk_us]; rfl
    · rw [pk_un (by omega), pk_un (by omega), pk_un (by omega)]; exact k1 5 (by omega)
    · rw [pk_us]; rfl
    · rw [pk_un (by omega), pk_un (by omega), pk_un (by omega)]; exact k2
    · rw [pk_un (by omega), pk_un (by omega), pk_un (by omega)]
theorem xk_bc14 {post : SX → Prop} {L : Nat → Int32} {b l r : Nat} (hL : ∀ i, i < 36 → aL i = L i) (hb : b ≤ 12) (hl : l ≤ 12) (hr : r ≤ 12) (h0 : aS 0 = nI b) (h1 : aS 1 = nI l) (h2 : aS 2 = nI r)
    (hM1 : ∀ p, p < b → aM (12 + p) = ck_M1 L b l p) (hM2 : ∀ p, p < b → aM (24 + p) = ck_M2 L b r p)
    (K : ∀ a', xk_A a' (ck_t L b l r) (ck_n L b l r) (fun _ => 0) → post (q0, q1, q2, q3, q4, q5, q6, q7, q8, q9, xC, xK, xD, nI (ck_n L b l r), xM, aL, aS, aR, aO, aN, aZ, aE, aM, aP, aQ, aH, aW, a', aV, aX)) :
    ∀ k p n a, p + k = b + 1 → k < n → xk_A a (ck_z L b l r p).2.1 (ck_z L b l r p).1 (fun _ => 0) →
    wX_buildChunks_14 post n (nI (ck_z L b l r p).2.2.1) (nI (ck_z L b l r p).2.2.2.1) (nI (ck_z L b l r p).2.2.2.2) (nI p) q0 q1 q2 q3 q4 q5 q6 q7 q8 q9 xC xK xD (nI (ck_z L b l r p).1) xM aL aS aR aO aN aZ aE aM aP aQ aH aW a aV aX := by
  have hW := ck_Wm (A := L) (B1 := sc_B L 1) (B2 := sc_B L 2) (b := b) hl hr
  intro k
  induction k with
  | zero =>
    intro p n a hp hn hA
    obtain ⟨n, rfl⟩ : ∃ m', n = m' + 1 := ⟨n - 1, by omega⟩
    have ep : p = b + 1 := by omega
    subst ep
    rw [wX_buildChunks_14]
    exact br_t (by rw [h0]; exact nI_lt (by omega) (by omega)) (K a hA)
  | succ k ih =>
    intro p n a hp hn hA
    obtain ⟨n, rfl⟩ : ∃ m', n = m' + 1 := ⟨n - 1, by omega⟩
    have inv := ck_inv (L := L) hW p (by omega)
    have nx := ih (p + 1) n
    have ez : ck_z L b l r (p + 1) = ck_one L b p (ck_ct (ck_M1 L b l) (ck_M2 L b r) b p) (ck_q (ck_M1 L b l) b l p) (ck_q (ck_M2 L b r) b r p) (ck_z L b l r p) := rfl
    rw [ez] at nx
    have inv : ck_Inv b l r (ck_ct (ck_M1 L b l) (ck_M2 L b r) b) (ck_q (ck_M1 L b l) b l) (ck_q (ck_M2 L b r) b r) p (ck_z L b l r p) := inv
    generalize ck_z L b l r p = z at nx inv hA
    obtain ⟨c, T, B0, L0, R0⟩ := z
    obtain ⟨v1, v2, v3, v4, v5, v6⟩ := inv
    dsimp only at v1 v2 v3 v4 v5 v6 hA
    have rows := v5
    rw [wX_buildChunks_14]
    refine br_f (by rw [h0]; exact nI_nlt (by omega) (by omega)) ?_
    by_cases hct : ck_ct (ck_M1 L b l) (ck_M2 L b r) b p = true
    · have bd := hW.1 p (by omega) hct
      have bd : ck_q (ck_M1 L b l) b l p ≤ l ∧ ck_q (ck_M2 L b r) b r p ≤ r ∧ (p < b → ck_q (ck_M1 L b l) b l p < l ∧ ck_q (ck_M2 L b r) b r p < r) := bd
      have lo := v2 p (Nat.le_refl _) (by omega) hct
      have cut : ∀ {post' : Int32 → Prop}, post' 1 → wpX_isCut post' (q0, q1, q2, q3, q4, q5, q6, q7, q8, q9, xC, xK, xD, nI c, xM, aL, aS, aR, aO, aN, aZ, aE, aM, aP, aQ, aH, aW, a, aV, aX) (nI p) := by
        intro post' hp'
        unfold wpX_isCut
        refine pk_lt p b (fun z => ?_) (fun z => hp') rfl h0
        obtain ⟨w1, w2⟩ := ck_cutv hl hr z hct
        have x1 : (12 : Int32) + nI p = nI (12 + p) := ib_c p 12
        have x2 : (24 : Int32) + nI p = nI (24 + p) := ib_c p 24
        refine ⟨by rw [x1]; exact vp_in_nI (by omega) (by omega), br_f ?_ ⟨by rw [x2]; exact vp_in_nI (by omega) (by omega), br_f ?_ hp'⟩⟩
        · rw [x1, nI_clamp (by omega), hM1 p z, w1]
          exact nI_pos (by omega)
        · rw [x2, nI_clamp (by omega), hM2 p z, w2]
          exact nI_pos (by omega)
      have ci : ∀ {post' : Int32 → Prop} (sd : Nat), sd = 1 ∨ sd = 2 → post' (nI (if sd = 1 then ck_q (ck_M1 L b l) b l p else ck_q (ck_M2 L b r) b r p)) → wpX_cutIn post' (q0, q1, q2, q3, q4, q5, q6, q7, q8, q9, xC, xK, xD, nI c, xM, aL, aS, aR, aO, aN, aZ, aE, aM, aP, aQ, aH, aW, a, aV, aX) (nI sd) (nI p) := by
        intro post' sd hsd hp'
        unfold wpX_cutIn
        refine pk_le b p (fun z => ?_) (fun z => ?_) h0 rfl
        · have e1 : ck_q (ck_M1 L b l) b l p = l := if_neg (by omega)
          have e2 : ck_q (ck_M2 L b r) b r p = r := if_neg (by omega)
          rw [e1, e2] at hp'
          refine ⟨vp_in_nI (by omega) (by omega), ?_⟩
          rw [nI_clamp (by omega)]
          rcases hsd with y | y
          · subst y; rw [h1]; exact hp'
          · subst y; rw [h2]; exact hp'
        · obtain ⟨w1, w2⟩ := ck_cutv hl hr z hct
          have ex : nI sd * 12 + nI p = nI (12 * sd + p) := ib_12 _ _
          refine ⟨by rw [ex]; exact vp_in_nI (by omega) (by omega), ?_⟩
          rw [ex, nI_clamp (by omega)]
          rcases hsd with y | y
          · subst y; rw [hM1 p z, w1]; exact hp'
          · subst y; rw [hM2 p z, w2]; exact hp'
      have hcc : c < 25 := by omega
      refine cut (br_f (by decide) (ci 1 (Or.inl rfl) (ci 2 (Or.inr rfl) ?_)))
      rw [if_pos rfl, if_neg (by decide)]
      refine xk_gap hL hcc rfl v1 lo.1 lo.2 (by omega) (by omega) (by omega) hA (fun a1 hA1 => ?_)
      unfold ck_one at nx
      rw [if_pos hct] at nx
      by_cases hpb : p < b
      · rw [if_pos hpb] at nx
        dsimp only at nx
        refine br_f (by rw [h0]; exact nI_ge hpb (by omega)) ?_
        by_cases g : ck_isg B0 L0 R0 p (ck_q (ck_M1 L b l) b l p) (ck_q (ck_M2 L b r) b r p) = true ∨ c = 0
        · unfold ck_aT ck_ac at nx
          rw [if_pos g, if_pos g] at nx
          refine xk_anew (T := _) ?_ rfl hA1 ?_ (fun a2 hA2 => ?_)
          · unfold ck_gc
            split <;> omega
          · by_cases g1 : ck_isg B0 L0 R0 p (ck_q (ck_M1 L b l) b l p) (ck_q (ck_M2 L b r) b r p) = true
            · right
              unfold ck_gT ck_gc
              rw [if_pos g1, if_pos g1, Nat.add_sub_cancel, ck_puts]
              have kp := ck_kind_pos L B0 (p - B0) L0 (ck_q (ck_M1 L b l) b l p - L0) R0 (ck_q (ck_M2 L b r) b r p - R0)
              refine ⟨fun z => ?_, kp.2⟩
              have z' : ck_kind L B0 (p - B0) L0 (ck_q (ck_M1 L b l) b l p - L0) R0 (ck_q (ck_M2 L b r) b r p - R0) = 0 := z
              omega
            · left
              unfold ck_gc
              rw [if_neg g1]
              rcases g with g | g
              · exact absurd g g1
              · exact g
          · show wX_buildChunks_86 post _ _ _ _ q0 q1 q2 q3 q4 q5 q6 q7 q8 q9 xC xK xD _ xM aL aS aR aO aN aZ aE aM aP aQ aH aW a2 aV aX
            unfold wX_buildChunks_86
            exact nm_r (nI_1 _) (nm_r (nI_1 _) (nm_r (nI_1 _) (nm_r (nI_1 _) (nx a2 (by omega) (by omega) hA2))))
        · unfold ck_aT ck_ac at nx
          rw [if_neg g, if_neg g] at nx
          have g1 : ck_isg B0 L0 R0 p (ck_q (ck_M1 L b l) b l p) (ck_q (ck_M2 L b r) b r p) = false := by
            cases e : ck_isg B0 L0 R0 p (ck_q (ck_M1 L b l) b l p) (ck_q (ck_M2 L b r) b r p)
            · rfl
            · exact absurd (Or.inl e) g
          rw [g1] at hA1 ⊢
          have hA1 : xk_A a1 T c (fun _ => 0) := hA1
          show wpX_addAnchor _ (q0, q1, q2, q3, q4, q5, q6, q7, q8, q9, xC, xK, xD, nI c, xM, aL, aS, aR, aO, aN, aZ, aE, aM, aP, aQ, aH, aW, a1, aV, aX) _ _ _
          refine xk_ainc (c := c) (by omega) (by omega) rfl hA1 (v4 (by omega)).1 (fun a2 hA2 => ?_)
          show wX_buildChunks_86 post _ _ _ _ q0 q1 q2 q3 q4 q5 q6 q7 q8 q9 xC xK xD _ xM aL aS aR aO aN aZ aE aM aP aQ aH aW a2 aV aX
          unfold wX_buildChunks_86
          exact nm_r (nI_1 _) (nm_r (nI_1 _) (nm_r (nI_1 _) (nm_r (nI_1 _) (nx a2 (by omega) (by omega) hA2))))
      · rw [if_neg hpb] at nx
        dsimp only at nx
        refine br_t (by rw [h0]; exact nI_le (by omega) (by omega)) ?_
        unfold wX_buildChunks_86
        exact nm_r (nI_1 _) (nm_r (nI_1 _) (nm_r (nI_1 _) (nm_r (nI_1 _) (nx a1 (by omega) (by omega) hA1))))
    · have hp : p < b := by
        refine Nat.not_le.mp fun z => hct ?_
        exact decide_eq_true (Or.inl z)
      have hneg : ¬ (¬ ck_M1 L b l p < 0 ∧ ¬ ck_M2 L b r p < 0) := fun z => hct (decide_eq_true (Or.inr z))
      unfold ck_one at nx
      rw [if_neg hct] at nx
      have go : ∀ {post' : Int32 → Prop}, post' 0 → wpX_isCut post' (q0, q1, q2, q3, q4, q5, q6, q7, q8, q9, xC, xK, xD, nI c, xM, aL, aS, aR, aO, aN, aZ, aE, aM, aP, aQ, aH, aW, a, aV, aX) (nI p) := by
        intro post' hp'
        unfold wpX_isCut
        have x1 : (12 : Int32) + nI p = nI (12 + p) := ib_c p 12
        have x2 : (24 : Int32) + nI p = nI (24 + p) := ib_c p 24
        refine br_t (by rw [h0]; exact nI_lt hp (by omega)) ⟨by rw [x1]; exact vp_in_nI (by omega) (by omega), ?_⟩
        rw [x1, nI_clamp (by omega), hM1 p hp, x2, nI_clamp (by omega), hM2 p hp]
        refine br_c (fun _ => hp') (fun z => ⟨vp_in_nI (by omega) (by omega), br_t ?_ hp'⟩)
        exact Classical.byContradiction fun y => hneg ⟨z, y⟩
      exact go (br_t rfl (nm_r (nI_1 p) (nx a (by omega) (by omega) hA)))
theorem xk_build {post : SX → Prop} {L : Nat → Int32} {b l r : Nat} (hL : ∀ i, i < 36 → aL i = L i) (hb : b ≤ 12) (hl : l ≤ 12) (hr : r ≤ 12) (h0 : aS 0 = nI b) (h1 : aS 1 = nI l) (h2 : aS 2 = nI r)
    (hM1 : ∀ p, p < b → aM (12 + p) = ck_M1 L b l p) (hM2 : ∀ p, p < b → aM (24 + p) = ck_M2 L b r p)
    (K : ∀ a', xk_A a' (ck_t L b l r) (ck_n L b l r) (fun _ => 0) → post (q0, q1, q2, q3, q4, q5, q6, q7, q8, q9, xC, xK, xD, nI (ck_n L b l r), xM, aL, aS, aR, aO, aN, aZ, aE, aM, aP, aQ, aH, aW, a', aV, aX)) : wpX_buildChunks post (q0, q1, q2, q3, q4, q5, q6, q7, q8, q9, xC, xK, xD, xT, xM, aL, aS, aR, aO, aN, aZ, aE, aM, aP, aQ, aH, aW, aU, aV, aX) := by
  unfold wpX_buildChunks
  exact ⟨b + 2, xk_bc14 hL hb hl hr h0 h1 h2 hM1 hM2 K (b + 1) 0 (b + 2) aU (by omega) (by omega) (fun c' h => absurd h (Nat.not_lt_zero _))⟩
end
end
section
/-! X: the merged text, and compare -/
section
variable {q0 q1 q2 q3 q4 q5 q6 q7 q8 q9 xC xK xD xT xM : Int32} {aL aS aR aO aN aZ aE aM aP aQ aH aW aU aV aX : Nat → Int32}
theorem xm_cell {post : SX → Prop} {ls : List Int32} {v : Int32} (hM : xM = nI ls.length) (hV : ls_A aV ls) (hl : (ls ++ [v]).length ≤ 64) (K : ∀ a', ls_A a' (ls ++ [v]) → post (q0, q1, q2, q3, q4, q5, q6, q7, q8, q9, xC, xK, xD, xT, nI (ls ++ [v]).length, aL, aS, aR, aO, aN, aZ, aE, aM, aP, aQ, aH, aW, aU, a', aX)) : wpX_addCell post (q0, q1, q2, q3, q4, q5, q6, q7, q8, q9, xC, xK, xD, xT, xM, aL, aS, aR, aO, aN, aZ, aE, aM, aP, aQ, aH, aW, aU, aV, aX) v := by
  subst hM
  have e : (ls ++ [v]).length = ls.length + 1 := by simp
  rw [e] at hl
  rw [e] at K
  unfold wpX_addCell
  refine br_f (nI_ge (b := 64) (by omega) (by decide)) ⟨vp_in_nI (by omega) (by omega), nm_r (e' := upd aV ls.length v) (by rw [nI_clamp (by omega)]) (nm_r (nI_1 _) (K _ (ls_add v hV)))⟩
theorem xm_seg37 {L : Nat → Int32} {ls : List Int32} {a n : Nat} {post : SX → Prop} (hL : ∀ i, i < 36 → aL i = L i) (ha : a + n ≤ 36) (hl : (ls ++ mg_seg L a n).length ≤ 64)
    (K : ∀ a', ls_A a' (ls ++ mg_seg L a n) → post (q0, q1, q2, q3, q4, q5, q6, q7, q8, q9, xC, xK, xD, xT, nI (ls ++ mg_seg L a n).length, aL, aS, aR, aO, aN, aZ, aE, aM, aP, aQ, aH, aW, aU, a', aX)) :
    ∀ d k m f, k + d = n → d < m → ls_A f (ls ++ mg_seg L a k) → wX_addSegment_37 post (nI a) (nI n) m (nI k) q0 q1 q2 q3 q4 q5 q6 q7 q8 q9 xC xK xD xT (nI (ls ++ mg_seg L a k).length) aL aS aR aO aN aZ aE aM aP aQ aH aW aU f aX := by
  intro d
  induction d with
  | zero =>
    intro k m f hk hm hf
    obtain ⟨m, rfl⟩ : ∃ m', m = m' + 1 := ⟨m - 1, by omega⟩
    have e : k = n := by omega
    subst e
    rw [wX_addSegment_37]
    exact br_t (nI_le (Nat.le_refl _) (by omega)) (K f hf)
  | succ d ih =>
    intro k m f hk hm hf
    obtain ⟨m, rfl⟩ : ∃ m', m = m' + 1 := ⟨m - 1, by omega⟩
    rw [wX_addSegment_37]
    have e1 : ls ++ mg_seg L a (k + 1) = (ls ++ mg_seg L a k) ++ [L (a + k)] := by rw [mg_segS, List.append_assoc]
    have hl' : ((ls ++ mg_seg L a k) ++ [L (a + k)]).length ≤ 64 := by
      rw [← e1]
      rw [List.length_append, mg_segl] at hl ⊢
      omega
    refine br_f (nI_ge (by omega) (by omega)) ⟨by rw [nI_add]; exact vp_in_nI (by omega) (by omega), ?_⟩
    rw [nI_add, nI_clamp (by omega), hL _ (by omega)]
    refine xm_cell rfl hf hl' (fun f' hf' => ?_)
    rw [← e1] at hf' ⊢
    exact nm_r (nI_1 k) (ih (k + 1) m f' (by omega) (by omega) hf')
theorem xm_seg {L : Nat → Int32} {ls : List Int32} {c tx x n : Nat} {post : SX → Prop} (hL : ∀ i, i < 36 → aL i = L i) (hc : c < 25) (htx : tx ≤ 2) (hx : x + n ≤ 12) (e1 : aU (8 * c + (1 + 2 * tx)) = nI x) (e2 : aU (8 * c + (2 + 2 * tx)) = nI n)
    (hM : xM = nI ls.length) (hV : ls_A aV ls) (hl : (ls ++ mg_seg L (12 * tx + x) n).length ≤ 64)
    (K : ∀ a', ls_A a' (ls ++ mg_seg L (12 * tx + x) n) → post (q0, q1, q2, q3, q4, q5, q6, q7, q8, q9, xC, xK, xD, xT, nI (ls ++ mg_seg L (12 * tx + x) n).length, aL, aS, aR, aO, aN, aZ, aE, aM, aP, aQ, aH, aW, aU, a', aX)) : wpX_addSegment post (q0, q1, q2, q3, q4, q5, q6, q7, q8, q9, xC, xK, xD, xT, xM, aL, aS, aR, aO, aN, aZ, aE, aM, aP, aQ, aH, aW, aU, aV, aX) (nI c) (nI tx) := by
  have ex : nI c * 8 + 1 + 2 * nI tx = nI (8 * c + (1 + 2 * tx)) := by rw [ib_m8, nI_1, ib_2m, nI_add, Nat.add_assoc]
  have ex2 : nI (8 * c + (1 + 2 * tx)) + 1 = nI (8 * c + (2 + 2 * tx)) := (nI_1 _).trans (congrArg nI (by omega))
  unfold wpX_addSegment
  refine nm_r ex ⟨vp_in_nI (by omega) (by omega), nm_r (e' := nI (12 * tx + x)) (by rw [nI_clamp (by omega), e1, ib_12]) ⟨by rw [ex2]; exact vp_in_nI (by omega) (by omega), nm_r (e' := nI n) (by rw [ex2, nI_clamp (by omega), e2]) ⟨n + 1, ?_⟩⟩⟩
  have z : ls ++ mg_seg L (12 * tx + x) 0 = ls := List.append_nil _
  subst hM
  have g : wX_addSegment_37 post (nI (12 * tx + x)) (nI n) (n + 1) (nI 0) q0 q1 q2 q3 q4 q5 q6 q7 q8 q9 xC xK xD xT (nI (ls ++ mg_seg L (12 * tx + x) 0).length) aL aS aR aO aN aZ aE aM aP aQ aH aW aU aV aX := xm_seg37 hL (by omega) hl K n 0 (n + 1) aV (by omega) (by omega) (by rw [z]; exact hV)
  rw [z] at g
  exact g
section
variable {L : Nat → Int32} {ls : List Int32} {c : Nat} {ro : Nat → Nat} {post : SX → Prop}
theorem xm_b (hL : ∀ i, i < 36 → aL i = L i) (hc : c < 25) (hx : ro 1 + ro 2 ≤ 12) (e : ∀ f, f < 7 → aU (8 * c + f) = nI (ro f)) (hM : xM = nI ls.length) (hV : ls_A aV ls) (hl : (ls ++ mg_b L ro).length ≤ 64)
    (K : ∀ a', ls_A a' (ls ++ mg_b L ro) → post (q0, q1, q2, q3, q4, q5, q6, q7, q8, q9, xC, xK, xD, xT, nI (ls ++ mg_b L ro).length, aL, aS, aR, aO, aN, aZ, aE, aM, aP, aQ, aH, aW, aU, a', aX)) : wpX_addSegment post (q0, q1, q2, q3, q4, q5, q6, q7, q8, q9, xC, xK, xD, xT, xM, aL, aS, aR, aO, aN, aZ, aE, aM, aP, aQ, aH, aW, aU, aV, aX) (nI c) 0 := by
  have q : mg_b L ro = mg_seg L (12 * 0 + ro 1) (ro 2) := by unfold mg_b; rw [show 12 * 0 + ro 1 = ro 1 by omega]
  rw [q] at hl
  rw [q] at K
  exact xm_seg (tx := 0) hL hc (by omega) hx (e 1 (by omega)) (e 2 (by omega)) hM hV hl K
theorem xm_l (hL : ∀ i, i < 36 → aL i = L i) (hc : c < 25) (hx : ro 3 + ro 4 ≤ 12) (e : ∀ f, f < 7 → aU (8 * c + f) = nI (ro f)) (hM : xM = nI ls.length) (hV : ls_A aV ls) (hl : (ls ++ mg_l L ro).length ≤ 64)
    (K : ∀ a', ls_A a' (ls ++ mg_l L ro) → post (q0, q1, q2, q3, q4, q5, q6, q7, q8, q9, xC, xK, xD, xT, nI (ls ++ mg_l L ro).length, aL, aS, aR, aO, aN, aZ, aE, aM, aP, aQ, aH, aW, aU, a', aX)) : wpX_addSegment post (q0, q1, q2, q3, q4, q5, q6, q7, q8, q9, xC, xK, xD, xT, xM, aL, aS, aR, aO, aN, aZ, aE, aM, aP, aQ, aH, aW, aU, aV, aX) (nI c) 1 :=
  xm_seg (tx := 1) hL hc (by omega) hx (e 3 (by omega)) (e 4 (by omega)) hM hV hl K
theorem xm_r (hL : ∀ i, i < 36 → aL i = L i) (hc : c < 25) (hx : ro 5 + ro 6 ≤ 12) (e : ∀ f, f < 7 → aU (8 * c + f) = nI (ro f)) (hM : xM = nI ls.length) (hV : ls_A aV ls) (hl : (ls ++ mg_r L ro).length ≤ 64)
    (K : ∀ a', ls_A a' (ls ++ mg_r L ro) → post (q0, q1, q2, q3, q4, q5, q6, q7, q8, q9, xC, xK, xD, xT, nI (ls ++ mg_r L ro).length, aL, aS, aR, aO, aN, aZ, aE, aM, aP, aQ, aH, aW, aU, a', aX)) : wpX_addSegment post (q0, q1, q2, q3, q4, q5, q6, q7, q8, q9, xC, xK, xD, xT, xM, aL, aS, aR, aO, aN, aZ, aE, aM, aP, aQ, aH, aW, aU, aV, aX) (nI c) 2 :=
  xm_seg (tx := 2) hL hc (by omega) hx (e 5 (by omega)) (e 6 (by omega)) hM hV hl K
theorem xm_mark (hL : ∀ i, i < 36 → aL i = L i) (hc : c < 25) (h1 : ro 1 + ro 2 ≤ 12) (h2 : ro 3 + ro 4 ≤ 12) (h3 : ro 5 + ro 6 ≤ 12) (e : ∀ f, f < 7 → aU (8 * c + f) = nI (ro f)) (hM : xM = nI ls.length) (hV : ls_A aV ls) (hl : (ls ++ mg_mk L ro).length ≤ 64)
    (K : ∀ a', ls_A a' (ls ++ mg_mk L ro) → post (q0, q1, q2, q3, q4, q5, q6, q7, q8, q9, xC, xK, xD, xT, nI (ls ++ mg_mk L ro).length, aL, aS, aR, aO, aN, aZ, aE, aM, aP, aQ, aH, aW, aU, a', aX)) : wpX_mergeMarked post (q0, q1, q2, q3, q4, q5, q6, q7, q8, q9, xC, xK, xD, xT, xM, aL, aS, aR, aO, aN, aZ, aE, aM, aP, aQ, aH, aW, aU, aV, aX) (nI c) := by
  have q : ls ++ mg_mk L ro = ((((((ls ++ [-11]) ++ mg_l L ro) ++ [-12]) ++ mg_b L ro) ++ [-13]) ++ mg_r L ro) ++ [-14] := by
    unfold mg_mk
    simp only [List.append_assoc]
  rw [q] at hl
  rw [q] at K
  have lg : ∀ {a d : List Int32}, (a ++ d).length ≤ 64 → a.length ≤ 64 := fun h => by rw [List.length_append] at h; omega
  unfold wpX_mergeMarked
  refine xm_cell hM hV (lg (lg (lg (lg (lg (lg hl)))))) (fun a1 k1 => ?_)
  refine xm_l hL hc h2 e rfl k1 (lg (lg (lg (lg (lg hl))))) (fun a2 k2 => ?_)
  refine xm_cell rfl k2 (lg (lg (lg (lg hl)))) (fun a3 k3 => ?_)
  refine xm_b hL hc h1 e rfl k3 (lg (lg (lg hl))) (fun a4 k4 => ?_)
  refine xm_cell rfl k4 (lg (lg hl)) (fun a5 k5 => ?_)
  refine xm_r hL hc h3 e rfl k5 (lg hl) (fun a6 k6 => ?_)
  exact xm_cell rfl k6 hl K
theorem xm_conf {h : Int32} (hL : ∀ i, i < 36 → aL i = L i) (hc : c < 25) (h1 : ro 1 + ro 2 ≤ 12) (h2 : ro 3 + ro 4 ≤ 12) (h3 : ro 5 + ro 6 ≤ 12) (e : ∀ f, f < 7 → aU (8 * c + f) = nI (ro f)) (eh : aU (8 * c + 7) = h) (hM : xM = nI ls.length) (hV : ls_A aV ls) (hl : (ls ++ mg_cf L ro h).length ≤ 64)
    (K : ∀ a', ls_A a' (ls ++ mg_cf L ro h) → post (q0, q1, q2, q3, q4, q5, q6, q7, q8, q9, xC, xK, xD, xT, nI (ls ++ mg_cf L ro h).length, aL, aS, aR, aO, aN, aZ, aE, aM, aP, aQ, aH, aW, aU, a', aX)) : wpX_mergeConflict post (q0, q1, q2, q3, q4, q5, q6, q7, q8, q9, xC, xK, xD, xT, xM, aL, aS, aR, aO, aN, aZ, aE, aM, aP, aQ, aH, aW, aU, aV, aX) (nI c) := by
  have ex : nI c * 8 + 7 = nI (8 * c + 7) := by rw [ib_m8]; exact nI_add _ 7
  unfold wpX_mergeConflict
  refine ⟨by rw [ex]; exact vp_in_nI (by omega) (by omega), nm_r (e' := h) (by rw [ex, nI_clamp (by omega), eh]) ?_⟩
  unfold mg_cf at hl
  unfold mg_cf at K
  by_cases z0 : h = 0
  · rw [if_pos z0] at hl
    rw [if_pos z0] at K
    subst z0
    refine br_t rfl (xm_mark hL hc h1 h2 h3 e hM hV hl (fun a' k => ?_))
    show wX_mergeConflict_22 post (nI c) 0 q0 q1 q2 q3 q4 q5 q6 q7 q8 q9 xC xK xD xT _ aL aS aR aO aN aZ aE aM aP aQ aH aW aU a' aX
    unfold wX_mergeConflict_22 wX_mergeConflict_33 wX_mergeConflict_49
    exact br_f (by decide) (br_f (by decide) (br_f (by decide) (br_f (by decide) (br_f (by decide) (K a' k)))))
  · rw [if_neg z0] at hl
    rw [if_neg z0] at K
    refine br_f z0 ?_
    unfold wX_mergeConflict_22
    by_cases z3 : h = 3
    · rw [if_pos z3] at hl
      rw [if_pos z3] at K
      subst z3
      refine br_t rfl (xm_b hL hc h1 e hM hV hl (fun a' k => ?_))
      show wX_mergeConflict_33 post (nI c) 3 q0 q1 q2 q3 q4 q5 q6 q7 q8 q9 xC xK xD xT _ aL aS aR aO aN aZ aE aM aP aQ aH aW aU a' aX
      unfold wX_mergeConflict_33 wX_mergeConflict_49
      exact br_f (by decide) (br_f (by decide) (br_f (by decide) (br_f (by decide) (K a' k))))
    · rw [if_neg z3] at hl
      rw [if_neg z3] at K
      refine br_f z3 ?_
      unfold wX_mergeConflict_33
      by_cases z1 : h = 1
      · rw [if_pos z1] at hl
        rw [if_pos z1] at K
        subst z1
        refine br_t rfl ?_
        unfold wX_mergeConflict_43
        refine xm_l hL hc h2 e hM hV hl (fun a' k => ?_)
        show wX_mergeConflict_49 post (nI c) 1 q0 q1 q2 q3 q4 q5 q6 q7 q8 q9 xC xK xD xT _ aL aS aR aO aN aZ aE aM aP aQ aH aW aU a' aX
        unfold wX_mergeConflict_49
        exact br_f (by decide) (br_f (by decide) (K a' k))
      · rw [if_neg z1] at hl
        rw [if_neg z1] at K
        refine br_f z1 ?_
        by_cases z4 : h = 4
        · rw [if_pos z4, ← List.append_assoc] at hl
          rw [if_pos z4, ← List.append_assoc] at K
          subst z4
          refine br_t rfl ?_
          unfold wX_mergeConflict_43
          refine xm_l hL hc h2 e hM hV (by rw [List.length_append] at hl; omega) (fun a' k => ?_)
          show wX_mergeConflict_49 post (nI c) 4 q0 q1 q2 q3 q4 q5 q6 q7 q8 q9 xC xK xD xT _ aL aS aR aO aN aZ aE aM aP aQ aH aW aU a' aX
          unfold wX_mergeConflict_49 wX_mergeConflict_59
          exact br_f (by decide) (br_t rfl (xm_r hL hc h3 e rfl k hl K))
        · rw [if_neg z4] at hl
          rw [if_neg z4] at K
          refine br_f z4 ?_
          unfold wX_mergeConflict_49
          by_cases z2 : h = 2
          · rw [if_pos z2] at hl
            rw [if_pos z2] at K
            refine br_t z2 ?_
            unfold wX_mergeConflict_59
            exact xm_r hL hc h3 e hM hV hl K
          · rw [if_neg z2, List.append_nil] at K
            subst hM
            exact br_f z2 (br_f z4 (K aV hV))
end
section
variable {L : Nat → Int32} {T : Nat → Nat → Nat} {ch : Nat → Int32} {N : Nat}
theorem xm_all7 {post : SX → Prop} (hL : ∀ i, i < 36 → aL i = L i) (hN : N ≤ 25) (hT : xT = nI N) (hA : xk_A aU T N ch) (hr : ck_rows 12 12 12 N T) (hE : ck_E T N ≤ 64)
    (K : ∀ a', ls_A a' (mg_all L T ch N) → post (q0, q1, q2, q3, q4, q5, q6, q7, q8, q9, xC, xK, xD, xT, nI (mg_all L T ch N).length, aL, aS, aR, aO, aN, aZ, aE, aM, aP, aQ, aH, aW, aU, a', aX)) :
    ∀ d c m f, c + d = N → d < m → ls_A f (mg_all L T ch c) → wX_mergeAll_7 post m (nI c) q0 q1 q2 q3 q4 q5 q6 q7 q8 q9 xC xK xD xT (nI (mg_all L T ch c).length) aL aS aR aO aN aZ aE aM aP aQ aH aW aU f aX := by
  subst hT
  intro d
  induction d with
  | zero =>
    intro c m f hc hm hf
    obtain ⟨m, rfl⟩ : ∃ m', m = m' + 1 := ⟨m - 1, by omega⟩
    have e : c = N := by omega
    subst e
    rw [wX_mergeAll_7]
    exact br_t (nI_le (Nat.le_refl _) (by omega)) (K f hf)
  | succ d ih =>
    intro c m f hc hm hf
    obtain ⟨m, rfl⟩ : ∃ m', m = m' + 1 := ⟨m - 1, by omega⟩
    obtain ⟨e, eh⟩ := hA c (by omega)
    obtain ⟨r1, r2, r3, r4⟩ := hr c (by omega)
    have hl : (mg_all L T ch (c + 1)).length ≤ 64 := Nat.le_trans (Nat.le_trans (mg_allmono L T ch (by omega : c + 1 ≤ N)) (mg_alll L T ch N)) hE
    have nx := fun f' => ih (c + 1) m f' (by omega) (by omega)
    rw [mg_all] at hl
    have e1 : mg_all L T ch (c + 1) = mg_all L T ch c ++ mg_ch L (T c) (ch c) := rfl
    rw [e1] at nx
    have ex : nI c * 8 = nI (8 * c + 0) := ib_m8 c
    rw [wX_mergeAll_7]
    refine br_f (nI_ge (by omega) (by omega)) ⟨by rw [ex]; exact vp_in_nI (by omega) (by omega), nm_r (e' := nI (T c 0)) (by rw [ex, nI_clamp (by omega), e 0 (by omega)]) ?_⟩
    unfold mg_ch at hl nx
    by_cases k4 : T c 0 = 4
    · rw [if_pos k4] at hl nx
      refine br_t (by rw [k4]; rfl) (xm_conf hL (by omega) r1 r2 r3 e eh rfl hf hl (fun f' k => ?_))
      exact nm_r (nI_1 c) (nx f' k)
    · rw [if_neg k4] at hl nx
      refine br_f (fun z => k4 (ib_inj (by omega) (by decide) (b := 4) z)) ?_
      by_cases k0 : T c 0 = 0
      · rw [if_pos k0] at hl nx
        refine br_t (by rw [k0]; rfl) (xm_b hL (by omega) r1 e rfl hf hl (fun f' k => ?_))
        exact nm_r (nI_1 c) (nx f' k)
      · rw [if_neg k0] at hl nx
        refine br_f (fun z => k0 (ib_inj (by omega) (by decide) (b := 0) z)) ?_
        by_cases k2 : T c 0 = 2
        · rw [if_pos k2] at hl nx
          refine br_t (by rw [k2]; rfl) (xm_r hL (by omega) r3 e rfl hf hl (fun f' k => ?_))
          exact nm_r (nI_1 c) (nx f' k)
        · rw [if_neg k2] at hl nx
          refine br_f (fun z => k2 (ib_inj (by omega) (by decide) (b := 2) z)) (xm_l hL (by omega) r2 e rfl hf hl (fun f' k => ?_))
          exact nm_r (nI_1 c) (nx f' k)
theorem xm_all {post : SX → Prop} (hL : ∀ i, i < 36 → aL i = L i) (hN : N ≤ 25) (hT : xT = nI N) (hA : xk_A aU T N ch) (hr : ck_rows 12 12 12 N T) (hE : ck_E T N ≤ 64)
    (K : ∀ a', ls_A a' (mg_all L T ch N) → post (q0, q1, q2, q3, q4, q5, q6, q7, q8, q9, xC, xK, xD, xT, nI (mg_all L T ch N).length, aL, aS, aR, aO, aN, aZ, aE, aM, aP, aQ, aH, aW, aU, a', aX)) : wpX_mergeAll post (q0, q1, q2, q3, q4, q5, q6, q7, q8, q9, xC, xK, xD, xT, xM, aL, aS, aR, aO, aN, aZ, aE, aM, aP, aQ, aH, aW, aU, aV, aX) := by
  unfold wpX_mergeAll
  exact ⟨N + 1, xm_all7 hL hN hT hA hr hE K N 0 (N + 1) aV (by omega) (by omega) (ls_nil _)⟩
theorem xm_open4 {post : Int32 → Prop} (hN : N ≤ 25) (hT : xT = nI N) (hA : xk_A aU T N ch) (hr : ck_rows 12 12 12 N T) (K : post (nI (mg_open T ch N))) :
    ∀ d c m, c + d = N → d < m → wX_openConflicts_4 post q0 q1 q2 q3 q4 q5 q6 q7 q8 q9 xC xK xD xT xM aL aS aR aO aN aZ aE aM aP aQ aH aW aU aV aX m (nI (mg_open T ch c)) (nI c) := by
  subst hT
  intro d
  induction d with
  | zero =>
    intro c m hc hm
    obtain ⟨m, rfl⟩ : ∃ m', m = m' + 1 := ⟨m - 1, by omega⟩
    have e : c = N := by omega
    subst e
    rw [wX_openConflicts_4]
    exact br_t (nI_le (Nat.le_refl _) (by omega)) K
  | succ d ih =>
    intro c m hc hm
    obtain ⟨m, rfl⟩ : ∃ m', m = m' + 1 := ⟨m - 1, by omega⟩
    obtain ⟨e, eh⟩ := hA c (by omega)
    obtain ⟨r1, r2, r3, r4⟩ := hr c (by omega)
    have nx := ih (c + 1) m (by omega) (by omega)
    have ex0 : nI (8 * c) = nI (8 * c + 0) := rfl
    have ex7 : nI (8 * c) + 7 = nI (8 * c + 7) := nI_add _ 7
    rw [mg_open] at nx
    rw [wX_openConflicts_4]
    refine br_f (nI_ge (by omega) (by omega)) (nm_r (ib_m8 c) ⟨vp_in_nI (by omega) (by omega), ?_⟩)
    rw [ex0, nI_clamp (by omega), e 0 (by omega)]
    by_cases k4 : T c 0 = 4
    · refine br_t (by rw [k4]; rfl) ⟨by rw [← ex0, ex7]; exact vp_in_nI (by omega) (by omega), ?_⟩
      rw [← ex0, ex7, nI_clamp (by omega), eh]
      by_cases z : ch c = 0
      · rw [if_pos ⟨k4, z⟩] at nx
        exact br_t z (nm_r (nI_1 _) (nm_r (nI_1 _) nx))
      · rw [if_neg (fun y => z y.2)] at nx
        exact br_f z (nm_r (nI_1 _) nx)
    · rw [if_neg (fun y => k4 y.1)] at nx
      exact br_f (fun z => k4 (ib_inj (by omega) (by decide) (b := 4) z)) (nm_r (nI_1 _) nx)
theorem xm_open {post : Int32 → Prop} (hN : N ≤ 25) (hT : xT = nI N) (hA : xk_A aU T N ch) (hr : ck_rows 12 12 12 N T) (K : post (nI (mg_open T ch N))) : wpX_openConflicts post (q0, q1, q2, q3, q4, q5, q6, q7, q8, q9, xC, xK, xD, xT, xM, aL, aS, aR, aO, aN, aZ, aE, aM, aP, aQ, aH, aW, aU, aV, aX) := by
  unfold wpX_openConflicts
  exact ⟨N + 1, xm_open4 hN hT hA hr K N 0 (N + 1) (by omega) (by omega)⟩
end
end
/-! compare: what one side's arrays hold -/
noncomputable def zz_S (L : Nat → Int32) (sd b s x : Nat) : Nat → Bool := sh_s (sc_o L (sc_B L sd) b s) (sc_n L (sc_B L sd) b s) x
noncomputable def zz_N (L : Nat → Int32) (sd b s : Nat) : Nat := sc_n L (sc_B L sd) b s
noncomputable def zz_G (L : Nat → Int32) (sd b s x : Nat) : Nat → Int32 := pt_G (zz_S L sd b s x) (sc_o L (sc_B L sd) b s) (sc_i L (sc_B L sd) b s) (sc_j L (sc_B L sd) b s) (sc_l L (sc_B L sd) b s) (zz_N L sd b s)
def xd_S (L : Nat → Int32) (sd b s x : Nat) (fE fM fP fQ fH fW : Nat → Int32) : Prop :=
  fE sd = nI (ed_D L (sc_B L sd) b s 0 0) ∧ (∀ i, i < b → fM (12 * sd + i) = sc_m L (sc_B L sd) b s i) ∧
  pt_ag fP (zz_G L sd b s x) (128 * sd) (pt_n (zz_S L sd b s x) (zz_N L sd b s)) ∧ fQ sd = nI (pt_n (zz_S L sd b s x) (zz_N L sd b s)) ∧ fW sd = nI (pt_k (zz_S L sd b s x) (zz_N L sd b s)) ∧
  (∀ h, h ≤ pt_k (zz_S L sd b s x) (zz_N L sd b s) → fH (16 * sd + h) = nI (128 * sd + pt_n (zz_S L sd b s x) (pt_q (zz_S L sd b s x) (zz_N L sd b s) h)))
def xd_F (sd : Nat) (fE fM fP fQ fH fW gE gM gP gQ gH gW : Nat → Int32) : Prop :=
  (∀ j, j ≠ sd → gE j = fE j) ∧ (∀ j, j < 12 * sd ∨ 12 * sd + 12 ≤ j → gM j = fM j) ∧ (∀ j, j < 128 * sd ∨ 128 * sd + 128 ≤ j → gP j = fP j) ∧ (∀ j, j ≠ sd → gQ j = fQ j) ∧ (∀ j, j ≠ sd → gW j = fW j) ∧ (∀ j, j < 16 * sd ∨ 16 * sd + 16 ≤ j → gH j = fH j)
theorem xd_keep {L : Nat → Int32} {sd sd' b s x : Nat} {fE fM fP fQ fH fW gE gM gP gQ gH gW : Nat → Int32} (hb : b ≤ 12) (hs : s ≤ 12) (hne : sd ≠ sd') (h : xd_S L sd b s x fE fM fP fQ fH fW) (hF : xd_F sd' fE fM fP fQ fH fW gE gM gP gQ gH gW) : xd_S L sd b s x gE gM gP gQ gH gW := by
  obtain ⟨h1, h2, h3, h4, h5, h6⟩ := h
  obtain ⟨g1, g2, g3, g4, g5, g6⟩ := hF
  have hN := sc_nE (A := L) (B := sc_B L sd) (b := b) (s := s)
  have few := pt_few (S := zz_S L sd b s x) (t := zz_N L sd b s) (by unfold zz_N; omega)
  refine ⟨by rw [g1 _ hne]; exact h1, fun i hi => by rw [g2 _ (by omega)]; exact h2 i hi, fun i hi => by rw [g3 _ (by omega)]; exact h3 i hi, by rw [g4 _ hne]; exact h4, by rw [g5 _ hne]; exact h5, fun k hk => by rw [g6 _ (by omega)]; exact h6 k hk⟩
section
variable {q0 q1 q2 q3 q4 q5 q6 q7 q8 q9 xC xK xD xT xM : Int32} {aL aS aR aO aN aZ aE aM aP aQ aH aW aU aV aX : Nat → Int32}
variable {L : Nat → Int32} {b s sd x : Nat}
theorem xc_side {post : Int32 → SX → Prop} {n : Nat} (hL : ∀ i, i < 36 → aL i = L i) (hb : b ≤ 12) (hs : s ≤ 12) (h1 : 1 ≤ sd) (h2 : sd ≤ 2) (h0 : aS 0 = nI b) (hS : aS sd = nI s) (hx : x ≤ 3) (hK : xK = nI x)
    (K : ∀ gR gO gN gZ gE gM gP gQ gH gW, xd_S L sd b s x gE gM gP gQ gH gW → xd_F sd aE aM aP aQ aH aW gE gM gP gQ gH gW → wX_compare_2 post n (nI (sd + 1)) q0 q1 q2 q3 q4 q5 q6 q7 q8 q9 xC xK xD xT xM aL aS gR gO gN gZ gE gM gP gQ gH gW aU aV aX) :
    wX_compare_2 post (n + 1) (nI sd) q0 q1 q2 q3 q4 q5 q6 q7 q8 q9 xC xK xD xT xM aL aS aR aO aN aZ aE aM aP aQ aH aW aU aV aX := by
  have hN := sc_nE (A := L) (B := sc_B L sd) (b := b) (s := s)
  rw [wX_compare_2]
  refine br_f (nI_nlt (a := 2) h2 (by decide)) ?_
  refine xw_search hL hb hs h1 h2 h0 hS (fun gR hR => ?_)
  refine ⟨vp_in_nI (by omega) (by omega), nm_r (e' := upd aE sd (nI (ed_D L (sc_B L sd) b s 0 0))) (by rw [nI_clamp (by omega)]) ?_⟩
  refine xw_walk hL hb hs h1 h2 h0 hS pk_us hR (fun gO gN gM hI => ?_)
  refine xw_print (O := sc_o L (sc_B L sd) b s) (I := sc_i L (sc_B L sd) b s) (J := sc_j L (sc_B L sd) b s) (l := sc_l L (sc_B L sd) b s) (N := sc_n L (sc_B L sd) b s) (x := x) h2 (by omega) hx hK sc_o3 pk_us (fun u hu => (hI.1 u hu).1) (fun u hu => (hI.1 u hu).2) sc_iS sc_jS rfl rfl (fun gP gQ gH gW hP => ?_)
  refine nm_r (nI_1 sd) (K _ _ _ _ _ _ _ _ _ _ ?_ ?_)
  · obtain ⟨p1, p2, p3, p4, p5, p6, p7, p8⟩ := hP
    refine ⟨pk_us, sc_mAll (f := fun i => gM (12 * sd + i)) hI.2.1, p1, p2, p3, fun h hh => ?_⟩
    have hh : h ≤ pt_k (sh_s (sc_o L (sc_B L sd) b s) (sc_n L (sc_B L sd) b s) x) (sc_n L (sc_B L sd) b s) := hh
    show upd gH (16 * sd + pt_k (sh_s (sc_o L (sc_B L sd) b s) (sc_n L (sc_B L sd) b s) x) (sc_n L (sc_B L sd) b s)) (nI (128 * sd + pt_n (sh_s (sc_o L (sc_B L sd) b s) (sc_n L (sc_B L sd) b s) x) (sc_n L (sc_B L sd) b s))) (16 * sd + h) = nI (128 * sd + pt_n (sh_s (sc_o L (sc_B L sd) b s) (sc_n L (sc_B L sd) b s) x) (pt_q (sh_s (sc_o L (sc_B L sd) b s) (sc_n L (sc_B L sd) b s) x) (sc_n L (sc_B L sd) b s) h))
    by_cases e : h = pt_k (sh_s (sc_o L (sc_B L sd) b s) (sc_n L (sc_B L sd) b s) x) (sc_n L (sc_B L sd) b s)
    · rw [e, pk_us, pt_qN]
    · rw [pk_un (by omega), p4 h (by omega)]
      unfold pt_q
      rw [if_pos (by omega)]
  · obtain ⟨p1, p2, p3, p4, p5, p6, p7, p8⟩ := hP
    have few := pt_few (S := sh_s (sc_o L (sc_B L sd) b s) (sc_n L (sc_B L sd) b s) x) (t := sc_n L (sc_B L sd) b s) (by omega)
    exact ⟨fun j hj => pk_un hj, hI.2.2, p5, p6, p7, fun j hj => by rw [pk_un (by omega)]; exact p8 j hj⟩
theorem ck_rows12 {b l r c : Nat} {T : Nat → Nat → Nat} (hb : b ≤ 12) (hl : l ≤ 12) (hr : r ≤ 12) (h : ck_rows b l r c T) : ck_rows 12 12 12 c T := fun c' hc' => by
  obtain ⟨h1, h2, h3, h4⟩ := h c' hc'
  exact ⟨by omega, by omega, by omega, h4⟩
theorem xc_compare {post : Int32 → SX → Prop} {l r : Nat} (hL : ∀ i, i < 36 → aL i = L i) (hb : b ≤ 12) (hl : l ≤ 12) (hr : r ≤ 12) (h0 : aS 0 = nI b) (h1 : aS 1 = nI l) (h2 : aS 2 = nI r) (hx : x ≤ 3) (hK : xK = nI x)
    (K : ∀ gR gO gN gZ gE gM gP gQ gH gW gU gV, xd_S L 1 b l x gE gM gP gQ gH gW → xd_S L 2 b r x gE gM gP gQ gH gW → xk_A gU (ck_t L b l r) (ck_n L b l r) (fun _ => 0) → ls_A gV (mg_all L (ck_t L b l r) (fun _ => 0) (ck_n L b l r)) →
      post (nI (mg_open (ck_t L b l r) (fun _ => 0) (ck_n L b l r))) (q0, q1, q2, q3, q4, q5, q6, q7, q8, q9, xC, xK, 1, nI (ck_n L b l r), nI (mg_all L (ck_t L b l r) (fun _ => 0) (ck_n L b l r)).length, aL, aS, gR, gO, gN, gZ, gE, gM, gP, gQ, gH, gW, gU, gV, aX)) :
    wpX_compare post (q0, q1, q2, q3, q4, q5, q6, q7, q8, q9, xC, xK, xD, xT, xM, aL, aS, aR, aO, aN, aZ, aE, aM, aP, aQ, aH, aW, aU, aV, aX) := by
  obtain ⟨f1, f2, f3⟩ := ck_facts (L := L) hb hl hr
  have f2 := ck_rows12 hb hl hr f2
  unfold wpX_compare
  refine ⟨3, ?_⟩
  refine xc_side (sd := 1) hL hb hl (by omega) (by omega) h0 h1 hx hK (fun gR gO gN gZ gE gM gP gQ gH gW k1 k2 => ?_)
  refine xc_side (sd := 2) hL hb hr (by omega) (by omega) h0 h2 hx hK (fun gR gO gN gZ gE' gM' gP' gQ' gH' gW' m1 m2 => ?_)
  have k1 := xd_keep hb hl (by omega) k1 m2
  rw [wX_compare_2]
  refine br_t (by decide) ?_
  refine xk_build hL hb hl hr h0 h1 h2 k1.2.1 m1.2.1 (fun gU hU => ?_)
  refine xm_all hL f1 rfl hU f2 f3 (fun gV hV => ?_)
  exact xm_open f1 rfl hU f2 (K _ _ _ _ _ _ _ _ _ _ _ _ k1 m1 hU hV)
end
end
section
/-! X: apply -/
theorem ib_addT {x y : Int32} (hx : -10000 ≤ x.toInt ∧ x.toInt ≤ 10000) (hy : -10000 ≤ y.toInt ∧ y.toInt ≤ 10000) : (x + y).toInt = x.toInt + y.toInt := by
  rw [Int32.toInt_add]
  exact Int.bmod_eq_of_le (by omega) (by omega)
theorem ib_subT {x y : Int32} (hx : -10000 ≤ x.toInt ∧ x.toInt ≤ 10000) (hy : -10000 ≤ y.toInt ∧ y.toInt ≤ 10000) : (x - y).toInt = x.toInt - y.toInt := by
  rw [Int32.toInt_sub]
  exact Int.bmod_eq_of_le (by omega) (by omega)
theorem ib_negT {x : Int32} (hx : -10000 ≤ x.toInt ∧ x.toInt ≤ 10000) : (-x).toInt = -x.toInt := by
  rw [Int32.toInt_neg]
  exact Int.bmod_eq_of_le (by omega) (by omega)
theorem ib_ofT {x : Int32} {n : Nat} (h : x.toInt = n) (hn : n < 2 ^ 31) : x = nI n := Int32.toInt_inj.mp (h.trans (nI_toInt hn).symm)
theorem ib_T0 : (0 : Int32).toInt = 0 := by decide
def ap_W (f : Nat → Int32) : Nat → Int32 := fun k => f (36 + k)
/-- the work text's places overwritten by the first p cells of a list -/
def ap_wr (f : Nat → Int32) (ls : List Int32) (p : Nat) : Nat → Int32 := fun j => if 36 ≤ j ∧ j < 36 + p then ls.getD (j - 36) 0 else f j
theorem ap_wr0 (f : Nat → Int32) (ls : List Int32) : ap_wr f ls 0 = f := funext fun j => if_neg (by omega)
theorem ap_wrS (f : Nat → Int32) (ls : List Int32) (p : Nat) : upd (ap_wr f ls p) (36 + p) (ls.getD p 0) = ap_wr f ls (p + 1) := funext fun j => by
  by_cases e : j = 36 + p
  · subst e
    rw [pk_us]
    unfold ap_wr
    rw [if_pos (by omega), Nat.add_sub_cancel_left]
  · rw [pk_un e]
    unfold ap_wr
    by_cases k : 36 ≤ j ∧ j < 36 + p
    · rw [if_pos k, if_pos (by omega)]
    · rw [if_neg k, if_neg (by omega)]
/-- the cells of a run -/
theorem pt_rcn {S : Nat → Bool} {N h : Nat} (hh : h < pt_k S N) : ∀ i, 1 ≤ i → pt_q S N h + i ≤ pt_e S (pt_q S N h) N → pt_n S (pt_q S N h + i) = pt_n S (pt_q S N h) + 5 + 2 * i := by
  obtain ⟨a1, a2, a3⟩ := pt_qlt hh
  obtain ⟨e1, e2⟩ := pt_qe hh
  obtain ⟨r1, r2, r3, r4⟩ := pt_run (S := S) (pt_q S N h) N (by omega)
  intro i
  induction i with
  | zero => intro h; omega
  | succ i ih =>
    intro _ hi
    have hs := r3 (pt_q S N h + i) (by omega) (by omega)
    rw [show pt_q S N h + (i + 1) = pt_q S N h + i + 1 by omega, pt_nc hs]
    by_cases z : i = 0
    · subst z
      show pt_c S (pt_q S N h) + 2 = _
      rw [pt_c5 a1]
    · rw [pt_c0 (pt_qno hh (by omega) (by omega)), ih (by omega) (by omega)]
      omega
theorem pt_rcc {S : Nat → Bool} {N h i : Nat} (hh : h < pt_k S N) (hi : pt_q S N h + i < pt_e S (pt_q S N h) N) : pt_c S (pt_q S N h + i) = pt_n S (pt_q S N h) + 5 + 2 * i := by
  obtain ⟨a1, a2, a3⟩ := pt_qlt hh
  obtain ⟨e1, e2⟩ := pt_qe hh
  by_cases z : i = 0
  · subst z
    rw [Nat.add_zero, pt_c5 a1]
  · rw [pt_c0 (pt_qno hh (by omega) (by omega)), pt_rcn hh i (by omega) (by omega)]
def xa_P (S : Nat → Bool) (O F : Nat → Nat) (l : Nat → Int32) (N sd dr : Nat) (fP fH fW : Nat → Int32) : Prop :=
  (∀ u, u < N → S u = true → fP (128 * sd + pt_c S u) = nI (O u) ∧ fP (128 * sd + (pt_c S u + 1)) = l u) ∧
  (∀ u, u < N → sh_b S u = true → fP (128 * sd + (pt_n S u + (1 + 2 * dr))) = nI (F u) ∧ fP (128 * sd + (pt_n S u + (2 + 2 * dr))) = nI (F (pt_e S u N) - F u)) ∧
  (∀ h, h ≤ pt_k S N → fH (16 * sd + h) = nI (128 * sd + pt_n S (pt_q S N h))) ∧ fW sd = nI (pt_k S N)
section
variable {q0 q1 q2 q3 q4 q5 q6 q7 q8 q9 xC xK xD xT xM : Int32} {aL aS aR aO aN aZ aE aM aP aQ aH aW aU aV aX : Nat → Int32}
variable {S : Nat → Bool} {O F P : Nat → Nat} {l : Nat → Int32} {N sd dr ad tk w : Nat} {v3 : Int32}
/-- the head of hunk h as the component reads it -/
theorem xa_hd (h2 : sd ≤ 2) (hN : N ≤ 24) (hdr : dr ≤ 1) (hP : xa_P S O F l N sd dr aP aH aW) {h : Nat} (hh : h < pt_k S N) :
    (vp_in (nI sd * 16 + nI h) 48 ∧ aH (nI sd * 16 + nI h).toNatClampNeg = nI (128 * sd + pt_n S (pt_q S N h))) ∧
    (vp_in (nI sd * 16 + nI h + 1) 48 ∧ aH (nI sd * 16 + nI h + 1).toNatClampNeg = nI (128 * sd + pt_n S (pt_e S (pt_q S N h) N))) ∧
    (vp_in (nI (128 * sd + pt_n S (pt_q S N h)) + 1 + 2 * nI dr) 384 ∧ aP (nI (128 * sd + pt_n S (pt_q S N h)) + 1 + 2 * nI dr).toNatClampNeg = nI (F (pt_q S N h))) ∧
    (vp_in (nI (128 * sd + pt_n S (pt_q S N h)) + 2 + 2 * nI dr) 384 ∧ aP (nI (128 * sd + pt_n S (pt_q S N h)) + 2 + 2 * nI dr).toNatClampNeg = nI (F (pt_e S (pt_q S N h) N) - F (pt_q S N h))) := by
  obtain ⟨p1, p2, p3, p4⟩ := hP
  obtain ⟨a1, a2, a3⟩ := pt_qlt hh
  have few := pt_few (S := S) (t := N) hN
  have few2 := pt_mono (S := S) (t := pt_q S N h) (u := N) (by omega)
  obtain ⟨k1, k2⟩ := p2 _ (by omega) a1
  have x1 : nI sd * 16 + nI h = nI (16 * sd + h) := ib_16 _ _
  have x2 : nI sd * 16 + nI h + 1 = nI (16 * sd + (h + 1)) := by rw [x1]; exact nI_1 _
  have x3 : nI (128 * sd + pt_n S (pt_q S N h)) + 1 + 2 * nI dr = nI (128 * sd + (pt_n S (pt_q S N h) + (1 + 2 * dr))) := by
    rw [nI_1, ib_2m, nI_add]
    exact congrArg nI (by omega)
  have x4 : nI (128 * sd + pt_n S (pt_q S N h)) + 2 + 2 * nI dr = nI (128 * sd + (pt_n S (pt_q S N h) + (2 + 2 * dr))) := by
    rw [show (2 : Int32) = nI 2 from rfl, nI_add, pk_mul, nI_add]
    exact congrArg nI (by omega)
  refine ⟨⟨?_, ?_⟩, ⟨?_, ?_⟩, ⟨?_, ?_⟩, ⟨?_, ?_⟩⟩
  · rw [x1]; exact vp_in_nI (by omega) (by omega)
  · rw [x1, nI_clamp (by omega), p3 h (by omega)]
  · rw [x2]; exact vp_in_nI (by omega) (by omega)
  · rw [x2, nI_clamp (by omega), p3 (h + 1) (by omega), pt_qn hh]
  · rw [x3]; exact vp_in_nI (by omega) (by omega)
  · rw [x3, nI_clamp (by omega), k1]
  · rw [x4]; exact vp_in_nI (by omega) (by omega)
  · rw [x4, nI_clamp (by omega), k2]
theorem xa_fit106 {post : Int32 → Prop} {h : Nat} (h2 : sd ≤ 2) (hN : N ≤ 24) (hw : w ≤ 12) (hO3 : ∀ u, O u = 0 ∨ O u = 1 ∨ O u = 2) (had : ad ≤ 2) (hF : ∀ u, F (u + 1) = F u + (if O u = ad then 0 else 1)) (hP : xa_P S O F l N sd dr aP aH aW) (hh : h < pt_k S N)
    (hv : 0 ≤ (F (pt_q S N h) : Int) + v3.toInt) (hv2 : (F (pt_e S (pt_q S N h) N) : Int) + v3.toInt ≤ w)
    (K1 : (∀ u, pt_q S N h ≤ u → u < pt_e S (pt_q S N h) N → O u ≠ ad → ap_W aL ((F u : Int) + v3.toInt).toNat = l u) → post 1)
    (K0 : (∃ u, pt_q S N h ≤ u ∧ u < pt_e S (pt_q S N h) N ∧ O u ≠ ad ∧ ¬ ap_W aL ((F u : Int) + v3.toInt).toNat = l u) → post 0) :
    ∀ d i n, pt_q S N h + i + d = pt_e S (pt_q S N h) N → d < n → (∀ u, pt_q S N h ≤ u → u < pt_q S N h + i → O u ≠ ad → ap_W aL ((F u : Int) + v3.toInt).toNat = l u) →
    wX_hunkFits_106 post (nI (128 * sd + pt_n S (pt_e S (pt_q S N h) N))) (nI ad) q0 q1 q2 q3 q4 q5 q6 q7 q8 q9 xC xK xD xT xM aL aS aR aO aN aZ aE aM aP aQ aH aW aU aV aX n (nI (36 + ((F (pt_q S N h + i) : Int) + v3.toInt).toNat)) (nI (128 * sd + (pt_n S (pt_q S N h) + 5 + 2 * i))) := by
  obtain ⟨a1, a2, a3⟩ := pt_qlt hh
  obtain ⟨e1, e2⟩ := pt_qe hh
  obtain ⟨r1, r2, r3, r4⟩ := pt_run (S := S) (pt_q S N h) N (by omega)
  have few := pt_few (S := S) (t := N) hN
  have few2 := pt_mono (S := S) (t := pt_e S (pt_q S N h) N) (u := N) (by omega)
  have en := pt_rcn hh (pt_e S (pt_q S N h) N - pt_q S N h) (by omega) (by omega)
  rw [show pt_q S N h + (pt_e S (pt_q S N h) N - pt_q S N h) = pt_e S (pt_q S N h) N by omega] at en
  intro d
  induction d with
  | zero =>
    intro i n hd hn hI
    obtain ⟨n, rfl⟩ : ∃ m', n = m' + 1 := ⟨n - 1, by omega⟩
    rw [wX_hunkFits_106]
    exact br_t (nI_le (by omega) (by omega)) (K1 (fun u k1 k2 => hI u k1 (by omega)))
  | succ d ih =>
    intro i n hd hn hI
    obtain ⟨n, rfl⟩ : ∃ m', n = m' + 1 := ⟨n - 1, by omega⟩
    have hs := r3 (pt_q S N h + i) (by omega) (by omega)
    obtain ⟨c1, c2⟩ := hP.1 (pt_q S N h + i) (by omega) hs
    rw [pt_rcc hh (by omega)] at c1 c2
    have m1 := ap_Fmono hF (t := pt_q S N h) (u := pt_q S N h + i) (by omega)
    have m2 := ap_Fmono hF (t := pt_q S N h + i + 1) (u := pt_e S (pt_q S N h) N) (by omega)
    have hf := hF (pt_q S N h + i)
    have o3 := hO3 (pt_q S N h + i)
    have x2 : nI (128 * sd + (pt_n S (pt_q S N h) + 5 + 2 * i)) + 2 = nI (128 * sd + (pt_n S (pt_q S N h) + 5 + 2 * (i + 1))) := (nI_add _ 2).trans (congrArg nI (by omega))
    have x1 : nI (128 * sd + (pt_n S (pt_q S N h) + 5 + 2 * i)) + 1 = nI (128 * sd + (pt_n S (pt_q S N h) + 5 + 2 * i + 1)) := nI_1 _
    rw [wX_hunkFits_106]
    refine br_f (nI_ge (by omega) (by omega)) ⟨vp_in_nI (by omega) (by omega), pk_eq (O (pt_q S N h + i)) ad (fun z => ?_) (fun z => ?_) (by rw [nI_clamp (by omega), c1])⟩
    · rw [if_pos z] at hf
      have nx := ih (i + 1) n (by omega) (by omega) (fun u k1 k2 k3 => by
        by_cases y : u = pt_q S N h + i
        · rw [y] at k3; exact absurd z k3
        · exact hI u k1 (by omega) k3)
      rw [show pt_q S N h + (i + 1) = pt_q S N h + i + 1 by omega, hf] at nx
      exact nm_r x2 nx
    · rw [if_neg z] at hf
      refine ⟨vp_in_nI (by omega) (by omega), by rw [x1]; exact vp_in_nI (by omega) (by omega), ?_⟩
      rw [nI_clamp (by omega), x1, nI_clamp (by omega), c2]
      refine br_c (fun y => ?_) (fun y => K0 ⟨pt_q S N h + i, by omega, by omega, z, y⟩)
      have nx := ih (i + 1) n (by omega) (by omega) (fun u k1 k2 k3 => by
        by_cases q : u = pt_q S N h + i
        · rw [q]; exact y
        · exact hI u k1 (by omega) k3)
      rw [show pt_q S N h + (i + 1) = pt_q S N h + i + 1 by omega, hf] at nx
      refine nm_r (e' := nI (36 + (((F (pt_q S N h + i) + 1 : Nat) : Int) + v3.toInt).toNat)) ?_ (nm_r x2 nx)
      rw [nI_1]
      exact congrArg nI (by omega)
theorem xa_fits {post : Int32 → Prop} {h : Nat} (h2 : sd ≤ 2) (hN : N ≤ 24) (hw : w ≤ 12) (hS3 : aS 3 = nI w) (hO3 : ∀ u, O u = 0 ∨ O u = 1 ∨ O u = 2) (hdr : (dr = 0 ∧ ad = 2) ∨ (dr = 1 ∧ ad = 1)) (hF : ∀ u, F (u + 1) = F u + (if O u = ad then 0 else 1)) (hFN : F N ≤ 12) (hP : xa_P S O F l N sd dr aP aH aW) (hh : h < pt_k S N)
    (hv : -12 ≤ v3.toInt ∧ v3.toInt ≤ 12) (K1 : ap_H S O F l (ap_W aL) ad w N v3.toInt h → post 1) (K0 : ¬ ap_H S O F l (ap_W aL) ad w N v3.toInt h → post 0) : wpX_hunkFits post (q0, q1, q2, q3, q4, q5, q6, q7, q8, q9, xC, xK, xD, xT, xM, aL, aS, aR, aO, aN, aZ, aE, aM, aP, aQ, aH, aW, aU, aV, aX) (nI sd) (nI h) (nI dr) v3 := by
  obtain ⟨⟨g1, g2⟩, ⟨g3, g4⟩, ⟨g5, g6⟩, ⟨g7, g8⟩⟩ := xa_hd h2 hN (by omega) hP hh
  obtain ⟨a1, a2, a3⟩ := pt_qlt hh
  obtain ⟨e1, e2⟩ := pt_qe hh
  have m1 := ap_Fmono hF (t := pt_q S N h) (u := pt_e S (pt_q S N h) N) (by omega)
  have m2 := ap_Fmono hF (t := pt_e S (pt_q S N h) N) (u := N) (by omega)
  have few := pt_few (S := S) (t := N) hN
  have few2 := pt_mono (S := S) (t := pt_q S N h) (u := N) (by omega)
  have t1 : (nI (F (pt_q S N h)) + v3).toInt = (F (pt_q S N h) : Int) + v3.toInt := by
    rw [ib_addT (by rw [nI_toInt (by omega)]; omega) (by omega), nI_toInt (by omega)]
  have t2 : (nI (F (pt_q S N h)) + v3 + nI (F (pt_e S (pt_q S N h) N) - F (pt_q S N h))).toInt = (F (pt_e S (pt_q S N h) N) : Int) + v3.toInt := by
    rw [ib_addT (by rw [t1]; omega) (by rw [nI_toInt (by omega)]; omega), t1, nI_toInt (by omega)]
    omega
  unfold wpX_hunkFits
  refine ⟨g1, nm_r g2 ⟨g3, nm_r g4 ⟨g5, nm_r (e' := nI (F (pt_q S N h)) + v3) (by rw [g6]) ⟨g7, nm_r g8 ?_⟩⟩⟩⟩
  refine br_c (fun z => K0 (fun y => ?_)) (fun z => br_c (fun z2 => ?_) (fun z2 => K0 (fun y => ?_)))
  · rw [Int32.lt_iff_toInt_lt, t1, ib_T0] at z
    have := y.1
    omega
  · rw [Int32.lt_iff_toInt_lt, t1, ib_T0] at z
    rw [Int32.le_iff_toInt_le, t2, hS3, nI_toInt (by omega)] at z2
    have pl : nI (F (pt_q S N h)) + v3 = nI ((F (pt_q S N h) : Int) + v3.toInt).toNat := ib_ofT (by rw [t1]; omega) (by omega)
    have g91 : wX_hunkFits_91 post (nI (128 * sd + pt_n S (pt_q S N h))) (nI (128 * sd + pt_n S (pt_e S (pt_q S N h) N))) (nI (F (pt_q S N h)) + v3) (nI ad) q0 q1 q2 q3 q4 q5 q6 q7 q8 q9 xC xK xD xT xM aL aS aR aO aN aZ aE aM aP aQ aH aW aU aV aX := by
      unfold wX_hunkFits_91
      rw [pl]
      refine nm_r (ib_c _ 36) (nm_r (e' := nI (128 * sd + (pt_n S (pt_q S N h) + 5 + 2 * 0))) (nI_add _ 5) ⟨_, xa_fit106 (w := w) h2 hN hw hO3 (by omega) hF hP hh (by omega) (by omega) (fun y => K1 ⟨by omega, by omega, y⟩) (fun y => K0 (fun q => ?_)) (pt_e S (pt_q S N h) N - pt_q S N h) 0 (pt_e S (pt_q S N h) N - pt_q S N h + 1) (by omega) (by omega) (fun u k1 k2 => by omega)⟩)
      obtain ⟨u, b1, b2, b3, b4⟩ := y
      exact b4 (q.2.2 u b1 b2 b3)
    rcases hdr with ⟨d1, d2⟩ | ⟨d1, d2⟩
    · subst d1 d2
      exact br_t rfl g91
    · subst d1 d2
      exact br_f (by decide) g91
  · rw [Int32.le_iff_toInt_le, t2, hS3, nI_toInt (by omega)] at z2
    have := y.2.1
    omega
theorem xa_pw6 {post : Int32 → SX → Prop} {ls : List Int32} {fr to : Nat} (hfr : fr ≤ 12) (hto : to ≤ 12) (hl : (ls ++ mg_seg (ap_W aL) fr (to - fr)).length ≤ 12)
    (K : ∀ g, ls_A g (ls ++ mg_seg (ap_W aL) fr (to - fr)) → post (nI (ls ++ mg_seg (ap_W aL) fr (to - fr)).length) (q0, q1, q2, q3, q4, q5, q6, q7, q8, q9, xC, xK, xD, xT, xM, aL, aS, aR, aO, aN, aZ, aE, aM, aP, aQ, aH, aW, aU, aV, g)) :
    ∀ d k n g, k + d = to - fr → d < n → ls_A g (ls ++ mg_seg (ap_W aL) fr k) → wX_passWork_6 post (nI to) q0 q1 q2 q3 q4 q5 q6 q7 q8 q9 xC xK xD xT xM n (nI (ls ++ mg_seg (ap_W aL) fr k).length) (nI (fr + k)) aL aS aR aO aN aZ aE aM aP aQ aH aW aU aV g := by
  intro d
  induction d with
  | zero =>
    intro k n g hk hn hg
    obtain ⟨n, rfl⟩ : ∃ m', n = m' + 1 := ⟨n - 1, by omega⟩
    have e : k = to - fr := by omega
    subst e
    rw [wX_passWork_6]
    exact br_t (nI_le (by omega) (by omega)) (K g hg)
  | succ d ih =>
    intro k n g hk hn hg
    obtain ⟨n, rfl⟩ : ∃ m', n = m' + 1 := ⟨n - 1, by omega⟩
    have e1 : ls ++ mg_seg (ap_W aL) fr (k + 1) = (ls ++ mg_seg (ap_W aL) fr k) ++ [ap_W aL (fr + k)] := by rw [mg_segS, List.append_assoc]
    have l1 : (ls ++ mg_seg (ap_W aL) fr k).length + 1 = (ls ++ mg_seg (ap_W aL) fr (k + 1)).length := by rw [List.length_append, List.length_append, mg_segl, mg_segl]; rfl
    have l2 : (ls ++ mg_seg (ap_W aL) fr (k + 1)).length ≤ 12 := by
      rw [List.length_append, mg_segl] at hl ⊢
      omega
    have x1 : (36 : Int32) + nI (fr + k) = nI (36 + (fr + k)) := ib_c _ 36
    rw [wX_passWork_6]
    refine br_f (nI_ge (by omega) (by omega)) ⟨by rw [x1]; exact vp_in_nI (by omega) (by omega), vp_in_nI (by omega) (by omega), ?_⟩
    rw [x1, nI_clamp (n := 36 + (fr + k)) (by omega), nI_clamp (n := (ls ++ mg_seg (ap_W aL) fr k).length) (by omega)]
    refine nm_e (nm_r (e' := nI (ls ++ mg_seg (ap_W aL) fr (k + 1)).length) (by rw [nI_1, l1]) (nm_r (nI_1 _) (ih (k + 1) n _ (by omega) (by omega) ?_)))
    rw [e1]
    exact ls_add _ hg
theorem xa_pw {post : Int32 → SX → Prop} {ls : List Int32} {fr to : Nat} (hfr : fr ≤ 12) (hto : to ≤ 12) (hX : ls_A aX ls) (hl : (ls ++ mg_seg (ap_W aL) fr (to - fr)).length ≤ 12)
    (K : ∀ g, ls_A g (ls ++ mg_seg (ap_W aL) fr (to - fr)) → post (nI (ls ++ mg_seg (ap_W aL) fr (to - fr)).length) (q0, q1, q2, q3, q4, q5, q6, q7, q8, q9, xC, xK, xD, xT, xM, aL, aS, aR, aO, aN, aZ, aE, aM, aP, aQ, aH, aW, aU, aV, g)) : wpX_passWork post (q0, q1, q2, q3, q4, q5, q6, q7, q8, q9, xC, xK, xD, xT, xM, aL, aS, aR, aO, aN, aZ, aE, aM, aP, aQ, aH, aW, aU, aV, aX) (nI fr) (nI to) (nI ls.length) := by
  unfold wpX_passWork
  have z : ls ++ mg_seg (ap_W aL) fr 0 = ls := List.append_nil _
  have g : wX_passWork_6 post (nI to) q0 q1 q2 q3 q4 q5 q6 q7 q8 q9 xC xK xD xT xM (to - fr + 1) (nI (ls ++ mg_seg (ap_W aL) fr 0).length) (nI (fr + 0)) aL aS aR aO aN aZ aE aM aP aQ aH aW aU aV aX := xa_pw6 hfr hto hl K (to - fr) 0 (to - fr + 1) aX (by omega) (by omega) (by rw [z]; exact hX)
  rw [z] at g
  exact ⟨_, g⟩
theorem xa_ph7 {post : Int32 → SX → Prop} {ls : List Int32} {h : Nat} (h2 : sd ≤ 2) (hN : N ≤ 24) (hO3 : ∀ u, O u = 0 ∨ O u = 1 ∨ O u = 2) (htk : tk ≤ 2) (hP : xa_P S O F l N sd dr aP aH aW) (hh : h < pt_k S N)
    (hl : (ls ++ ap_to O l tk (pt_q S N h) (pt_e S (pt_q S N h) N - pt_q S N h)).length ≤ 12)
    (K : ∀ g, ls_A g (ls ++ ap_to O l tk (pt_q S N h) (pt_e S (pt_q S N h) N - pt_q S N h)) → post (nI (ls ++ ap_to O l tk (pt_q S N h) (pt_e S (pt_q S N h) N - pt_q S N h)).length) (q0, q1, q2, q3, q4, q5, q6, q7, q8, q9, xC, xK, xD, xT, xM, aL, aS, aR, aO, aN, aZ, aE, aM, aP, aQ, aH, aW, aU, aV, g)) :
    ∀ d i n g, i + d = pt_e S (pt_q S N h) N - pt_q S N h → d < n → ls_A g (ls ++ ap_to O l tk (pt_q S N h) i) →
    wX_passHunk_7 post (nI (128 * sd + pt_n S (pt_e S (pt_q S N h) N))) (nI tk) q0 q1 q2 q3 q4 q5 q6 q7 q8 q9 xC xK xD xT xM n (nI (ls ++ ap_to O l tk (pt_q S N h) i).length) (nI (128 * sd + (pt_n S (pt_q S N h) + 5 + 2 * i))) aL aS aR aO aN aZ aE aM aP aQ aH aW aU aV g := by
  obtain ⟨a1, a2, a3⟩ := pt_qlt hh
  obtain ⟨e1, e2⟩ := pt_qe hh
  obtain ⟨r1, r2, r3, r4⟩ := pt_run (S := S) (pt_q S N h) N (by omega)
  have few := pt_few (S := S) (t := N) hN
  have few2 := pt_mono (S := S) (t := pt_e S (pt_q S N h) N) (u := N) (by omega)
  have en := pt_rcn hh (pt_e S (pt_q S N h) N - pt_q S N h) (by omega) (by omega)
  rw [show pt_q S N h + (pt_e S (pt_q S N h) N - pt_q S N h) = pt_e S (pt_q S N h) N by omega] at en
  intro d
  induction d with
  | zero =>
    intro i n g hd hn hg
    obtain ⟨n, rfl⟩ : ∃ m', n = m' + 1 := ⟨n - 1, by omega⟩
    have e : i = pt_e S (pt_q S N h) N - pt_q S N h := by omega
    rw [wX_passHunk_7]
    refine br_t (nI_le (by omega) (by omega)) ?_
    rw [e]
    rw [e] at hg
    exact K g hg
  | succ d ih =>
    intro i n g hd hn hg
    obtain ⟨n, rfl⟩ : ∃ m', n = m' + 1 := ⟨n - 1, by omega⟩
    have hs := r3 (pt_q S N h + i) (by omega) (by omega)
    obtain ⟨c1, c2⟩ := hP.1 (pt_q S N h + i) (by omega) hs
    rw [pt_rcc hh (by omega)] at c1 c2
    have o3 := hO3 (pt_q S N h + i)
    have x2 : nI (128 * sd + (pt_n S (pt_q S N h) + 5 + 2 * i)) + 2 = nI (128 * sd + (pt_n S (pt_q S N h) + 5 + 2 * (i + 1))) := (nI_add _ 2).trans (congrArg nI (by omega))
    have x1 : nI (128 * sd + (pt_n S (pt_q S N h) + 5 + 2 * i)) + 1 = nI (128 * sd + (pt_n S (pt_q S N h) + 5 + 2 * i + 1)) := nI_1 _
    have lm : (ap_to O l tk (pt_q S N h) (i + 1)).length ≤ (ap_to O l tk (pt_q S N h) (pt_e S (pt_q S N h) N - pt_q S N h)).length := ap_tol _ (by omega)
    have nx := fun g' => ih (i + 1) n g' (by omega) (by omega)
    have e1 : ap_to O l tk (pt_q S N h) (i + 1) = ap_to O l tk (pt_q S N h) i ++ (if O (pt_q S N h + i) ≠ tk then [l (pt_q S N h + i)] else []) := rfl
    rw [e1] at nx lm
    rw [wX_passHunk_7]
    refine br_f (nI_ge (by omega) (by omega)) ⟨vp_in_nI (by omega) (by omega), pk_eq (O (pt_q S N h + i)) tk (fun z => ?_) (fun z => ?_) (by rw [nI_clamp (by omega), c1])⟩
    · rw [if_neg (fun y => y z), List.append_nil] at nx
      exact nm_r x2 (nx g hg)
    · rw [if_pos z, List.length_append] at lm
      rw [if_pos z, ← List.append_assoc] at nx
      rw [List.length_append] at hl
      have q1 : [l (pt_q S N h + i)].length = 1 := rfl
      have q2 : (ls ++ ap_to O l tk (pt_q S N h) i).length = ls.length + (ap_to O l tk (pt_q S N h) i).length := List.length_append
      refine ⟨by rw [x1]; exact vp_in_nI (by omega) (by omega), vp_in_nI (by omega) (by omega), ?_⟩
      rw [x1, nI_clamp (n := 128 * sd + (pt_n S (pt_q S N h) + 5 + 2 * i + 1)) (by omega), c2, nI_clamp (n := (ls ++ ap_to O l tk (pt_q S N h) i).length) (by omega)]
      have q3 : (ls ++ ap_to O l tk (pt_q S N h) i ++ [l (pt_q S N h + i)]).length = (ls ++ ap_to O l tk (pt_q S N h) i).length + 1 := List.length_append
      rw [q3] at nx
      exact nm_e (nm_r (nI_1 _) (nm_r x2 (nx _ (ls_add _ hg))))
theorem xa_ph {post : Int32 → SX → Prop} {ls : List Int32} {h : Nat} (h2 : sd ≤ 2) (hN : N ≤ 24) (hO3 : ∀ u, O u = 0 ∨ O u = 1 ∨ O u = 2) (htk : tk ≤ 2) (hP : xa_P S O F l N sd dr aP aH aW) (hh : h < pt_k S N) (hX : ls_A aX ls)
    (hl : (ls ++ ap_to O l tk (pt_q S N h) (pt_e S (pt_q S N h) N - pt_q S N h)).length ≤ 12)
    (K : ∀ g, ls_A g (ls ++ ap_to O l tk (pt_q S N h) (pt_e S (pt_q S N h) N - pt_q S N h)) → post (nI (ls ++ ap_to O l tk (pt_q S N h) (pt_e S (pt_q S N h) N - pt_q S N h)).length) (q0, q1, q2, q3, q4, q5, q6, q7, q8, q9, xC, xK, xD, xT, xM, aL, aS, aR, aO, aN, aZ, aE, aM, aP, aQ, aH, aW, aU, aV, g)) :
    wpX_passHunk post (q0, q1, q2, q3, q4, q5, q6, q7, q8, q9, xC, xK, xD, xT, xM, aL, aS, aR, aO, aN, aZ, aE, aM, aP, aQ, aH, aW, aU, aV, aX) (nI (128 * sd + pt_n S (pt_q S N h)) + 5) (nI (128 * sd + pt_n S (pt_e S (pt_q S N h) N))) (nI tk) (nI ls.length) := by
  have x5 : nI (128 * sd + pt_n S (pt_q S N h)) + 5 = nI (128 * sd + (pt_n S (pt_q S N h) + 5 + 2 * 0)) := nI_add _ 5
  have z : ls ++ ap_to O l tk (pt_q S N h) 0 = ls := List.append_nil _
  have g := xa_ph7 (post := post) h2 hN hO3 htk hP hh hl K (pt_e S (pt_q S N h) N - pt_q S N h) 0 (pt_e S (pt_q S N h) N - pt_q S N h + 1) aX (by omega) (by omega) (by rw [z]; exact hX)
  rw [z] at g
  unfold wpX_passHunk
  rw [x5]
  exact ⟨_, g⟩
theorem xa_149 {post : SX → Prop} {ls : List Int32} (hl : ls.length ≤ 12) (hX : ls_A aX ls) (K : post (q0, q1, q2, q3, q4, q5, q6, q7, q8, q9, xC, xK, xD, xT, xM, ap_wr aL ls ls.length, upd aS 3 (nI ls.length), aR, aO, aN, aZ, aE, aM, aP, aQ, aH, aW, aU, aV, aX)) :
    ∀ d p n, p + d = ls.length → d < n → wX_rewriteWork_149 post (nI ls.length) q0 q1 q2 q3 q4 q5 q6 q7 q8 q9 xC xK xD xT xM n (nI p) (ap_wr aL ls p) aS aR aO aN aZ aE aM aP aQ aH aW aU aV aX := by
  intro d
  induction d with
  | zero =>
    intro p n hp hn
    obtain ⟨n, rfl⟩ : ∃ m', n = m' + 1 := ⟨n - 1, by omega⟩
    have e : p = ls.length := by omega
    subst e
    rw [wX_rewriteWork_149]
    exact br_t (nI_le (Nat.le_refl _) (by omega)) (nm_e K)
  | succ d ih =>
    intro p n hp hn
    obtain ⟨n, rfl⟩ : ∃ m', n = m' + 1 := ⟨n - 1, by omega⟩
    have x1 : (36 : Int32) + nI p = nI (36 + p) := ib_c _ 36
    rw [wX_rewriteWork_149]
    refine br_f (nI_ge (by omega) (by omega)) ⟨vp_in_nI (by omega) (by omega), by rw [x1]; exact vp_in_nI (by omega) (by omega), ?_⟩
    rw [x1, nI_clamp (n := 36 + p) (by omega), nI_clamp (n := p) (by omega), hX p (by omega), ap_wrS]
    exact nm_e (nm_r (nI_1 p) (ih (p + 1) n (by omega) (by omega)))
theorem xa_rw20 {post : SX → Prop} (h2 : sd ≤ 2) (hN : N ≤ 24) (hw : w ≤ 12) (hS3 : aS 3 = nI w) (hO3 : ∀ u, O u = 0 ∨ O u = 1 ∨ O u = 2) (hdr : dr ≤ 1) (htk : tk ≤ 2)
    (hF : ∀ u, F (u + 1) = F u + (if O u = ad then 0 else 1)) (hPo : ∀ u, P (u + 1) = P u + (if O u = tk then 0 else 1)) (hF0 : F 0 = 0) (hP0 : P 0 = 0) (hat : ad ≠ 0 ∧ tk ≠ 0) (hS0 : ∀ u, u < N → S u = false → O u = 0) (hFN : F N ≤ 12)
    (hP : xa_P S O F l N sd dr aP aH aW) (hv : -12 ≤ v3.toInt ∧ v3.toInt ≤ 12) (hfit : ap_Fit S O F l (ap_W aL) ad w v3.toInt N) (hl : (ap_fin S O F l (ap_W aL) ad tk w N v3.toInt).length ≤ 12)
    (K : ∀ g, post (q0, q1, q2, q3, q4, q5, q6, q7, q8, q9, xC, xK, xD, xT, xM, ap_wr aL (ap_fin S O F l (ap_W aL) ad tk w N v3.toInt) (ap_fin S O F l (ap_W aL) ad tk w N v3.toInt).length, upd aS 3 (nI (ap_fin S O F l (ap_W aL) ad tk w N v3.toInt).length), aR, aO, aN, aZ, aE, aM, aP, aQ, aH, aW, aU, aV, g)) :
    ∀ d h n g, h + d = pt_k S N → d < n → ls_A g (ap_L S O F l (ap_W aL) ad tk v3.toInt (pt_q S N h)) →
    wX_rewriteWork_20 post (nI sd) (nI dr) v3 (nI tk) n (nI (ap_r S O F ad v3.toInt (pt_q S N h))) (nI (ap_L S O F l (ap_W aL) ad tk v3.toInt (pt_q S N h)).length) (nI h) q0 q1 q2 q3 q4 q5 q6 q7 q8 q9 xC xK xD xT xM aL aS aR aO aN aZ aE aM aP aQ aH aW aU aV g := by
  have w3 : vp_in (nI sd) 3 := vp_in_nI (by omega) (by omega)
  have csd : (nI sd).toNatClampNeg = sd := nI_clamp (by omega)
  have few := pt_few (S := S) (t := N) hN
  have inv := fun t ht => ap_inv (P := P) (tk := tk) hF hPo hF0 hP0 hat hS0 t ht (fun u (hu : u < t) => hfit u (by omega))
  have Lle : ∀ t, t ≤ N → (ap_L S O F l (ap_W aL) ad tk v3.toInt t).length ≤ 12 := by
    intro t ht
    have m := ap_Lmono (S := S) (O := O) (F := F) (l := l) (W := ap_W aL) (ad := ad) (tk := tk) (sf := v3.toInt) ht
    unfold ap_fin at hl
    rw [List.length_append] at hl
    omega
  intro d
  induction d with
  | zero =>
    intro h n g hd hn hg
    obtain ⟨n, rfl⟩ : ∃ m', n = m' + 1 := ⟨n - 1, by omega⟩
    have e : h = pt_k S N := by omega
    subst e
    rw [pt_qN] at hg
    rw [pt_qN]
    obtain ⟨i1, i2, i3, i4⟩ := inv N (Nat.le_refl _)
    rw [wX_rewriteWork_20]
    refine ⟨w3, br_t (by rw [csd, hP.2.2.2]; exact nI_le (Nat.le_refl _) (by omega)) ?_⟩
    rw [hS3]
    refine xa_pw (by omega) (by omega) hg hl (fun g' hg' => ?_)
    have q := xa_149 (post := post) (q0 := q0) (q1 := q1) (q2 := q2) (q3 := q3) (q4 := q4) (q5 := q5) (q6 := q6) (q7 := q7) (q8 := q8) (q9 := q9) (xC := xC) (xK := xK) (xD := xD) (xT := xT) (xM := xM) (aL := aL) (aS := aS) (aR := aR) (aO := aO) (aN := aN) (aZ := aZ) (aE := aE) (aM := aM) (aP := aP) (aQ := aQ) (aH := aH) (aW := aW) (aU := aU) (aV := aV) (aX := g') hl hg' (K g') (ap_fin S O F l (ap_W aL) ad tk w N v3.toInt).length 0 ((ap_fin S O F l (ap_W aL) ad tk w N v3.toInt).length + 1) (by omega) (by omega)
    rw [ap_wr0] at q
    exact ⟨_, q⟩
  | succ d ih =>
    intro h n g hd hn hg
    obtain ⟨n, rfl⟩ : ∃ m', n = m' + 1 := ⟨n - 1, by omega⟩
    have hh : h < pt_k S N := by omega
    obtain ⟨⟨g1, g2⟩, ⟨g3, g4⟩, ⟨g5, g6⟩, ⟨g7, g8⟩⟩ := xa_hd (aP := aP) (aH := aH) (aW := aW) h2 hN hdr hP hh
    obtain ⟨a1, a2, a3⟩ := pt_qlt hh
    obtain ⟨e1, e2⟩ := pt_qe hh
    have m1 := ap_Fmono hF (t := pt_q S N h) (u := pt_e S (pt_q S N h) N) (by omega)
    have m2 := ap_Fmono hF (t := pt_e S (pt_q S N h) N) (u := N) (by omega)
    obtain ⟨f1, f2⟩ := (hfit (pt_q S N h) (by omega)).1 a1
    obtain ⟨i1, i2, i3, i4⟩ := inv (pt_q S N h) (by omega)
    have t1 : (nI (F (pt_q S N h)) + v3).toInt = (F (pt_q S N h) : Int) + v3.toInt := by
      rw [ib_addT (by rw [nI_toInt (by omega)]; omega) (by omega), nI_toInt (by omega)]
    have pl : nI (F (pt_q S N h)) + v3 = nI ((F (pt_q S N h) : Int) + v3.toInt).toNat := ib_ofT (by rw [t1]; omega) (by omega)
    have hL1 := ap_hunkL (S := S) (O := O) (F := F) (l := l) (W := ap_W aL) (ad := ad) (tk := tk) (sf := v3.toInt) hh
    have hr1 := ap_hunkr (P := P) (tk := tk) hF hPo hF0 hP0 hat hS0 hfit hh
    have ll := Lle (pt_q S N (h + 1)) a3
    have nx := fun g' => ih (h + 1) n g' (by omega) (by omega)
    rw [hL1] at ll
    rw [hL1] at nx
    rw [wX_rewriteWork_20]
    refine ⟨w3, br_f (by rw [csd, hP.2.2.2]; exact nI_ge hh (by omega)) ⟨g1, nm_r g2 ⟨g3, nm_r g4 ⟨g5, nm_r (e' := nI ((F (pt_q S N h) : Int) + v3.toInt).toNat) (by rw [g6]; exact pl) ?_⟩⟩⟩⟩
    refine xa_pw (by omega) (by omega) hg (by rw [List.length_append] at ll; omega) (fun g' hg' => ?_)
    refine xa_ph (F := F) h2 hN hO3 htk hP hh hg' ll (fun g2 hg2 => ?_)
    refine ⟨g7, nm_r (e' := nI (ap_r S O F ad v3.toInt (pt_q S N (h + 1)))) ?_ (nm_r (nI_1 h) (nx g2 hg2))⟩
    rw [g8, nI_add]
    exact congrArg nI (by omega)
theorem xa_rewrite {post : SX → Prop} (h2 : sd ≤ 2) (hN : N ≤ 24) (hw : w ≤ 12) (hS3 : aS 3 = nI w) (hO3 : ∀ u, O u = 0 ∨ O u = 1 ∨ O u = 2) (hdr : (dr = 0 ∧ ad = 2 ∧ tk = 1) ∨ (dr = 1 ∧ ad = 1 ∧ tk = 2))
    (hF : ∀ u, F (u + 1) = F u + (if O u = ad then 0 else 1)) (hPo : ∀ u, P (u + 1) = P u + (if O u = tk then 0 else 1)) (hF0 : F 0 = 0) (hP0 : P 0 = 0) (hS0 : ∀ u, u < N → S u = false → O u = 0) (hFN : F N ≤ 12)
    (hP : xa_P S O F l N sd dr aP aH aW) (hv : -12 ≤ v3.toInt ∧ v3.toInt ≤ 12) (hfit : ap_Fit S O F l (ap_W aL) ad w v3.toInt N) (hl : (ap_fin S O F l (ap_W aL) ad tk w N v3.toInt).length ≤ 12)
    (K : ∀ g, post (q0, q1, q2, q3, q4, q5, q6, q7, q8, q9, xC, xK, xD, xT, xM, ap_wr aL (ap_fin S O F l (ap_W aL) ad tk w N v3.toInt) (ap_fin S O F l (ap_W aL) ad tk w N v3.toInt).length, upd aS 3 (nI (ap_fin S O F l (ap_W aL) ad tk w N v3.toInt).length), aR, aO, aN, aZ, aE, aM, aP, aQ, aH, aW, aU, aV, g)) :
    wpX_rewriteWork post (q0, q1, q2, q3, q4, q5, q6, q7, q8, q9, xC, xK, xD, xT, xM, aL, aS, aR, aO, aN, aZ, aE, aM, aP, aQ, aH, aW, aU, aV, aX) (nI sd) (nI dr) v3 := by
  obtain ⟨r0, l0⟩ := ap_r0 (S := S) (O := O) (F := F) (l := l) (W := ap_W aL) (ad := ad) (tk := tk) (sf := v3.toInt) (t := pt_q S N 0) (fun u hu => pt_q0 hu)
  have g : wX_rewriteWork_20 post (nI sd) (nI dr) v3 (nI tk) (pt_k S N + 1) (nI (ap_r S O F ad v3.toInt (pt_q S N 0))) (nI (ap_L S O F l (ap_W aL) ad tk v3.toInt (pt_q S N 0)).length) (nI 0) q0 q1 q2 q3 q4 q5 q6 q7 q8 q9 xC xK xD xT xM aL aS aR aO aN aZ aE aM aP aQ aH aW aU aV aX :=
    xa_rw20 (P := P) h2 hN hw hS3 hO3 (by omega) (by omega) hF hPo hF0 hP0 (by omega) hS0 hFN hP hv hfit hl K (pt_k S N) 0 (pt_k S N + 1) aX (by omega) (by omega) (by rw [l0]; exact ls_nil _)
  rw [r0, l0] at g
  unfold wpX_rewriteWork
  rcases hdr with ⟨d1, d2, d3⟩ | ⟨d1, d2, d3⟩
  · subst d1 d2 d3
    exact br_t rfl ⟨_, g⟩
  · subst d1 d2 d3
    exact br_f (by decide) ⟨_, g⟩
theorem xa_50 {post : Int32 → SX → Prop} {b s cap : Nat} (h1 : 1 ≤ sd) (h2 : sd ≤ 2) (hN : N ≤ 24) (hw : w ≤ 12) (hb : b ≤ 12) (hs : s ≤ 12) (hcap : cap ≤ 12) (hC : xC = nI cap) (hS0' : aS 0 = nI b) (hSs : aS sd = nI s) (hS3 : aS 3 = nI w) (hO3 : ∀ u, O u = 0 ∨ O u = 1 ∨ O u = 2) (hdr : (dr = 0 ∧ ad = 2 ∧ tk = 1 ∧ F N = b ∧ P N = s) ∨ (dr = 1 ∧ ad = 1 ∧ tk = 2 ∧ F N = s ∧ P N = b))
    (hF : ∀ u, F (u + 1) = F u + (if O u = ad then 0 else 1)) (hPo : ∀ u, P (u + 1) = P u + (if O u = tk then 0 else 1)) (hF0 : F 0 = 0) (hP0 : P 0 = 0) (hS0 : ∀ u, u < N → S u = false → O u = 0)
    (hP : xa_P S O F l N sd dr aP aH aW) (hv : -12 ≤ v3.toInt ∧ v3.toInt ≤ 12)
    (KN : ¬ ap_Fit S O F l (ap_W aL) ad w v3.toInt N → post (-4) (q0, q1, q2, q3, q4, q5, q6, q7, q8, q9, xC, xK, xD, xT, xM, aL, aS, aR, aO, aN, aZ, aE, aM, aP, aQ, aH, aW, aU, aV, aX))
    (KF : ap_Fit S O F l (ap_W aL) ad w v3.toInt N → cap < (ap_fin S O F l (ap_W aL) ad tk w N v3.toInt).length → post (-2) (q0, q1, q2, q3, q4, q5, q6, q7, q8, q9, xC, xK, xD, xT, xM, aL, aS, aR, aO, aN, aZ, aE, aM, aP, aQ, aH, aW, aU, aV, aX))
    (KO : ap_Fit S O F l (ap_W aL) ad w v3.toInt N → (ap_fin S O F l (ap_W aL) ad tk w N v3.toInt).length ≤ cap → ∀ g, post (nI (pt_k S N)) (q0, q1, q2, q3, q4, q5, q6, q7, q8, q9, xC, xK, xD, xT, xM, ap_wr aL (ap_fin S O F l (ap_W aL) ad tk w N v3.toInt) (ap_fin S O F l (ap_W aL) ad tk w N v3.toInt).length, upd aS 3 (nI (ap_fin S O F l (ap_W aL) ad tk w N v3.toInt).length), aR, aO, aN, aZ, aE, aM, aP, aQ, aH, aW, aU, aV, g)) :
    ∀ d h n, h + d = pt_k S N → d < n → ap_Fit S O F l (ap_W aL) ad w v3.toInt (pt_q S N h) → wX_apply_50 post (nI sd) (nI dr) v3 q0 q1 q2 q3 q4 q5 q6 q7 q8 q9 xC xK xD xT xM aL aS aR aO aN aZ aE aM aP aQ aH aW aU aV aX n (nI h) := by
  subst hC
  have w3 : vp_in (nI sd) 3 := vp_in_nI (by omega) (by omega)
  have csd : (nI sd).toNatClampNeg = sd := nI_clamp (by omega)
  have few := pt_few (S := S) (t := N) hN
  intro d
  induction d with
  | zero =>
    intro h n hd hn hfit
    obtain ⟨n, rfl⟩ : ∃ m', n = m' + 1 := ⟨n - 1, by omega⟩
    have e : h = pt_k S N := by omega
    subst e
    rw [pt_qN] at hfit
    have fl := ap_finl (P := P) (tk := tk) hF hPo hF0 hP0 (by omega) hS0 hfit
    have g107 : ∀ x4 : Int32, x4.toInt = (P N : Int) - F N → wX_apply_107 post (nI sd) (nI dr) v3 x4 q0 q1 q2 q3 q4 q5 q6 q7 q8 q9 (nI cap) xK xD xT xM aL aS aR aO aN aZ aE aM aP aQ aH aW aU aV aX := by
      intro x4 hx4
      have t : (nI w + x4).toInt = ((ap_fin S O F l (ap_W aL) ad tk w N v3.toInt).length : Int) := by
        rw [ib_addT (by rw [nI_toInt (by omega)]; omega) (by omega), nI_toInt (by omega)]
        omega
      unfold wX_apply_107
      rw [hS3]
      refine br_c (fun z => ?_) (fun z => KF hfit ?_)
      · rw [Int32.le_iff_toInt_le, t, nI_toInt (by omega)] at z
        refine xa_rewrite (P := P) h2 hN hw hS3 hO3 (by omega) hF hPo hF0 hP0 hS0 (by omega) hP hv hfit (by omega) (fun g => ⟨w3, ?_⟩)
        rw [csd, hP.2.2.2]
        exact KO hfit (by omega) g
      · rw [Int32.le_iff_toInt_le, t, nI_toInt (by omega)] at z
        omega
    have tg : (nI s - nI b).toInt = (s : Int) - b := pk_sub_toInt (by omega) (by omega)
    rw [wX_apply_50]
    refine ⟨w3, br_t (by rw [csd, hP.2.2.2]; exact nI_le (Nat.le_refl _) (by omega)) ⟨vp_in_nI (by omega) (by omega), nm_r (e' := nI s - nI b) (by rw [csd, hSs, hS0']) ?_⟩⟩
    rcases hdr with ⟨d1, d2, d3, d4, d5⟩ | ⟨d1, d2, d3, d4, d5⟩
    · subst d1
      exact br_f (by decide) (g107 _ (by rw [tg]; omega))
    · subst d1
      exact br_t rfl (nm_e (g107 _ (by rw [ib_negT (by rw [tg]; omega), tg]; omega)))
  | succ d ih =>
    intro h n hd hn hfit
    obtain ⟨n, rfl⟩ : ∃ m', n = m' + 1 := ⟨n - 1, by omega⟩
    have hh : h < pt_k S N := by omega
    have q := ap_hunk hF hh hfit
    rw [wX_apply_50]
    refine ⟨w3, br_f (by rw [csd, hP.2.2.2]; exact nI_ge hh (by omega)) ?_⟩
    refine xa_fits (F := F) (ad := ad) h2 hN hw hS3 hO3 (by omega) hF (by omega) hP hh hv (fun z => ?_) (fun z => ?_)
    · exact br_f (by decide) (nm_r (nI_1 h) (ih (h + 1) n (by omega) (by omega) (q.mp z)))
    · refine br_t rfl (KN (fun y => z (q.mpr (fun u hu => y u ?_))))
      have := (pt_qlt hh).2.2
      omega
theorem xa_apply {post : Int32 → SX → Prop} {b s cap : Nat} (h1 : 1 ≤ sd) (h2 : sd ≤ 2) (hD : xD = 1) (hN : N ≤ 24) (hw : w ≤ 12) (hb : b ≤ 12) (hs : s ≤ 12) (hcap : cap ≤ 12) (hC : xC = nI cap) (hS0' : aS 0 = nI b) (hSs : aS sd = nI s) (hS3 : aS 3 = nI w) (hO3 : ∀ u, O u = 0 ∨ O u = 1 ∨ O u = 2) (hdr : (dr = 0 ∧ ad = 2 ∧ tk = 1 ∧ F N = b ∧ P N = s) ∨ (dr = 1 ∧ ad = 1 ∧ tk = 2 ∧ F N = s ∧ P N = b))
    (hF : ∀ u, F (u + 1) = F u + (if O u = ad then 0 else 1)) (hPo : ∀ u, P (u + 1) = P u + (if O u = tk then 0 else 1)) (hF0 : F 0 = 0) (hP0 : P 0 = 0) (hS0 : ∀ u, u < N → S u = false → O u = 0)
    (hP : xa_P S O F l N sd dr aP aH aW) (hv : -12 ≤ v3.toInt ∧ v3.toInt ≤ 12)
    (KN : ¬ ap_Fit S O F l (ap_W aL) ad w v3.toInt N → post (-4) (q0, q1, q2, q3, q4, q5, q6, q7, q8, q9, xC, xK, xD, xT, xM, aL, aS, aR, aO, aN, aZ, aE, aM, aP, aQ, aH, aW, aU, aV, aX))
    (KF : ap_Fit S O F l (ap_W aL) ad w v3.toInt N → cap < (ap_fin S O F l (ap_W aL) ad tk w N v3.toInt).length → post (-2) (q0, q1, q2, q3, q4, q5, q6, q7, q8, q9, xC, xK, xD, xT, xM, aL, aS, aR, aO, aN, aZ, aE, aM, aP, aQ, aH, aW, aU, aV, aX))
    (KO : ap_Fit S O F l (ap_W aL) ad w v3.toInt N → (ap_fin S O F l (ap_W aL) ad tk w N v3.toInt).length ≤ cap → ∀ g, post (nI (pt_k S N)) (q0, q1, q2, q3, q4, q5, q6, q7, q8, q9, xC, xK, xD, xT, xM, ap_wr aL (ap_fin S O F l (ap_W aL) ad tk w N v3.toInt) (ap_fin S O F l (ap_W aL) ad tk w N v3.toInt).length, upd aS 3 (nI (ap_fin S O F l (ap_W aL) ad tk w N v3.toInt).length), aR, aO, aN, aZ, aE, aM, aP, aQ, aH, aW, aU, aV, g)) :
    wpX_apply post (q0, q1, q2, q3, q4, q5, q6, q7, q8, q9, xC, xK, xD, xT, xM, aL, aS, aR, aO, aN, aZ, aE, aM, aP, aQ, aH, aW, aU, aV, aX) (nI sd) (nI dr) v3 := by
  unfold wpX_apply
  refine br_f (nI_nlt (b := 1) h1 (by omega)) (br_t (nI_le (b := 2) h2 (by decide)) (br_f (nI_pos (by omega)) (br_t (nI_le (b := 1) (by omega) (by decide)) (br_f ?_ (br_t ?_ (br_f ?_ ⟨pt_k S N + 1, ?_⟩))))))
  · rw [Int32.lt_iff_toInt_lt, show (-12 : Int32).toInt = -12 from by decide]
    omega
  · rw [Int32.le_iff_toInt_le, show (12 : Int32).toInt = 12 from by decide]
    omega
  · rw [hD]
    decide
  · exact xa_50 (P := P) h1 h2 hN hw hb hs hcap hC hS0' hSs hS3 hO3 hdr hF hPo hF0 hP0 hS0 hP hv KN KF KO (pt_k S N) 0 (pt_k S N + 1) (by omega) (by omega) ap_Fit0
end
end
section
/-! Y: the script -/
/-- a counter that runs down to -1 -/
def yv (k : Nat) : Int32 := nI k - 1
theorem yv_S (k : Nat) : yv (k + 1) = nI k := nI_pred k
theorem yv_d (k : Nat) : nI k + (-1) = yv k := (Int32.sub_eq_add_neg (nI k) 1).symm
theorem yv_0 : yv 0 < 0 := by decide
/-- costs known from row k on; and, in row x, from column m on -/
def yc_K (L : Nat → Int32) (sd b s : Nat) (f : Nat → Int32) (k : Nat) : Prop := ∀ x y, k ≤ x → x ≤ b → y ≤ s → f (13 * x + y) = nI (ed_D L (sc_B L sd) b s x y)
def yc_I (L : Nat → Int32) (sd b s : Nat) (f : Nat → Int32) (x m : Nat) : Prop := yc_K L sd b s f (x + 1) ∧ ∀ y, m ≤ y → y ≤ s → f (13 * x + y) = nI (ed_D L (sc_B L sd) b s x y)
section
variable {L : Nat → Int32} {sd b s : Nat}
theorem yc_put {f : Nat → Int32} {x y : Nat} (hs : s ≤ 12) (h : yc_I L sd b s f x (y + 1)) (hx : x ≤ b) (hy : y ≤ s) : yc_I L sd b s (upd f (13 * x + y) (nI (ed_D L (sc_B L sd) b s x y))) x y := by
  refine ⟨fun x' y' h1 h2 h3 => ?_, fun y' h1 h2 => ?_⟩
  · rw [pk_un (by omega)]
    exact h.1 x' y' h1 h2 h3
  · by_cases e : y' = y
    · rw [e, pk_us]
    · rw [pk_un (by omega)]
      exact h.2 y' (by omega) h2
theorem yc_row {f : Nat → Int32} {x : Nat} (h : yc_I L sd b s f x 0) : yc_K L sd b s f x := by
  intro x' y' h1 h2 h3
  by_cases e : x' = x
  · rw [e]
    exact h.2 y' (Nat.zero_le _) h3
  · exact h.1 x' y' (by omega) h2 h3
section
variable {yC yK yT yU yE yD : Int32} {bL bS bH bC bO bN bM bI bA bX bV : Nat → Int32}
theorem yc_31 {post : Int32 → SY → Prop} {J : _} {x : Nat} {x4 x5 : Int32} (hL : ∀ i, i < 36 → bL i = L i) (hb : b ≤ 12) (hs : s ≤ 12) (h1 : 1 ≤ sd) (h2 : sd ≤ 2) (hx : x ≤ b)
    (K : ∀ f, yc_K L sd b s f x → J (yv x) bL bS bH f bO bN bM bI bA bX bV) :
    ∀ m n f, m ≤ s + 1 → m < n → yc_I L sd b s f x m → wY_script_31 post J (nI sd) (nI b) (nI s) x4 x5 (nI x) yC yK yT yU yE yD n (yv m) bL bS bH f bO bN bM bI bA bX bV := by
  intro m
  induction m with
  | zero =>
    intro n f hm hn hf
    obtain ⟨n, rfl⟩ : ∃ m', n = m' + 1 := ⟨n - 1, by omega⟩
    rw [wY_script_31]
    exact br_t yv_0 (nm_r (yv_d x) (K f (yc_row hf)))
  | succ y ih =>
    intro n f hm hn hf
    obtain ⟨n, rfl⟩ : ∃ m', n = m' + 1 := ⟨n - 1, by omega⟩
    have nx := ih n (upd f (13 * x + y) (nI (ed_D L (sc_B L sd) b s x y))) (by omega) (by omega) (yc_put hs hf hx (by omega))
    have e8 : nI x * 13 + nI y = nI (13 * x + y) := ib_13 _ _
    have w8 : vp_in (nI (13 * x + y)) 169 := vp_in_nI (by omega) (by omega)
    have c8 : (nI (13 * x + y)).toNatClampNeg = 13 * x + y := nI_clamp (by omega)
    rw [wY_script_31, yv_S]
    refine br_f (nI_pos (by omega)) (nm_r e8 ?_)
    refine pk_eq x b (fun z => ?_) (fun z => ?_)
    · refine ⟨w8, nm_r (e' := upd f (13 * x + y) (nI (ed_D L (sc_B L sd) b s x y))) ?_ (nm_r (yv_d y) nx)⟩
      rw [c8, pk_sub (by omega), ed_end (by omega)]
      exact congrArg (upd f (13 * x + y)) (congrArg nI (by omega))
    · refine pk_eq y s (fun z2 => ?_) (fun z2 => ?_)
      · refine ⟨w8, nm_r (e' := upd f (13 * x + y) (nI (ed_D L (sc_B L sd) b s x y))) ?_ (nm_r (yv_d y) nx)⟩
        rw [c8, pk_sub (by omega), ed_end (by omega)]
        exact congrArg (upd f (13 * x + y)) (congrArg nI (by omega))
      · have x2 : nI sd * 12 + nI y = nI (12 * sd + y) := ib_12 _ _
        have r1 : bL (nI x).toNatClampNeg = L x := by rw [nI_clamp (by omega), hL _ (by omega)]
        have r2 : bL (nI sd * 12 + nI y).toNatClampNeg = sc_B L sd y := by
          rw [x2, nI_clamp (by omega), hL _ (by omega)]
          rfl
        refine ⟨vp_in_nI (by omega) (by omega), by rw [x2]; exact vp_in_nI (by omega) (by omega), ?_⟩
        rw [r1, r2]
        have x14 : nI (13 * x + y) + 14 = nI (13 * (x + 1) + (y + 1)) := (nI_add _ 14).trans (congrArg nI (by omega))
        have x13 : nI (13 * x + y) + 13 = nI (13 * (x + 1) + y) := (nI_add _ 13).trans (congrArg nI (by omega))
        have x1 : nI (13 * x + y) + 1 = nI (13 * x + (y + 1)) := nI_1 _
        refine br_c (fun e => ?_) (fun e => ?_)
        · refine ⟨by rw [x14]; exact vp_in_nI (by omega) (by omega), w8, nm_r (e' := upd f (13 * x + y) (nI (ed_D L (sc_B L sd) b s x y))) ?_ (nm_r (yv_d y) nx)⟩
          rw [c8, x14, nI_clamp (by omega), hf.1 (x + 1) (y + 1) (by omega) (by omega) (by omega), ed_eq (by omega) (by omega) e]
        · have v13 : f (nI (13 * x + y) + 13).toNatClampNeg = nI (ed_D L (sc_B L sd) b s (x + 1) y) := by rw [x13, nI_clamp (by omega), hf.1 (x + 1) y (by omega) (by omega) (by omega)]
          have v1 : f (nI (13 * x + y) + 1).toNatClampNeg = nI (ed_D L (sc_B L sd) b s x (y + 1)) := by rw [x1, nI_clamp (by omega), hf.2 (y + 1) (by omega) (by omega)]
          have l1 := ed_le (A := L) (B := sc_B L sd) (b := b) (s := s) (i := x + 1) (j := y) (by omega) (by omega)
          have l2 := ed_le (A := L) (B := sc_B L sd) (b := b) (s := s) (i := x) (j := y + 1) (by omega) (by omega)
          have q := ed_ne (A := L) (B := sc_B L sd) (b := b) (s := s) (i := x) (j := y) (by omega) (by omega) e
          have w13 : vp_in (nI (13 * x + y) + 13) 169 := by rw [x13]; exact vp_in_nI (by omega) (by omega)
          have w1 : vp_in (nI (13 * x + y) + 1) 169 := by rw [x1]; exact vp_in_nI (by omega) (by omega)
          refine ⟨w13, w1, pk_le (ed_D L (sc_B L sd) b s x (y + 1)) (ed_D L (sc_B L sd) b s (x + 1) y) (fun z3 => ?_) (fun z3 => ?_) v1 v13⟩
          · refine ⟨w1, w8, nm_r (e' := upd f (13 * x + y) (nI (ed_D L (sc_B L sd) b s x y))) ?_ (nm_r (yv_d y) nx)⟩
            rw [c8, v1, nI_1]
            exact congrArg (upd f (13 * x + y)) (congrArg nI (by omega))
          · refine ⟨w13, w8, nm_r (e' := upd f (13 * x + y) (nI (ed_D L (sc_B L sd) b s x y))) ?_ (nm_r (yv_d y) nx)⟩
            rw [c8, v13, nI_1]
            exact congrArg (upd f (13 * x + y)) (congrArg nI (by omega))
theorem yc_23 {post : Int32 → SY → Prop} {x4 x5 : Int32} (hL : ∀ i, i < 36 → bL i = L i) (hb : b ≤ 12) (hs : s ≤ 12) (h1 : 1 ≤ sd) (h2 : sd ≤ 2)
    (K : ∀ f, yc_K L sd b s f 0 → ∃ n, wY_script_179 post (nI sd) (nI b) (nI s) yC yK yU yE yD n x4 x5 0 bL bS bH f bO bN bM bI bA bX bV) :
    ∀ k n f, k ≤ b + 1 → k < n → yc_K L sd b s f k → wY_script_23 post (nI sd) (nI b) (nI s) x4 x5 yC yK yT yU yE yD n (yv k) bL bS bH f bO bN bM bI bA bX bV := by
  intro k
  induction k with
  | zero =>
    intro n f hk hn hf
    obtain ⟨n, rfl⟩ : ∃ m', n = m' + 1 := ⟨n - 1, by omega⟩
    rw [wY_script_23]
    exact br_t yv_0 (K f hf)
  | succ x ih =>
    intro n f hk hn hf
    obtain ⟨n, rfl⟩ : ∃ m', n = m' + 1 := ⟨n - 1, by omega⟩
    rw [wY_script_23, yv_S]
    refine br_f (nI_pos (by omega)) ⟨s + 2, ?_⟩
    have g : wY_script_31 post (wY_script_23 post (nI sd) (nI b) (nI s) x4 x5 yC yK yT yU yE yD n) (nI sd) (nI b) (nI s) x4 x5 (nI x) yC yK yT yU yE yD (s + 2) (yv (s + 1)) bL bS bH f bO bN bM bI bA bX bV := yc_31 hL hb hs h1 h2 (by omega) (fun f' hf' => ih n f' (by omega) (by omega) hf') (s + 1) (s + 2) f (Nat.le_refl _) (by omega) ⟨hf, fun y a c => by omega⟩
    rw [yv_S] at g
    exact g
theorem yw_332 {post : Int32 → SY → Prop} {J : _} {o i j t : Nat} {x2 x3 v : Int32} (ho : o = 0 ∨ o = 1 ∨ o = 2) (hT : yT = nI t) (ht : t < 24) (hi : o ≠ 2 → 12 * sd + i < 36)
    (K : J (nI (i + if o = 2 then 0 else 1)) (nI (j + if o = 1 then 0 else 1)) (nI (t + 1)) bL bS bH bC bO (upd bN t v) (if o = 2 then bM else upd bM (12 * sd + i) (if o = 0 then nI j else -6)) bI bA bX bV) :
    wY_script_332 post J (nI sd) x2 x3 (nI i) (nI j) (nI o) v (nI t) yC yK yT yU yE yD bL bS bH bC bO bN bM bI bA bX bV := by
  subst hT
  unfold wY_script_332
  refine ⟨vp_in_nI ht (by omega), nm_r (e' := upd bN t v) (by rw [nI_clamp (by omega)]) ?_⟩
  have e2 : nI sd * 12 + nI i = nI (12 * sd + i) := ib_12 _ _
  rcases ho with e | e | e
  · subst e
    rw [if_neg (by decide), if_neg (by decide), if_neg (by decide), if_pos rfl] at K
    refine br_f (by decide) (br_t rfl ?_)
    unfold wY_script_362
    refine ⟨by rw [e2]; exact vp_in_nI (hi (by decide)) (by omega), nm_r (e' := upd bM (12 * sd + i) (nI j)) (by rw [e2, nI_clamp (by omega)]) (nm_r (nI_1 i) ?_)⟩
    unfold wY_script_366
    exact br_f (by decide) (nm_r (nI_1 j) (nm_r (nI_1 t) K))
  · subst e
    rw [if_neg (by decide), if_pos rfl, if_neg (by decide), if_neg (by decide)] at K
    refine br_f (by decide) (br_f (by decide) ?_)
    unfold wY_script_362
    refine ⟨by rw [e2]; exact vp_in_nI (hi (by decide)) (by omega), nm_r (e' := upd bM (12 * sd + i) (-6)) (by rw [e2, nI_clamp (by omega)]) (nm_r (nI_1 i) ?_)⟩
    unfold wY_script_366
    exact br_t rfl (nm_r (nI_1 t) K)
  · subst e
    rw [if_pos rfl, if_neg (by decide), if_pos rfl] at K
    refine br_t rfl ?_
    unfold wY_script_366
    exact br_f (by decide) (nm_r (nI_1 j) (nm_r (nI_1 t) K))
theorem yw_283 {post : Int32 → SY → Prop} {J : _} {o i j t : Nat} {x2 x3 : Int32} (hL : ∀ i, i < 36 → bL i = L i) (h2 : sd ≤ 2) (ho : o = 0 ∨ o = 1 ∨ o = 2) (hT : yT = nI t) (ht : t < 24) (hi : o ≠ 2 → i < 12) (hj : o = 2 → j < 12)
    (K : J (nI (i + if o = 2 then 0 else 1)) (nI (j + if o = 1 then 0 else 1)) (nI (t + 1)) bL bS bH bC (upd bO t (nI o)) (upd bN t (if o = 2 then sc_B L sd j else L i)) (if o = 2 then bM else upd bM (12 * sd + i) (if o = 0 then nI j else -6)) bI bA bX bV) :
    wY_script_283 post J (nI sd) x2 x3 (nI i) (nI j) (nI o) yC yK yT yU yE yD bL bS bH bC bO bN bM bI bA bX bV := by
  subst hT
  unfold wY_script_283
  have e2 : nI sd * 12 + nI j = nI (12 * sd + j) := ib_12 _ _
  refine ⟨vp_in_nI ht (by omega), nm_r (e' := upd bO t (nI o)) (by rw [nI_clamp (by omega)]) ?_⟩
  refine pk_eq o 2 (fun z => ?_) (fun z => ?_)
  · have := hj z
    refine ⟨by rw [e2]; exact vp_in_nI (by omega) (by omega), ?_⟩
    rw [e2, nI_clamp (by omega), hL _ (by omega)]
    rw [show (if o = 2 then sc_B L sd j else L i) = L (12 * sd + j) from if_pos z] at K
    exact yw_332 ho rfl ht (fun y => absurd z y) K
  · have := hi z
    refine ⟨vp_in_nI (by omega) (by omega), ?_⟩
    rw [nI_clamp (by omega), hL _ (by omega)]
    rw [show (if o = 2 then sc_B L sd j else L i) = L i from if_neg z] at K
    exact yw_332 ho rfl ht (fun y => by omega) K
theorem yw_200 {post : Int32 → SY → Prop} {J : _} {i j t : Nat} (hL : ∀ i, i < 36 → bL i = L i) (hb : b ≤ 12) (hs : s ≤ 12) (h1 : 1 ≤ sd) (h2 : sd ≤ 2) (hC : yc_K L sd b s bC 0) (hi : i ≤ b) (hj : j ≤ s) (hij : i < b ∨ j < s) (hT : yT = nI t) (ht : t < 24)
    (K : J (nI (i + if sc_op L (sc_B L sd) b s i j = 2 then 0 else 1)) (nI (j + if sc_op L (sc_B L sd) b s i j = 1 then 0 else 1)) (nI (t + 1)) bL bS bH bC (upd bO t (nI (sc_op L (sc_B L sd) b s i j))) (upd bN t (if sc_op L (sc_B L sd) b s i j = 2 then sc_B L sd j else L i)) (if sc_op L (sc_B L sd) b s i j = 2 then bM else upd bM (12 * sd + i) (if sc_op L (sc_B L sd) b s i j = 0 then nI j else -6)) bI bA bX bV) :
    wY_script_200 post J (nI sd) (nI b) (nI s) (nI i) (nI j) yC yK yT yU yE yD bL bS bH bC bO bN bM bI bA bX bV := by
  obtain ⟨g0, g1, g2⟩ := sc_adv (A := L) (B := sc_B L sd) hi hj hij
  have go : ∀ o, sc_op L (sc_B L sd) b s i j = o → wY_script_283 post J (nI sd) (nI b) (nI s) (nI i) (nI j) (nI o) yC yK yT yU yE yD bL bS bH bC bO bN bM bI bA bX bV := by
    intro o e
    subst e
    refine yw_283 hL h2 (sc_op3 _ _) hT ht (fun z => ?_) (fun z => ?_) K
    · rcases sc_op3 (A := L) (B := sc_B L sd) (b := b) (s := s) i j with y | y | y
      · have := (g0 y).1; omega
      · have := g1 y; omega
      · exact absurd y z
    · have := g2 z; omega
  have g238 : ¬ (i < b ∧ j < s ∧ L i = sc_B L sd j) → wY_script_238 post J (nI sd) (nI b) (nI s) (nI i) (nI j) yC yK yT yU yE yD bL bS bH bC bO bN bM bI bA bX bV := by
    intro hn
    unfold wY_script_238 wY_script_282
    refine pk_le b i (fun z => go 2 (sc_op_b (by omega))) (fun z => ?_)
    have x1 : nI i * 13 + 13 + nI j = nI (13 * (i + 1) + j) := by
      rw [show (13 : Int32) = nI 13 from rfl, pk_mul, nI_add, nI_add]
      exact congrArg nI (by omega)
    have x0 : nI i * 13 + nI j = nI (13 * i + j) := ib_13 _ _
    have v1 : bC (nI i * 13 + 13 + nI j).toNatClampNeg = nI (ed_D L (sc_B L sd) b s (i + 1) j) := by rw [x1, nI_clamp (by omega), hC (i + 1) j (by omega) (by omega) hj]
    have v0 : bC (nI i * 13 + nI j).toNatClampNeg = nI (ed_D L (sc_B L sd) b s i j) := by rw [x0, nI_clamp (by omega), hC i j (by omega) (by omega) hj]
    have l1 := ed_le (A := L) (B := sc_B L sd) (b := b) (s := s) (i := i + 1) (j := j) (by omega) hj
    have l2 := ed_le (A := L) (B := sc_B L sd) (b := b) (s := s) (i := i) (j := j) hi hj
    refine ⟨by rw [x1]; exact vp_in_nI (by omega) (by omega), by rw [x0]; exact vp_in_nI (by omega) (by omega), pk_eq (ed_D L (sc_B L sd) b s (i + 1) j + 1) (ed_D L (sc_B L sd) b s i j) (fun z2 => go 1 ?_) (fun z2 => go 2 (sc_op_n hn (fun y => z2 y.2))) (by rw [v1, nI_1]) v0⟩
    by_cases k : j < s
    · exact sc_op_d z k (fun e => hn ⟨z, k, e⟩) z2
    · exact sc_op_s z k
  unfold wY_script_200
  refine pk_le b i (fun z => g238 (fun y => by omega)) (fun z => pk_le s j (fun z2 => g238 (fun y => by omega)) (fun z2 => ?_))
  have x2 : nI sd * 12 + nI j = nI (12 * sd + j) := ib_12 _ _
  have r1 : bL (nI i).toNatClampNeg = L i := by rw [nI_clamp (by omega), hL _ (by omega)]
  have r2 : bL (nI sd * 12 + nI j).toNatClampNeg = sc_B L sd j := by
    rw [x2, nI_clamp (by omega), hL _ (by omega)]
    rfl
  refine ⟨vp_in_nI (by omega) (by omega), by rw [x2]; exact vp_in_nI (by omega) (by omega), ?_⟩
  rw [r1, r2]
  exact br_c (fun e => go 0 (sc_op_k z z2 e)) (fun e => g238 (fun y => e y.2.2))
end
/-- the arrays after t steps -/
def yw_I (L : Nat → Int32) (sd b s t : Nat) (fM0 fO fN fM : Nat → Int32) : Prop :=
  (∀ u, u < t → fO u = nI (sc_o L (sc_B L sd) b s u) ∧ fN u = sc_l L (sc_B L sd) b s u) ∧
  (∀ u, u < t → ¬ sc_o L (sc_B L sd) b s u = 2 → fM (12 * sd + sc_i L (sc_B L sd) b s u) = sc_v L (sc_B L sd) b s u) ∧ (∀ j, j < 12 * sd ∨ 12 * sd + 12 ≤ j → fM j = fM0 j)
theorem yw_IS {t : Nat} {fM0 fO fN fM : Nat → Int32} (hb : b ≤ 12) (ht : t < sc_n L (sc_B L sd) b s) (h : yw_I L sd b s t fM0 fO fN fM) :
    yw_I L sd b s (t + 1) fM0 (upd fO t (nI (sc_o L (sc_B L sd) b s t))) (upd fN t (sc_l L (sc_B L sd) b s t)) (if sc_o L (sc_B L sd) b s t = 2 then fM else upd fM (12 * sd + sc_i L (sc_B L sd) b s t) (sc_v L (sc_B L sd) b s t)) := by
  obtain ⟨k1, k2, k3⟩ := h
  obtain ⟨g0, g1, g2⟩ := sc_at ht
  refine ⟨fun u hu => ?_, fun u hu ho => ?_, fun j hj => ?_⟩
  · by_cases e : u = t
    · rw [e, pk_us, pk_us]
      exact ⟨rfl, rfl⟩
    · rw [pk_un e, pk_un e]
      exact k1 u (by omega)
  · by_cases e : u = t
    · subst e
      rw [if_neg ho, pk_us]
    · have q := sc_ine (A := L) (B := sc_B L sd) (b := b) (s := s) (t := t) (u := u) (by omega) ho
      by_cases z : sc_o L (sc_B L sd) b s t = 2
      · rw [if_pos z]
        exact k2 u (by omega) ho
      · rw [if_neg z, pk_un (by omega)]
        exact k2 u (by omega) ho
  · by_cases z : sc_o L (sc_B L sd) b s t = 2
    · rw [if_pos z]
      exact k3 j hj
    · have : sc_i L (sc_B L sd) b s t < b := by
        rcases sc_o3 (A := L) (B := sc_B L sd) (b := b) (s := s) t with y | y | y
        · exact (g0 y).1
        · exact g1 y
        · exact absurd y z
      rw [if_neg z, pk_un (by omega)]
      exact k3 j hj
section
variable {yC yK yT yU yE yD : Int32} {bL bS bH bC bO bN bM bI bA bX bV : Nat → Int32}
theorem yw_179 {post : Int32 → SY → Prop} {fM0 : Nat → Int32} (hL : ∀ i, i < 36 → bL i = L i) (hb : b ≤ 12) (hs : s ≤ 12) (h1 : 1 ≤ sd) (h2 : sd ≤ 2) (hC : yc_K L sd b s bC 0)
    (K : ∀ fO fN fM, yw_I L sd b s (sc_n L (sc_B L sd) b s) fM0 fO fN fM → post (nI (ed_D L (sc_B L sd) b s 0 0)) (yC, yK, nI (sc_n L (sc_B L sd) b s), yU, yE, yD, bL, bS, bH, bC, fO, fN, fM, bI, bA, bX, bV)) :
    ∀ k t n fO fN fM, t + k = sc_n L (sc_B L sd) b s → k < n → yw_I L sd b s t fM0 fO fN fM →
    wY_script_179 post (nI sd) (nI b) (nI s) yC yK yU yE yD n (nI (sc_i L (sc_B L sd) b s t)) (nI (sc_j L (sc_B L sd) b s t)) (nI t) bL bS bH bC fO fN fM bI bA bX bV := by
  have hN := sc_nE (A := L) (B := sc_B L sd) (b := b) (s := s)
  have c0 : bC 0 = nI (ed_D L (sc_B L sd) b s 0 0) := hC 0 0 (Nat.le_refl _) (Nat.zero_le _) (Nat.zero_le _)
  intro k
  induction k with
  | zero =>
    intro t n fO fN fM htk hn hI
    obtain ⟨n, rfl⟩ : ∃ m, n = m + 1 := ⟨n - 1, by omega⟩
    have et : t = sc_n L (sc_B L sd) b s := by omega
    subst et
    rw [wY_script_179, hN.2.1, hN.2.2]
    have K' := K fO fN fM hI
    rw [← c0] at K'
    exact pk_le 24 (sc_n L (sc_B L sd) b s) (fun _ => K') (fun _ => br_f (nI_nlt (Nat.le_refl _) (by omega)) (br_t (nI_le (Nat.le_refl _) (by omega)) K'))
  | succ k ih =>
    intro t n fO fN fM htk hn hI
    obtain ⟨n, rfl⟩ : ∃ m, n = m + 1 := ⟨n - 1, by omega⟩
    have ht : t < sc_n L (sc_B L sd) b s := by omega
    obtain ⟨hi, hj⟩ := sc_in (A := L) (B := sc_B L sd) (b := b) (s := s) (t := t) (by omega)
    have hij := sc_lt ht
    have nx := ih (t + 1) n _ _ _ (by omega) (by omega) (yw_IS hb ht hI)
    rw [sc_iS, sc_jS] at nx
    have body : wY_script_200 post (wY_script_179 post (nI sd) (nI b) (nI s) yC yK yU yE yD n) (nI sd) (nI b) (nI s) (nI (sc_i L (sc_B L sd) b s t)) (nI (sc_j L (sc_B L sd) b s t)) yC yK (nI t) yU yE yD bL bS bH bC fO fN fM bI bA bX bV := yw_200 hL hb hs h1 h2 hC hi hj hij rfl (by omega) nx
    rw [wY_script_179]
    refine br_f (nI_ge (b := 24) (by omega) (by decide)) ?_
    exact pk_lt (sc_i L (sc_B L sd) b s t) b (fun _ => body) (fun z => br_f (nI_ge (by omega) (by omega)) body)
theorem yw_script {post : Int32 → SY → Prop} (hL : ∀ i, i < 36 → bL i = L i) (hb : b ≤ 12) (hs : s ≤ 12) (h1 : 1 ≤ sd) (h2 : sd ≤ 2) (h0 : bS 0 = nI b) (hS : bS sd = nI s)
    (K : ∀ fC fO fN fM, (∀ u, u < sc_n L (sc_B L sd) b s → fO u = nI (sc_o L (sc_B L sd) b s u) ∧ fN u = sc_l L (sc_B L sd) b s u) → (∀ i, i < b → fM (12 * sd + i) = sc_m L (sc_B L sd) b s i) → (∀ j, j < 12 * sd ∨ 12 * sd + 12 ≤ j → fM j = bM j) →
      post (nI (ed_D L (sc_B L sd) b s 0 0)) (yC, yK, nI (sc_n L (sc_B L sd) b s), yU, yE, yD, bL, bS, bH, fC, fO, fN, fM, bI, bA, bX, bV)) :
    wpY_script post (yC, yK, yT, yU, yE, yD, bL, bS, bH, bC, bO, bN, bM, bI, bA, bX, bV) (nI sd) := by
  unfold wpY_script
  refine nm_r h0 ⟨vp_in_nI (by omega) (by omega), nm_r (e' := nI s) (by rw [nI_clamp (by omega), hS]) ⟨b + 2, ?_⟩⟩
  have g : wY_script_23 post (nI sd) (nI b) (nI s) 0 0 yC yK yT yU yE yD (b + 2) (yv (b + 1)) bL bS bH bC bO bN bM bI bA bX bV := yc_23 hL hb hs h1 h2 (fun fC hC => ⟨_, yw_179 (post := post) (fM0 := bM) hL hb hs h1 h2 hC (fun fO fN fM hI => K fC fO fN fM hI.1 (sc_mAll (f := fun i => fM (12 * sd + i)) hI.2.1) hI.2.2) (sc_n L (sc_B L sd) b s) 0 (sc_n L (sc_B L sd) b s + 1) bO bN bM (by omega) (by omega) ⟨fun u h => by omega, fun u h => by omega, fun _ _ => rfl⟩⟩) (b + 1) (b + 2) bC (Nat.le_refl _) (by omega) (fun x y a c => by omega)
  rw [yv_S] at g
  exact g
end
end
end
section
/-! Y: shown, begins, add, the patch -/
section
variable {yC yK yT yU yE yD : Int32} {bL bS bH bC bO bN bM bI bA bX bV : Nat → Int32}
variable {O I J : Nat → Nat} {l : Nat → Int32} {N x : Nat}
theorem ys_2 {post : Int32 → Prop} {t : Nat} (hN : N ≤ 24) (hx : x ≤ 3) (ht : t < 24) (hT : yT = nI N) (hK : yK = nI x) (hO3 : ∀ u, O u = 0 ∨ O u = 1 ∨ O u = 2) (hO : ∀ u, u < N → bO u = nI (O u))
    (K1 : sh_s O N x t = true → post 1) (K0 : sh_s O N x t = false → post 0) :
    ∀ k u n, u + k = N → k < n → (∀ v, v < u → ¬ (O v ≠ 0 ∧ t ≤ v + x ∧ v ≤ t + x)) → wY_shown_2 post (nI t) yC yK yT yU yE yD bL bS bH bC bO bN bM bI bA bX bV n (nI u) := by
  subst hT hK
  intro k
  induction k with
  | zero =>
    intro u n hk hn hv
    obtain ⟨n, rfl⟩ : ∃ m, n = m + 1 := ⟨n - 1, by omega⟩
    rw [wY_shown_2]
    refine br_t (nI_le (by omega) (by omega)) (K0 ?_)
    cases e : sh_s O N x t
    · rfl
    · obtain ⟨v, a1, a2⟩ := sh_iff.mp e
      exact absurd a2 (hv v (by omega))
  | succ k ih =>
    intro u n hk hn hv
    obtain ⟨n, rfl⟩ : ∃ m, n = m + 1 := ⟨n - 1, by omega⟩
    have nx : ¬ (O u ≠ 0 ∧ t ≤ u + x ∧ u ≤ t + x) → wY_shown_2 post (nI t) yC (nI x) (nI N) yU yE yD bL bS bH bC bO bN bM bI bA bX bV n (nI (u + 1)) := fun h => ih (u + 1) n (by omega) (by omega) (fun v hv' => by
      by_cases e : v = u
      · rw [e]; exact h
      · exact hv v (by omega))
    have o3 := hO3 u
    have tt : (nI t - nI x).toInt = (t : Int) - x := pk_sub_toInt (by omega) (by omega)
    rw [wY_shown_2]
    refine br_f (nI_ge (by omega) (by omega)) ⟨vp_in_nI (by omega) (by omega), pk_eq (O u) 0 (fun z => nm_r (nI_1 u) (nx (fun y => y.1 z))) (fun z => ?_) (by rw [nI_clamp (by omega), hO u (by omega)])⟩
    refine br_c (fun y => nm_r (nI_1 u) (nx (fun q => ?_))) (fun y => ?_)
    · rw [Int32.lt_iff_toInt_lt, tt, nI_toInt (by omega)] at y
      omega
    · rw [Int32.lt_iff_toInt_lt, tt, nI_toInt (by omega)] at y
      rw [nI_add]
      exact pk_lt (t + x) u (fun q => nm_r (nI_1 u) (nx (fun q2 => by omega))) (fun q => K1 (sh_iff.mpr ⟨u, by omega, z, by omega, q⟩))
theorem ys_shown {post : Int32 → Prop} {t : Nat} (hN : N ≤ 24) (hx : x ≤ 3) (ht : t < 24) (hT : yT = nI N) (hK : yK = nI x) (hO3 : ∀ u, O u = 0 ∨ O u = 1 ∨ O u = 2) (hO : ∀ u, u < N → bO u = nI (O u))
    (K1 : sh_s O N x t = true → post 1) (K0 : sh_s O N x t = false → post 0) : wpY_shown post (yC, yK, yT, yU, yE, yD, bL, bS, bH, bC, bO, bN, bM, bI, bA, bX, bV) (nI t) := by
  unfold wpY_shown
  exact ⟨N + 1, ys_2 hN hx ht hT hK hO3 hO K1 K0 N 0 (N + 1) (by omega) (by omega) (fun v h => by omega)⟩
theorem ys_begins {post : Int32 → Prop} {t : Nat} (hN : N ≤ 24) (hx : x ≤ 3) (ht : t < 24) (hT : yT = nI N) (hK : yK = nI x) (hO3 : ∀ u, O u = 0 ∨ O u = 1 ∨ O u = 2) (hO : ∀ u, u < N → bO u = nI (O u))
    (K1 : sh_b (sh_s O N x) t = true → post 1) (K0 : ¬ sh_b (sh_s O N x) t = true → post 0) : wpY_begins post (yC, yK, yT, yU, yE, yD, bL, bS, bH, bC, bO, bN, bM, bI, bA, bX, bV) (nI t) := by
  unfold wpY_begins
  refine ys_shown hN hx ht hT hK hO3 hO (fun h => br_f (by decide) ?_) (fun h => br_t rfl (K0 (sh_b0 h)))
  refine pk_eq t 0 (fun z => K1 (sh_bI h (Or.inl z))) (fun z => ?_)
  obtain ⟨t, rfl⟩ : ∃ t', t = t' + 1 := ⟨t - 1, by omega⟩
  rw [nI_pred]
  refine ys_shown hN hx (by omega) hT hK hO3 hO (fun h2 => br_f (by decide) (K0 (fun y => ?_))) (fun h2 => br_t rfl (K1 (sh_bI h (Or.inr h2))))
  rcases (sh_bS y).2 with q | q
  · omega
  · rw [Nat.add_sub_cancel, h2] at q
    cases q
theorem ya_add {post : SY → Prop} {n : Nat} {v : Int32} (hE : yE = nI n) (hn : n < 200) (K : post (yC, yK, yT, yU, nI (n + 1), yD, bL, bS, bH, bC, bO, bN, bM, bI, bA, bX, upd bV n v)) : wpY_add post (yC, yK, yT, yU, yE, yD, bL, bS, bH, bC, bO, bN, bM, bI, bA, bX, bV) v := by
  subst hE
  unfold wpY_add
  exact br_f (nI_ge (b := 200) hn (by decide)) ⟨vp_in_nI hn (by omega), nm_r (e' := upd bV n v) (by rw [nI_clamp (by omega)]) (nm_r (nI_1 n) K)⟩
theorem yp_168 {post : Int32 → SY → Prop} {Jn : _} {i j t o : Nat} {x4 : Int32} (ht : t < 24) (ho : o = 0 ∨ o = 1 ∨ o = 2) (hO : bO t = nI o)
    (K : Jn (nI (i + if o = 2 then 0 else 1)) (nI (j + if o = 1 then 0 else 1)) x4 (nI (t + 1)) yC yK yT yU yE yD bL bS bH bC bO bN bM bI bA bX bV) : wY_patch_168 post Jn (nI i) (nI j) x4 (nI t) yC yK yT yU yE yD bL bS bH bC bO bN bM bI bA bX bV := by
  have r : bO (nI t).toNatClampNeg = nI o := by rw [nI_clamp (by omega), hO]
  have w : vp_in (nI t) 24 := vp_in_nI ht (by omega)
  unfold wY_patch_168 wY_patch_182
  rw [r]
  rcases ho with e | e | e
  · subst e
    rw [if_neg (by decide), if_neg (by decide)] at K
    exact ⟨w, br_f (by decide) (nm_r (nI_1 i) ⟨w, br_f (by decide) (nm_r (nI_1 j) (nm_r (nI_1 t) K))⟩)⟩
  · subst e
    rw [if_neg (by decide), if_pos rfl] at K
    exact ⟨w, br_f (by decide) (nm_r (nI_1 i) ⟨w, br_t rfl (nm_r (nI_1 t) K)⟩)⟩
  · subst e
    rw [if_pos rfl, if_neg (by decide)] at K
    exact ⟨w, br_t rfl ⟨w, br_f (by decide) (nm_r (nI_1 j) (nm_r (nI_1 t) K))⟩⟩
theorem yp_71 {post : Int32 → SY → Prop} {Jn : _} {i j t n h : Nat} (hN : N ≤ 24) (hx : x ≤ 3) (ht : t < N) (hT : yT = nI N) (hK : yK = nI x) (hO3 : ∀ u, O u = 0 ∨ O u = 1 ∨ O u = 2) (hO : ∀ u, u < N → bO u = nI (O u)) (hl : ∀ u, u < N → bN u = l u) (hE : yE = nI n) (hn : n + 2 ≤ 200) (hh : h + 4 < n)
    (hs : sh_s O N x t = true)
    (K : Jn (nI (i + if O t = 2 then 0 else 1)) (nI (j + if O t = 1 then 0 else 1)) (nI h) (nI (t + 1)) yC yK yT yU (nI (n + 2)) yD bL bS bH bC bO bN bM bI bA bX (pt_add bV n h (O t) (l t))) : wY_patch_71 post Jn (nI i) (nI j) (nI h) (nI t) yC yK yT yU yE yD bL bS bH bC bO bN bM bI bA bX bV := by
  have w : vp_in (nI t) 24 := vp_in_nI (by omega) (by omega)
  have ct : (nI t).toNatClampNeg = t := nI_clamp (by omega)
  have o3 := hO3 t
  have g135 : ∀ f, Jn (nI (i + if O t = 2 then 0 else 1)) (nI (j + if O t = 1 then 0 else 1)) (nI h) (nI (t + 1)) yC yK yT yU (nI (n + 2)) yD bL bS bH bC bO bN bM bI bA bX (if O t = 1 then f else pt_inc f (h + 4)) → wY_patch_135 post Jn (nI i) (nI j) (nI h) (nI t) yC yK yT yU (nI (n + 2)) yD bL bS bH bC bO bN bM bI bA bX f := by
    intro f hf
    unfold wY_patch_135
    refine ys_shown hN hx (by omega) hT hK hO3 hO (fun _ => br_f (by decide) ⟨w, ?_⟩) (fun z => by rw [hs] at z; cases z)
    rw [ct, hO t ht]
    refine pk_eq (O t) 1 (fun z => ?_) (fun z => ?_)
    · rw [show (if O t = 1 then f else pt_inc f (h + 4)) = f from if_pos z] at hf
      exact yp_168 (by omega) o3 (hO t ht) hf
    · rw [show (if O t = 1 then f else pt_inc f (h + 4)) = pt_inc f (h + 4) from if_neg z] at hf
      have e4 : nI h + 4 = nI (h + 4) := nI_add _ 4
      have i4 : vp_in (nI h + 4) 200 := by rw [e4]; exact vp_in_nI (by omega) (by omega)
      exact ⟨i4, i4, nm_r (e' := pt_inc f (h + 4)) (by rw [e4, nI_clamp (by omega)]; rfl) (yp_168 (by omega) o3 (hO t ht) hf)⟩
  have g102 : ∀ f, Jn (nI (i + if O t = 2 then 0 else 1)) (nI (j + if O t = 1 then 0 else 1)) (nI h) (nI (t + 1)) yC yK yT yU (nI (n + 2)) yD bL bS bH bC bO bN bM bI bA bX (if O t = 1 then (if O t = 2 then f else pt_inc f (h + 2)) else pt_inc (if O t = 2 then f else pt_inc f (h + 2)) (h + 4)) → wY_patch_102 post Jn (nI i) (nI j) (nI h) (nI t) yC yK yT yU (nI (n + 2)) yD bL bS bH bC bO bN bM bI bA bX f := by
    intro f hf
    unfold wY_patch_102
    refine ys_shown hN hx (by omega) hT hK hO3 hO (fun _ => br_f (by decide) ⟨w, ?_⟩) (fun z => by rw [hs] at z; cases z)
    rw [ct, hO t ht]
    refine pk_eq (O t) 2 (fun z => ?_) (fun z => ?_)
    · rw [show (if O t = 2 then f else pt_inc f (h + 2)) = f from if_pos z] at hf
      exact g135 f hf
    · rw [show (if O t = 2 then f else pt_inc f (h + 2)) = pt_inc f (h + 2) from if_neg z] at hf
      have e2 : nI h + 2 = nI (h + 2) := nI_add _ 2
      have i2 : vp_in (nI h + 2) 200 := by rw [e2]; exact vp_in_nI (by omega) (by omega)
      exact ⟨i2, i2, nm_r (e' := pt_inc f (h + 2)) (by rw [e2, nI_clamp (by omega)]; rfl) (g135 _ hf)⟩
  unfold wY_patch_71
  refine ys_shown hN hx (by omega) hT hK hO3 hO (fun _ => br_f (by decide) ⟨w, ?_⟩) (fun z => by rw [hs] at z; cases z)
  rw [ct, hO t ht]
  refine ya_add hE (by omega) ⟨w, ?_⟩
  rw [hl t ht]
  refine ya_add rfl (by omega) ?_
  exact g102 (pt_2 bV n (nI (O t)) (l t)) K
theorem yp_71n {post : Int32 → SY → Prop} {Jn : _} {i j t : Nat} {x4 : Int32} (hN : N ≤ 24) (hx : x ≤ 3) (ht : t < N) (hT : yT = nI N) (hK : yK = nI x) (hO3 : ∀ u, O u = 0 ∨ O u = 1 ∨ O u = 2) (hO : ∀ u, u < N → bO u = nI (O u))
    (hs : sh_s O N x t = false)
    (K : Jn (nI (i + if O t = 2 then 0 else 1)) (nI (j + if O t = 1 then 0 else 1)) x4 (nI (t + 1)) yC yK yT yU yE yD bL bS bH bC bO bN bM bI bA bX bV) : wY_patch_71 post Jn (nI i) (nI j) x4 (nI t) yC yK yT yU yE yD bL bS bH bC bO bN bM bI bA bX bV := by
  have g : wY_patch_168 post Jn (nI i) (nI j) x4 (nI t) yC yK yT yU yE yD bL bS bH bC bO bN bM bI bA bX bV := yp_168 (by omega) (hO3 t) (hO t ht) K
  unfold wY_patch_71
  refine ys_shown hN hx (by omega) hT hK hO3 hO (fun z => by rw [hs] at z; cases z) (fun _ => br_t rfl ?_)
  unfold wY_patch_102
  refine ys_shown hN hx (by omega) hT hK hO3 hO (fun z => by rw [hs] at z; cases z) (fun _ => br_t rfl ?_)
  unfold wY_patch_135
  exact ys_shown hN hx (by omega) hT hK hO3 hO (fun z => by rw [hs] at z; cases z) (fun _ => br_t rfl g)
theorem yp_21 {post : Int32 → SY → Prop} (hN : N ≤ 24) (hx : x ≤ 3) (hT : yT = nI N) (hK : yK = nI x) (hO3 : ∀ u, O u = 0 ∨ O u = 1 ∨ O u = 2) (hO : ∀ u, u < N → bO u = nI (O u)) (hl : ∀ u, u < N → bN u = l u)
    (hI : ∀ u, I (u + 1) = I u + (if O u = 2 then 0 else 1)) (hJ : ∀ u, J (u + 1) = J u + (if O u = 1 then 0 else 1))
    (K : ∀ f, pt_ag f (pt_G (sh_s O N x) O I J l N) 0 (pt_n (sh_s O N x) N) → post (nI (pt_n (sh_s O N x) N)) (yC, yK, yT, yU, nI (pt_n (sh_s O N x) N), yD, bL, bS, bH, bC, bO, bN, bM, bI, bA, bX, f)) :
    ∀ k t n f, t + k = N → k < n → pt_ag f (pt_G (sh_s O N x) O I J l t) 0 (pt_n (sh_s O N x) t) →
    wY_patch_21 post n (nI (I t)) (nI (J t)) (nI (pt_n (sh_s O N x) (pt_hs (sh_s O N x) t))) (nI t) yC yK yT yU (nI (pt_n (sh_s O N x) t)) yD bL bS bH bC bO bN bM bI bA bX f := by
  subst hT
  intro k
  induction k with
  | zero =>
    intro t n f hk hn hf
    obtain ⟨n, rfl⟩ : ∃ m, n = m + 1 := ⟨n - 1, by omega⟩
    have e : t = N := by omega
    subst e
    rw [wY_patch_21]
    exact br_t (nI_le (Nat.le_refl _) (by omega)) (K f hf)
  | succ k ih =>
    intro t n f hk hn hf
    obtain ⟨n, rfl⟩ : ∃ m, n = m + 1 := ⟨n - 1, by omega⟩
    have few := pt_few (S := sh_s O N x) (t := t) (by omega)
    have nx := fun f' => ih (t + 1) n f' (by omega) (by omega)
    rw [hI, hJ] at nx
    rw [wY_patch_21]
    refine br_f (nI_ge (by omega) (by omega)) (ys_begins hN hx (by omega) rfl hK hO3 hO (fun hb => br_f (by decide) ?_) (fun hb => br_t rfl ?_))
    · have hs := (sh_bS hb).1
      rw [pt_nc hs, pt_c5 hb, pt_hsS, if_pos hb, pt_G, if_pos hs, pt_hsS, if_pos hb, pt_c5 hb] at nx
      unfold pt_G1 at nx
      rw [if_pos hb] at nx
      refine ya_add rfl (by omega) (ya_add rfl (by omega) (ya_add rfl (by omega) (ya_add rfl (by omega) (ya_add rfl (by omega) ?_))))
      refine yp_71 (n := pt_n (sh_s O N x) t + 5) hN hx (by omega) rfl hK hO3 hO hl rfl (by omega) (by omega) hs (nx _ ?_)
      have q := pt_agadd (k := pt_n (sh_s O N x) t) (o := O t) (l := l t) (pt_agopen (p := nI (I t)) (q := nI (J t)) hf) (by omega)
      rw [Nat.zero_add, Nat.zero_add] at q
      exact q
    · by_cases hs : sh_s O N x t = true
      · obtain ⟨q1, q2⟩ := sh_bN hb hs
        obtain ⟨c1, c2, c3, c4⟩ := pt_cur (S := sh_s O N x) t q1 q2
        have af := pt_after (S := sh_s O N x) c2 (sh_bS c1).1
        rw [pt_c5 c1] at af
        rw [pt_nc hs, pt_c0 hb, pt_hsS, if_neg hb, pt_G, if_pos hs, pt_hsS, if_neg hb, pt_c0 hb] at nx
        unfold pt_G1 at nx
        rw [if_neg hb] at nx
        refine yp_71 (n := pt_n (sh_s O N x) t) hN hx (by omega) rfl hK hO3 hO hl rfl (by omega) (by omega) hs (nx _ ?_)
        have q := pt_agadd (k := pt_n (sh_s O N x) (pt_hs (sh_s O N x) t)) (o := O t) (l := l t) hf (by omega)
        rw [Nat.zero_add, Nat.zero_add] at q
        exact q
      · have hs : sh_s O N x t = false := by
          cases e : sh_s O N x t
          · rfl
          · exact absurd e hs
        rw [pt_n0 hs, pt_hsS, if_neg hb, pt_G, if_neg (by rw [hs]; decide)] at nx
        unfold pt_G1 at nx
        rw [if_neg hb] at nx
        exact yp_71n hN hx (by omega) rfl hK hO3 hO hs (nx f hf)
end
section
variable {yC yK yT yU yE yD : Int32} {bL bS bH bC bO bN bM bI bA bX bV : Nat → Int32}
variable {L : Nat → Int32} {b s sd x : Nat}
theorem yp_patch {post : Int32 → SY → Prop} (hL : ∀ i, i < 36 → bL i = L i) (hb : b ≤ 12) (hs : s ≤ 12) (h1 : 1 ≤ sd) (h2 : sd ≤ 2) (h0 : bS 0 = nI b) (hS : bS sd = nI s) (hx : x ≤ 3) (hK : yK = nI x)
    (K : ∀ fC fO fN fM fV, pt_ag fV (zz_G L sd b s x) 0 (pt_n (zz_S L sd b s x) (zz_N L sd b s)) →
      post (nI (pt_n (zz_S L sd b s x) (zz_N L sd b s))) (yC, yK, nI (zz_N L sd b s), yU, nI (pt_n (zz_S L sd b s x) (zz_N L sd b s)), yD, bL, bS, bH, fC, fO, fN, fM, bI, bA, bX, fV)) :
    wpY_patch post (yC, yK, yT, yU, yE, yD, bL, bS, bH, bC, bO, bN, bM, bI, bA, bX, bV) (nI sd) := by
  have hN := sc_nE (A := L) (B := sc_B L sd) (b := b) (s := s)
  unfold wpY_patch
  refine yw_script hL hb hs h1 h2 h0 hS (fun fC fO fN fM g1 g2 g3 => ⟨sc_n L (sc_B L sd) b s + 1, ?_⟩)
  exact yp_21 (O := sc_o L (sc_B L sd) b s) (I := sc_i L (sc_B L sd) b s) (J := sc_j L (sc_B L sd) b s) (l := sc_l L (sc_B L sd) b s) (N := sc_n L (sc_B L sd) b s) (x := x) (by omega) hx rfl hK sc_o3 (fun u hu => (g1 u hu).1) (fun u hu => (g1 u hu).2) sc_iS sc_jS (K fC fO fN fM) (sc_n L (sc_B L sd) b s) 0 (sc_n L (sc_B L sd) b s + 1) bV (by omega) (by omega) (fun i h => absurd h (Nat.not_lt_zero _))
end
end
section
/-! Y: the chunks -/
theorem yv_1 (k : Nat) : yv k + 1 = nI k := by
  unfold yv
  rw [Int32.sub_add_cancel]
theorem yv_T {k : Nat} (h : k ≤ 1000) : (yv k).toInt = (k : Int) - 1 := pk_sub_toInt (b := 1) (by omega) (by omega)
theorem yv_gap {u X : Nat} (h : X ≤ u) (hu : u ≤ 1000) : nI u - yv X - 1 = nI (u - X) := by
  refine ib_ofT ?_ (by omega)
  have t1 : (nI u - yv X).toInt = (u : Int) - ((X : Int) - 1) := by
    rw [ib_subT (by rw [nI_toInt (by omega)]; omega) (by rw [yv_T (by omega)]; omega), nI_toInt (by omega), yv_T (by omega)]
  rw [ib_subT (by rw [t1]; omega) (by decide), t1, show (1 : Int32).toInt = 1 from by decide]
  omega
def yk_A (a : Nat → Int32) (T : Nat → Nat → Nat) (c : Nat) : Prop := ∀ c', c' < c → ∀ f, f < 7 → a (8 * c' + f) = nI (T c' f)
theorem yk_put {a a' : Nat → Int32} {T : Nat → Nat → Nat} {c : Nat} {ro : Nat → Nat} (h : yk_A a T c) (h1 : ∀ f, f < 7 → a' (8 * c + f) = nI (ro f)) (h3 : ∀ j, j < 8 * c → a' j = a j) : yk_A a' (ck_put T c ro) (c + 1) := by
  intro c' hc' f hf
  by_cases e : c' = c
  · subst e
    rw [ck_puts]
    exact h1 f hf
  · rw [ck_putn e, h3 _ (by omega)]
    exact h c' (by omega) f hf
section
variable {yC yK yT yU yE yD : Int32} {bL bS bH bC bO bN bM bI bA bX bV : Nat → Int32}
variable {L : Nat → Int32}
theorem yk_seg {post : SY → Prop} {c t : Nat} {p q : Int32} (hU : yU = nI c) (hc : c < 26) (ht : t < 3) (K : post (yC, yK, yT, yU, yE, yD, bL, bS, bH, bC, bO, bN, bM, upd (upd bI (8 * c + (1 + 2 * t)) p) (8 * c + (2 + 2 * t)) q, bA, bX, bV)) : wpY_segment post (yC, yK, yT, yU, yE, yD, bL, bS, bH, bC, bO, bN, bM, bI, bA, bX, bV) (nI t) p q := by
  subst hU
  have x1 : nI c * 8 + 1 + 2 * nI t = nI (8 * c + (1 + 2 * t)) := by rw [ib_m8, nI_1, ib_2m, nI_add, Nat.add_assoc]
  have x2 : nI c * 8 + 2 + 2 * nI t = nI (8 * c + (2 + 2 * t)) := by
    rw [ib_m8, ib_2m, show (2 : Int32) = nI 2 from rfl, nI_add, nI_add, Nat.add_assoc]
  unfold wpY_segment
  exact ⟨by rw [x1]; exact vp_in_nI (by omega) (by omega), nm_r (e' := upd bI (8 * c + (1 + 2 * t)) p) (by rw [x1, nI_clamp (by omega)]) ⟨by rw [x2]; exact vp_in_nI (by omega) (by omega), nm_r (e' := upd (upd bI (8 * c + (1 + 2 * t)) p) (8 * c + (2 + 2 * t)) q) (by rw [x2, nI_clamp (by omega)]) K⟩⟩
theorem yk_same54 {post : Int32 → Prop} {on ot i1 i2 x1 x2 n : Nat} (hL : ∀ i, i < 36 → bL i = L i) (hon : on ≤ 2) (hot : ot ≤ 2) (hi1 : i1 + 1 < 208) (hi2 : i2 < 208) (h1 : x1 + n ≤ 12) (h2 : x2 + n ≤ 12)
    (e1 : bI i1 = nI x1) (e2 : bI (i1 + 1) = nI n) (e3 : bI i2 = nI x2)
    (K1 : (∀ k, k < n → L (12 * on + x1 + k) = L (12 * ot + x2 + k)) → post 1) (K0 : (∃ k, k < n ∧ ¬ L (12 * on + x1 + k) = L (12 * ot + x2 + k)) → post 0) :
    ∀ d k m, k + d = n → d < m → (∀ k', k' < k → L (12 * on + x1 + k') = L (12 * ot + x2 + k')) → wY_same_54 post (nI on) (nI ot) (nI i1) (nI i2) yC yK yT yU yE yD bL bS bH bC bO bN bM bI bA bX bV m (nI k) := by
  have w1 : vp_in (nI i1 + 1) 208 := by rw [nI_1]; exact vp_in_nI hi1 (by omega)
  have r1 : bI (nI i1 + 1).toNatClampNeg = nI n := by rw [nI_1, nI_clamp (by omega), e2]
  intro d
  induction d with
  | zero =>
    intro k m hk hm h
    obtain ⟨m, rfl⟩ : ∃ m', m = m' + 1 := ⟨m - 1, by omega⟩
    rw [wY_same_54]
    exact ⟨w1, br_t (by rw [r1]; exact nI_le (by omega) (by omega)) (K1 (fun k' hk' => h k' (by omega)))⟩
  | succ d ih =>
    intro k m hk hm h
    obtain ⟨m, rfl⟩ : ∃ m', m = m' + 1 := ⟨m - 1, by omega⟩
    have y1 : nI on * 12 + bI (nI i1).toNatClampNeg + nI k = nI (12 * on + x1 + k) := by rw [nI_clamp (by omega), e1, ib_12, nI_add]
    have y2 : nI ot * 12 + bI (nI i2).toNatClampNeg + nI k = nI (12 * ot + x2 + k) := by rw [nI_clamp (by omega), e3, ib_12, nI_add]
    have v1 : bL (nI on * 12 + bI (nI i1).toNatClampNeg + nI k).toNatClampNeg = L (12 * on + x1 + k) := by rw [y1, nI_clamp (by omega), hL _ (by omega)]
    have v2 : bL (nI ot * 12 + bI (nI i2).toNatClampNeg + nI k).toNatClampNeg = L (12 * ot + x2 + k) := by rw [y2, nI_clamp (by omega), hL _ (by omega)]
    rw [wY_same_54]
    refine ⟨w1, br_f (by rw [r1]; exact nI_ge (by omega) (by omega)) ⟨vp_in_nI (by omega) (by omega), by rw [y1]; exact vp_in_nI (by omega) (by omega), vp_in_nI hi2 (by omega), by rw [y2]; exact vp_in_nI (by omega) (by omega), ?_⟩⟩
    by_cases e : L (12 * on + x1 + k) = L (12 * ot + x2 + k)
    · refine br_t (by rw [v1, v2]; exact e) (nm_r (nI_1 k) (ih (k + 1) m (by omega) (by omega) (fun k' hk' => ?_)))
      by_cases z : k' = k
      · rw [z]; exact e
      · exact h k' (by omega)
    · exact br_f (by rw [v1, v2]; exact e) (K0 ⟨k, by omega, e⟩)
theorem yk_same {post : Int32 → Prop} {c on ot x1 n1 x2 n2 : Nat} (hL : ∀ i, i < 36 → bL i = L i) (hU : yU = nI c) (hc : c < 26) (hon : on ≤ 2) (hot : ot ≤ 2) (h1 : x1 + n1 ≤ 12) (h2 : x2 + n2 ≤ 12)
    (e1 : bI (8 * c + (1 + 2 * on)) = nI x1) (e2 : bI (8 * c + (2 + 2 * on)) = nI n1) (e3 : bI (8 * c + (1 + 2 * ot)) = nI x2) (e4 : bI (8 * c + (2 + 2 * ot)) = nI n2)
    (K1 : ck_same L (12 * on + x1) n1 (12 * ot + x2) n2 = true → post 1) (K0 : ck_same L (12 * on + x1) n1 (12 * ot + x2) n2 = false → post 0) : wpY_same post (yC, yK, yT, yU, yE, yD, bL, bS, bH, bC, bO, bN, bM, bI, bA, bX, bV) (nI on) (nI ot) := by
  subst hU
  have ix : ∀ o, nI c * 8 + 1 + 2 * nI o = nI (8 * c + (1 + 2 * o)) := fun o => by rw [ib_m8, nI_1, ib_2m, nI_add, Nat.add_assoc]
  have e2' : bI (8 * c + (1 + 2 * on) + 1) = nI n1 := by rw [show 8 * c + (1 + 2 * on) + 1 = 8 * c + (2 + 2 * on) by omega]; exact e2
  have e4' : bI (8 * c + (1 + 2 * ot) + 1) = nI n2 := by rw [show 8 * c + (1 + 2 * ot) + 1 = 8 * c + (2 + 2 * ot) by omega]; exact e4
  have K0' : (n1 ≠ n2 ∨ ∃ k, k < n1 ∧ ¬ L (12 * on + x1 + k) = L (12 * ot + x2 + k)) → post 0 := by
    intro h
    apply K0
    cases e : ck_same L (12 * on + x1) n1 (12 * ot + x2) n2
    · rfl
    · obtain ⟨g1, g2⟩ := ck_same_iff.mp e
      rcases h with h | ⟨k, a1, a2⟩
      · exact absurd g1 h
      · exact absurd (g2 k a1) a2
  unfold wpY_same
  refine nm_r (ix on) (nm_r (ix ot) ⟨by rw [nI_1]; exact vp_in_nI (by omega) (by omega), by rw [nI_1]; exact vp_in_nI (by omega) (by omega), ?_⟩)
  refine pk_eq n1 n2 (fun z => ?_) (fun z => K0' (Or.inl z)) (by rw [nI_1, nI_clamp (by omega), e2']) (by rw [nI_1, nI_clamp (by omega), e4'])
  exact ⟨n1 + 1, yk_same54 hL hon hot (by omega) (by omega) h1 (by omega) e1 e2' e3 (fun h => K1 (ck_same_iff.mpr ⟨z, h⟩)) (fun h => K0' (Or.inr h)) n1 0 (n1 + 1) (by omega) (by omega) (fun k' h => by omega)⟩
/-- the last loop of a turn: lengths grow by one unless it is the end; last := next -/
theorem yk_382a {post : Int32 → SY → Prop} {Jn : _} {p c : Nat} {x2 : Int32} {u0 u1 u2 : Nat} (z : x2 = 0) (hU : yU = nI (c + 1)) (hc1 : c < 25) (hx0 : bX 0 = nI u0) (hx1 : bX 1 = nI u1) (hx2 : bX 2 = nI u2)
    (K : ∀ gA, gA 0 = nI u0 → gA 1 = nI u1 → gA 2 = nI u2 → Jn (nI (p + 1)) yC yK yT (nI (c + 1)) yE yD bL bS bH bC bO bN bM (pt_inc (pt_inc (pt_inc bI (8 * c + 2)) (8 * c + 4)) (8 * c + 6)) gA bX bV) : ∃ n, wY_cut_382 post Jn (nI p) x2 yC yK yT yU yE yD n 0 bL bS bH bC bO bN bM bI bA bX bV := by
  have v0 : vp_in (0 : Int32) 3 := vp_in_nI (n := 0) (by omega) (by omega)
  have v1 : vp_in (1 : Int32) 3 := vp_in_nI (n := 1) (by omega) (by omega)
  have v2 : vp_in (2 : Int32) 3 := vp_in_nI (n := 2) (by omega) (by omega)
  have c0 : (0 : Int32).toNatClampNeg = 0 := by decide
  have c1 : (1 : Int32).toNatClampNeg = 1 := by decide
  have c2 : (2 : Int32).toNatClampNeg = 2 := by decide
  refine ⟨4, ?_⟩
  have ix : ∀ t, nI (c + 1) * 8 - 6 + 2 * nI t = nI (8 * c + (2 + 2 * t)) := fun t => by
    rw [ib_m8, ib_2m, show (6 : Int32) = nI 6 from rfl, pk_sub (by omega), nI_add]
    exact congrArg nI (by omega)
  have i0 : nI (c + 1) * 8 - 6 + 2 * 0 = nI (8 * c + 2) := ix 0
  have i1 : nI (c + 1) * 8 - 6 + 2 * 1 = nI (8 * c + 4) := ix 1
  have i2 : nI (c + 1) * 8 - 6 + 2 * 2 = nI (8 * c + 6) := ix 2
  have a0 : vp_in (nI (c + 1) * 8 - 6 + 2 * 0) 208 := by rw [i0]; exact vp_in_nI (by omega) (by omega)
  have a1 : vp_in (nI (c + 1) * 8 - 6 + 2 * 1) 208 := by rw [i1]; exact vp_in_nI (by omega) (by omega)
  have a2 : vp_in (nI (c + 1) * 8 - 6 + 2 * 2) 208 := by rw [i2]; exact vp_in_nI (by omega) (by omega)
  subst hU
  rw [wY_cut_382]
  refine br_f (by decide) (br_t z ⟨a0, a0, nm_r (e' := pt_inc bI (8 * c + 2)) (by rw [i0, nI_clamp (by omega)]; rfl) ?_⟩)
  unfold wY_cut_416
  refine ⟨v0, v0, nm_r (e' := upd bA 0 (nI u0)) (by rw [c0, hx0]) (nm_r (e' := 1) (by decide) ?_)⟩
  rw [wY_cut_382]
  refine br_f (by decide) (br_t z ⟨a1, a1, nm_r (e' := pt_inc (pt_inc bI (8 * c + 2)) (8 * c + 4)) (by rw [i1, nI_clamp (by omega)]; rfl) ?_⟩)
  unfold wY_cut_416
  refine ⟨v1, v1, nm_r (e' := upd (upd bA 0 (nI u0)) 1 (nI u1)) (by rw [c1, hx1]) (nm_r (e' := 2) (by decide) ?_)⟩
  rw [wY_cut_382]
  refine br_f (by decide) (br_t z ⟨a2, a2, nm_r (e' := pt_inc (pt_inc (pt_inc bI (8 * c + 2)) (8 * c + 4)) (8 * c + 6)) (by rw [i2, nI_clamp (by omega)]; rfl) ?_⟩)
  unfold wY_cut_416
  refine ⟨v2, v2, nm_r (e' := upd (upd (upd bA 0 (nI u0)) 1 (nI u1)) 2 (nI u2)) (by rw [c2, hx2]) (nm_r (e' := 3) (by decide) ?_)⟩
  rw [wY_cut_382]
  exact br_t (by decide) (nm_r (nI_1 p) (K _ rfl rfl rfl))
theorem yk_382b {post : Int32 → SY → Prop} {Jn : _} {p : Nat} {x2 : Int32} {u0 u1 u2 : Nat} (z : ¬ x2 = 0) (hx0 : bX 0 = nI u0) (hx1 : bX 1 = nI u1) (hx2 : bX 2 = nI u2)
    (K : ∀ gA, gA 0 = nI u0 → gA 1 = nI u1 → gA 2 = nI u2 → Jn (nI (p + 1)) yC yK yT yU yE yD bL bS bH bC bO bN bM bI gA bX bV) : ∃ n, wY_cut_382 post Jn (nI p) x2 yC yK yT yU yE yD n 0 bL bS bH bC bO bN bM bI bA bX bV := by
  have v0 : vp_in (0 : Int32) 3 := vp_in_nI (n := 0) (by omega) (by omega)
  have v1 : vp_in (1 : Int32) 3 := vp_in_nI (n := 1) (by omega) (by omega)
  have v2 : vp_in (2 : Int32) 3 := vp_in_nI (n := 2) (by omega) (by omega)
  have c0 : (0 : Int32).toNatClampNeg = 0 := by decide
  have c1 : (1 : Int32).toNatClampNeg = 1 := by decide
  have c2 : (2 : Int32).toNatClampNeg = 2 := by decide
  refine ⟨4, ?_⟩
  rw [wY_cut_382]
  refine br_f (by decide) (br_f z ?_)
  unfold wY_cut_416
  refine ⟨v0, v0, nm_r (e' := upd bA 0 (nI u0)) (by rw [c0, hx0]) (nm_r (e' := 1) (by decide) ?_)⟩
  rw [wY_cut_382]
  refine br_f (by decide) (br_f z ?_)
  unfold wY_cut_416
  refine ⟨v1, v1, nm_r (e' := upd (upd bA 0 (nI u0)) 1 (nI u1)) (by rw [c1, hx1]) (nm_r (e' := 2) (by decide) ?_)⟩
  rw [wY_cut_382]
  refine br_f (by decide) (br_f z ?_)
  unfold wY_cut_416
  refine ⟨v2, v2, nm_r (e' := upd (upd (upd bA 0 (nI u0)) 1 (nI u1)) 2 (nI u2)) (by rw [c2, hx2]) (nm_r (e' := 3) (by decide) ?_)⟩
  rw [wY_cut_382]
  exact br_t (by decide) (nm_r (nI_1 p) (K _ rfl rfl rfl))
/-- a new stable chunk, not yet counted up -/
theorem yk_330 {post : Int32 → SY → Prop} {Jn : _} {p c : Nat} {x2 : Int32} {u0 u1 u2 : Nat} (hU : yU = nI c) (hc : c < 25) (hx0 : bX 0 = nI u0) (hx1 : bX 1 = nI u1) (hx2 : bX 2 = nI u2)
    (K : ∀ g, (∀ f, f < 7 → g (8 * c + f) = nI (ck_row 0 u0 0 u1 0 u2 0 f)) → (∀ j, j < 8 * c → g j = bI j) → ∃ n, wY_cut_382 post Jn (nI p) x2 yC yK yT (nI (c + 1)) yE yD n 0 bL bS bH bC bO bN bM g bA bX bV) : ∃ n, wY_cut_330 post Jn (nI p) x2 n 0 yC yK yT yU yE yD bL bS bH bC bO bN bM bI bA bX bV := by
  have v0 : vp_in (0 : Int32) 3 := vp_in_nI (n := 0) (by omega) (by omega)
  have v1 : vp_in (1 : Int32) 3 := vp_in_nI (n := 1) (by omega) (by omega)
  have v2 : vp_in (2 : Int32) 3 := vp_in_nI (n := 2) (by omega) (by omega)
  have c0 : (0 : Int32).toNatClampNeg = 0 := by decide
  have c1 : (1 : Int32).toNatClampNeg = 1 := by decide
  have c2 : (2 : Int32).toNatClampNeg = 2 := by decide
  refine ⟨4, ?_⟩
  rw [wY_cut_330]
  refine br_f (by decide) ⟨v0, ?_⟩
  refine yk_seg (t := 0) hU (by omega) (by omega) (nm_r (e' := 1) (by decide) ?_)
  rw [wY_cut_330]
  refine br_f (by decide) ⟨v1, ?_⟩
  refine yk_seg (t := 1) hU (by omega) (by omega) (nm_r (e' := 2) (by decide) ?_)
  rw [wY_cut_330]
  refine br_f (by decide) ⟨v2, ?_⟩
  refine yk_seg (t := 2) hU (by omega) (by omega) (nm_r (e' := 3) (by decide) ?_)
  rw [wY_cut_330]
  subst hU
  have x0 : nI c * 8 = nI (8 * c) := ib_m8 c
  rw [c0, c1, c2, hx0, hx1, hx2]
  refine br_t (by decide) ⟨by rw [x0]; exact vp_in_nI (by omega) (by omega), nm_r (ib_up _ _ (8 * c) x0 (by omega)) (nm_r (nI_1 c) (K _ (xk_7 pk_us ?_ ?_ ?_ ?_ ?_ ?_) (fun j hj => ?_)))⟩
  · rw [pk_un (by omega), pk_un (by omega), pk_un (by omega), pk_un (by omega), pk_un (by omega), pk_un (by omega)]
    exact pk_us
  · rw [pk_un (by omega), pk_un (by omega), pk_un (by omega), pk_un (by omega), pk_un (by omega)]
    exact pk_us
  · rw [pk_un (by omega), pk_un (by omega), pk_un (by omega), pk_un (by omega)]
    exact pk_us
  · rw [pk_un (by omega), pk_un (by omega), pk_un (by omega)]
    exact pk_us
  · rw [pk_un (by omega), pk_un (by omega)]
    exact pk_us
  · rw [pk_un (by omega)]
    exact pk_us
  · rw [pk_un (by omega), pk_un (by omega), pk_un (by omega), pk_un (by omega), pk_un (by omega), pk_un (by omega), pk_un (by omega)]
/-- the gap's segments and its kind -/
theorem yk_206 {post : Int32 → SY → Prop} {Jn : _} {p c : Nat} {x2 x3 : Int32} {u0 u1 u2 X0 X1 X2 : Nat} (hL : ∀ i, i < 36 → bL i = L i) (hU : yU = nI c) (hc : c < 25) (hx0 : bX 0 = nI u0) (hx1 : bX 1 = nI u1) (hx2 : bX 2 = nI u2) (ha0 : bA 0 = yv X0) (ha1 : bA 1 = yv X1) (ha2 : bA 2 = yv X2)
    (h0 : X0 ≤ u0) (h1 : X1 ≤ u1) (h2 : X2 ≤ u2) (l0 : u0 ≤ 12) (l1 : u1 ≤ 12) (l2 : u2 ≤ 12)
    (K : ∀ g, (∀ f, f < 7 → g (8 * c + f) = nI (ck_gr L X0 X1 X2 u0 u1 u2 f)) → (∀ j, j < 8 * c → g j = bI j) → wY_cut_312 post Jn (nI p) x2 x3 yC yK yT (nI (c + 1)) yE yD bL bS bH bC bO bN bM g bA bX bV) : ∃ n, wY_cut_206 post Jn (nI p) x2 x3 n 0 yC yK yT yU yE yD bL bS bH bC bO bN bM bI bA bX bV := by
  have v0 : vp_in (0 : Int32) 3 := vp_in_nI (n := 0) (by omega) (by omega)
  have v1 : vp_in (1 : Int32) 3 := vp_in_nI (n := 1) (by omega) (by omega)
  have v2 : vp_in (2 : Int32) 3 := vp_in_nI (n := 2) (by omega) (by omega)
  have c0 : (0 : Int32).toNatClampNeg = 0 := by decide
  have c1 : (1 : Int32).toNatClampNeg = 1 := by decide
  have c2 : (2 : Int32).toNatClampNeg = 2 := by decide
  refine ⟨4, ?_⟩
  rw [wY_cut_206]
  refine br_f (by decide) ⟨v0, v0, v0, ?_⟩
  refine yk_seg (t := 0) hU (by omega) (by omega) (nm_r (e' := 1) (by decide) ?_)
  rw [wY_cut_206]
  refine br_f (by decide) ⟨v1, v1, v1, ?_⟩
  refine yk_seg (t := 1) hU (by omega) (by omega) (nm_r (e' := 2) (by decide) ?_)
  rw [wY_cut_206]
  refine br_f (by decide) ⟨v2, v2, v2, ?_⟩
  refine yk_seg (t := 2) hU (by omega) (by omega) (nm_r (e' := 3) (by decide) ?_)
  rw [wY_cut_206]
  subst hU
  have x0 : nI c * 8 = nI (8 * c) := ib_m8 c
  rw [c0, c1, c2, hx0, hx1, hx2, ha0, ha1, ha2, yv_1, yv_1, yv_1, yv_gap h0 (by omega), yv_gap h1 (by omega), yv_gap h2 (by omega)]
  refine br_t (by decide) ?_
  generalize eg : upd (upd (upd (upd (upd (upd bI (8 * c + (1 + 2 * 0)) (nI X0)) (8 * c + (2 + 2 * 0)) (nI (u0 - X0))) (8 * c + (1 + 2 * 1)) (nI X1)) (8 * c + (2 + 2 * 1)) (nI (u1 - X1))) (8 * c + (1 + 2 * 2)) (nI X2)) (8 * c + (2 + 2 * 2)) (nI (u2 - X2)) = g
  have g1 : g (8 * c + 1) = nI X0 := by
    rw [← eg, pk_un (by omega), pk_un (by omega), pk_un (by omega), pk_un (by omega), pk_un (by omega)]
    exact pk_us
  have g2 : g (8 * c + 2) = nI (u0 - X0) := by
    rw [← eg, pk_un (by omega), pk_un (by omega), pk_un (by omega), pk_un (by omega)]
    exact pk_us
  have g3 : g (8 * c + 3) = nI X1 := by
    rw [← eg, pk_un (by omega), pk_un (by omega), pk_un (by omega)]
    exact pk_us
  have g4 : g (8 * c + 4) = nI (u1 - X1) := by
    rw [← eg, pk_un (by omega), pk_un (by omega)]
    exact pk_us
  have g5 : g (8 * c + 5) = nI X2 := by
    rw [← eg, pk_un (by omega)]
    exact pk_us
  have g6 : g (8 * c + 6) = nI (u2 - X2) := by
    rw [← eg]
    exact pk_us
  have gl : ∀ j, j < 8 * c → g j = bI j := by
    intro j hj
    rw [← eg, pk_un (by omega), pk_un (by omega), pk_un (by omega), pk_un (by omega), pk_un (by omega), pk_un (by omega)]
  have fin : ∀ k, k = ck_kind L X0 (u0 - X0) X1 (u1 - X1) X2 (u2 - X2) → wY_cut_301 post Jn (nI p) x2 x3 (nI k) (nI c * 8) yC yK yT (nI c) yE yD bL bS bH bC bO bN bM g bA bX bV := by
    intro k hk
    unfold wY_cut_301
    rw [x0]
    refine ⟨vp_in_nI (by omega) (by omega), nm_r (e' := upd g (8 * c) (nI k)) (by rw [nI_clamp (by omega)]) (nm_r (nI_1 c) (K _ (xk_7 ?_ ?_ ?_ ?_ ?_ ?_ ?_) (fun j hj => ?_)))⟩
    · rw [hk]; exact pk_us
    · rw [pk_un (by omega)]; exact g1
    · rw [pk_un (by omega)]; exact g2
    · rw [pk_un (by omega)]; exact g3
    · rw [pk_un (by omega)]; exact g4
    · rw [pk_un (by omega)]; exact g5
    · rw [pk_un (by omega)]; exact g6
    · rw [pk_un (by omega)]; exact gl j hj
  have z0 : 12 * 0 + X0 = X0 := by omega
  unfold ck_kind at fin
  refine yk_same (on := 1) (ot := 0) (L := L) hL rfl (by omega) (by omega) (by omega) (by omega) (by omega) g3 g4 g1 g2 (fun q => ?_) (fun q => ?_)
  · rw [z0] at q
    exact br_f (by decide) (fin 2 (if_pos q).symm)
  · rw [z0] at q
    have q' : ¬ ck_same L (12 + X1) (u1 - X1) X0 (u0 - X0) = true := by rw [q]; decide
    rw [if_neg q'] at fin
    refine br_t rfl ?_
    refine yk_same (on := 2) (ot := 0) (L := L) hL rfl (by omega) (by omega) (by omega) (by omega) (by omega) g5 g6 g1 g2 (fun q => ?_) (fun q => ?_)
    · rw [z0] at q
      exact br_f (by decide) (fin 1 (if_pos q).symm)
    · rw [z0] at q
      have q' : ¬ ck_same L (24 + X2) (u2 - X2) X0 (u0 - X0) = true := by rw [q]; decide
      rw [if_neg q'] at fin
      refine br_t rfl ?_
      refine yk_same (on := 1) (ot := 2) (L := L) hL rfl (by omega) (by omega) (by omega) (by omega) (by omega) g3 g4 g5 g6 (fun q => ?_) (fun q => ?_)
      · exact br_f (by decide) (fin 3 (if_pos q).symm)
      · have q' : ¬ ck_same L (12 + X1) (u1 - X1) (24 + X2) (u2 - X2) = true := by rw [q]; decide
        exact br_t rfl (fin 4 (if_neg q').symm)
/-- is there a gap -/
theorem yk_158 {post : Int32 → SY → Prop} {Jn : _} {p : Nat} {x2 : Int32} {u0 u1 u2 X0 X1 X2 : Nat} (hx0 : bX 0 = nI u0) (hx1 : bX 1 = nI u1) (hx2 : bX 2 = nI u2) (ha0 : bA 0 = yv X0) (ha1 : bA 1 = yv X1) (ha2 : bA 2 = yv X2) (l0 : u0 ≤ 12) (l1 : u1 ≤ 12) (l2 : u2 ≤ 12) (m0 : X0 ≤ 13) (m1 : X1 ≤ 13) (m2 : X2 ≤ 13)
    (K1 : (X0 < u0 ∨ X1 < u1 ∨ X2 < u2) → ∃ n, wY_cut_206 post Jn (nI p) x2 1 n 0 yC yK yT yU yE yD bL bS bH bC bO bN bM bI bA bX bV) (K0 : ¬ (X0 < u0 ∨ X1 < u1 ∨ X2 < u2) → wY_cut_312 post Jn (nI p) x2 0 yC yK yT yU yE yD bL bS bH bC bO bN bM bI bA bX bV) : ∃ n, wY_cut_158 post Jn (nI p) x2 yC yK yT yU yE yD bL bS bH bC bO bN bM bI bA bX bV n 0 0 := by
  have v0 : vp_in (0 : Int32) 3 := vp_in_nI (n := 0) (by omega) (by omega)
  have v1 : vp_in (1 : Int32) 3 := vp_in_nI (n := 1) (by omega) (by omega)
  have v2 : vp_in (2 : Int32) 3 := vp_in_nI (n := 2) (by omega) (by omega)
  have c0 : (0 : Int32).toNatClampNeg = 0 := by decide
  have c1 : (1 : Int32).toNatClampNeg = 1 := by decide
  have c2 : (2 : Int32).toNatClampNeg = 2 := by decide
  have e0 : bA 0 + 1 = nI X0 := by rw [ha0, yv_1]
  have e1 : bA 1 + 1 = nI X1 := by rw [ha1, yv_1]
  have e2 : bA 2 + 1 = nI X2 := by rw [ha2, yv_1]
  have f3 : ∀ n, (X0 < u0 ∨ X1 < u1 ∨ X2 < u2) → wY_cut_158 post Jn (nI p) x2 yC yK yT yU yE yD bL bS bH bC bO bN bM bI bA bX bV (n + 1) 1 3 := by
    intro n h
    rw [wY_cut_158]
    exact br_t (by decide) (br_f (by decide) (K1 h))
  have f2 : ∀ n, (X0 < u0 ∨ X1 < u1 ∨ X2 < u2) → wY_cut_158 post Jn (nI p) x2 yC yK yT yU yE yD bL bS bH bC bO bN bM bI bA bX bV (n + 2) 1 2 := by
    intro n h
    rw [wY_cut_158]
    exact br_f (by decide) (br_f (by decide) (nm_r (e' := 3) (by decide) (f3 n h)))
  have f1 : ∀ n, (X0 < u0 ∨ X1 < u1 ∨ X2 < u2) → wY_cut_158 post Jn (nI p) x2 yC yK yT yU yE yD bL bS bH bC bO bN bM bI bA bX bV (n + 3) 1 1 := by
    intro n h
    rw [wY_cut_158]
    exact br_f (by decide) (br_f (by decide) (nm_r (e' := 2) (by decide) (f2 n h)))
  refine ⟨4, ?_⟩
  rw [wY_cut_158]
  refine br_f (by decide) (br_t rfl ⟨v0, v0, pk_le u0 X0 (fun z0 => nm_r (e' := 1) (by decide) ?_) (fun z0 => nm_r (e' := 1) (by decide) (f1 0 (Or.inl z0))) (by rw [c0]; exact hx0) (by rw [c0]; exact e0)⟩)
  rw [wY_cut_158]
  refine br_f (by decide) (br_t rfl ⟨v1, v1, pk_le u1 X1 (fun z1 => nm_r (e' := 2) (by decide) ?_) (fun z1 => nm_r (e' := 2) (by decide) (f2 0 (Or.inr (Or.inl z1)))) (by rw [c1]; exact hx1) (by rw [c1]; exact e1)⟩)
  rw [wY_cut_158]
  refine br_f (by decide) (br_t rfl ⟨v2, v2, pk_le u2 X2 (fun z2 => nm_r (e' := 3) (by decide) ?_) (fun z2 => nm_r (e' := 3) (by decide) (f3 0 (Or.inr (Or.inr z2)))) (by rw [c2]; exact hx2) (by rw [c2]; exact e2)⟩)
  rw [wY_cut_158]
  exact br_t (by decide) (br_t rfl (K0 (by omega)))
/-- the next anchors -/
theorem yk_101 {post : Int32 → SY → Prop} {Jn : _} {p : Nat} {x2 x3 : Int32} {u1 u2 : Nat} (hp : p ≤ 12)
    (h0 : x2 = 0 → p < 12 ∧ bM (12 + p) = nI u1 ∧ bM (24 + p) = nI u2) (h1 : x2 ≠ 0 → bS 0 = nI p ∧ bS 1 = nI u1 ∧ bS 2 = nI u2)
    (K : ∀ g, g 0 = nI p → g 1 = nI u1 → g 2 = nI u2 → ∃ n, wY_cut_158 post Jn (nI p) x2 yC yK yT yU yE yD bL bS bH bC bO bN bM bI bA g bV n x3 0) : ∃ n, wY_cut_101 post Jn (nI p) x2 x3 yC yK yT yU yE yD n 0 bL bS bH bC bO bN bM bI bA bX bV := by
  have v0 : vp_in (0 : Int32) 3 := vp_in_nI (n := 0) (by omega) (by omega)
  have v1 : vp_in (1 : Int32) 3 := vp_in_nI (n := 1) (by omega) (by omega)
  have v2 : vp_in (2 : Int32) 3 := vp_in_nI (n := 2) (by omega) (by omega)
  have w0 : vp_in (0 : Int32) 4 := vp_in_nI (n := 0) (by omega) (by omega)
  have w1 : vp_in (1 : Int32) 4 := vp_in_nI (n := 1) (by omega) (by omega)
  have w2 : vp_in (2 : Int32) 4 := vp_in_nI (n := 2) (by omega) (by omega)
  have c0 : (0 : Int32).toNatClampNeg = 0 := by decide
  have c1 : (1 : Int32).toNatClampNeg = 1 := by decide
  have c2 : (2 : Int32).toNatClampNeg = 2 := by decide
  refine ⟨4, ?_⟩
  have fin := K (upd (upd (upd bX 0 (nI p)) 1 (nI u1)) 2 (nI u2)) rfl rfl rfl
  by_cases z : x2 = 0
  · obtain ⟨a0, a1, a2⟩ := h0 z
    have i1 : 1 * 12 + nI p = nI (12 + p) := ib_12 1 p
    have i2 : 2 * 12 + nI p = nI (24 + p) := ib_12 2 p
    rw [wY_cut_101]
    refine br_f (by decide) (br_t z (br_t rfl ⟨v0, nm_r (e' := upd bX 0 (nI p)) (by rw [c0]) (nm_r (e' := 1) (by decide) ?_)⟩))
    rw [wY_cut_101]
    refine br_f (by decide) (br_t z (br_f (by decide) ⟨by rw [i1]; exact vp_in_nI (by omega) (by omega), v1, nm_r (e' := upd (upd bX 0 (nI p)) 1 (nI u1)) (by rw [c1, i1, nI_clamp (by omega), a1]) (nm_r (e' := 2) (by decide) ?_)⟩))
    rw [wY_cut_101]
    refine br_f (by decide) (br_t z (br_f (by decide) ⟨by rw [i2]; exact vp_in_nI (by omega) (by omega), v2, nm_r (e' := upd (upd (upd bX 0 (nI p)) 1 (nI u1)) 2 (nI u2)) (by rw [c2, i2, nI_clamp (by omega), a2]) (nm_r (e' := 3) (by decide) ?_)⟩))
    rw [wY_cut_101]
    exact br_t (by decide) fin
  · obtain ⟨a0, a1, a2⟩ := h1 z
    rw [wY_cut_101]
    refine br_f (by decide) (br_f z ⟨w0, v0, nm_r (e' := upd bX 0 (nI p)) (by rw [c0, a0]) (nm_r (e' := 1) (by decide) ?_)⟩)
    rw [wY_cut_101]
    refine br_f (by decide) (br_f z ⟨w1, v1, nm_r (e' := upd (upd bX 0 (nI p)) 1 (nI u1)) (by rw [c1, a1]) (nm_r (e' := 2) (by decide) ?_)⟩)
    rw [wY_cut_101]
    refine br_f (by decide) (br_f z ⟨w2, v2, nm_r (e' := upd (upd (upd bX 0 (nI p)) 1 (nI u1)) 2 (nI u2)) (by rw [c2, a2]) (nm_r (e' := 3) (by decide) ?_)⟩)
    rw [wY_cut_101]
    exact br_t (by decide) fin
end
end
section
/-! Y: the chunks, position by position -/
theorem yk_incrow {f : Nat → Int32} {c : Nat} {ro : Nat → Nat} (h : ∀ i, i < 7 → f (8 * c + i) = nI (ro i)) : (∀ i, i < 7 → pt_inc (pt_inc (pt_inc f (8 * c + 2)) (8 * c + 4)) (8 * c + 6) (8 * c + i) = nI (ck_inc ro i)) ∧ (∀ j, j < 8 * c → pt_inc (pt_inc (pt_inc f (8 * c + 2)) (8 * c + 4)) (8 * c + 6) j = f j) := by
  unfold pt_inc
  refine ⟨xk_7 ?_ ?_ ?_ ?_ ?_ ?_ ?_, fun j hj => ?_⟩
  · rw [pk_un (by omega), pk_un (by omega), pk_un (by omega)]; exact h 0 (by omega)
  · rw [pk_un (by omega), pk_un (by omega), pk_un (by omega)]; exact h 1 (by omega)
  · rw [pk_un (by omega), pk_un (by omega), pk_us, h 2 (by omega), nI_1]; rfl
  · rw [pk_un (by omega), pk_un (by omega), pk_un (by omega)]; exact h 3 (by omega)
  · rw [pk_un (by omega), pk_us, pk_un (by omega), h 4 (by omega), nI_1]; rfl
  · rw [pk_un (by omega), pk_un (by omega), pk_un (by omega)]; exact h 5 (by omega)
  · rw [pk_us, pk_un (by omega), pk_un (by omega), h 6 (by omega), nI_1]; rfl
  · rw [pk_un (by omega), pk_un (by omega), pk_un (by omega)]
section
variable {yC yK yT yU yE yD : Int32} {bL bS bH bC bO bN bM bI bA bX bV : Nat → Int32}
variable {L : Nat → Int32} {T : Nat → Nat → Nat} {c p u0 u1 u2 : Nat}
theorem yk_312A {post : Int32 → SY → Prop} {Jn : _} {x2 x3 : Int32} (hU : yU = nI c) (hc : c < 25) (hA : yk_A bI T c) (hx0 : bX 0 = nI u0) (hx1 : bX 1 = nI u1) (hx2 : bX 2 = nI u2) (z2 : x2 = 0) (z3 : x3 ≠ 0 ∨ c = 0)
    (K : ∀ gI gA, yk_A gI (ck_put T c (ck_row 0 u0 1 u1 1 u2 1)) (c + 1) → gA 0 = nI u0 → gA 1 = nI u1 → gA 2 = nI u2 → Jn (nI (p + 1)) yC yK yT (nI (c + 1)) yE yD bL bS bH bC bO bN bM gI gA bX bV) : wY_cut_312 post Jn (nI p) x2 x3 yC yK yT yU yE yD bL bS bH bC bO bN bM bI bA bX bV := by
  have g : ∃ n, wY_cut_330 post Jn (nI p) x2 n 0 yC yK yT yU yE yD bL bS bH bC bO bN bM bI bA bX bV := by
    refine yk_330 hU hc hx0 hx1 hx2 (fun g1 k1 k2 => ?_)
    refine yk_382a z2 rfl hc hx0 hx1 hx2 (fun gA a0 a1 a2 => ?_)
    obtain ⟨r1, r2⟩ := yk_incrow k1
    exact K _ _ (yk_put hA (fun f hf => by rw [r1 f hf]; exact congrArg nI (xk_7 (P := fun f => ck_inc (ck_row 0 u0 0 u1 0 u2 0) f = ck_row 0 u0 1 u1 1 u2 1 f) rfl rfl rfl rfl rfl rfl rfl f hf)) (fun j hj => by rw [r2 j hj, k2 j hj])) a0 a1 a2
  unfold wY_cut_312
  refine br_t z2 ?_
  by_cases y : x3 = 0
  · refine br_t y ?_
    rcases z3 with z | z
    · exact absurd y z
    · refine br_t ?_ g
      rw [hU, z]
      rfl
  · exact br_f y g
theorem yk_312B {post : Int32 → SY → Prop} {Jn : _} {x2 x3 : Int32} (hU : yU = nI (c + 1)) (hc : c < 25) (hA : yk_A bI T (c + 1)) (hx0 : bX 0 = nI u0) (hx1 : bX 1 = nI u1) (hx2 : bX 2 = nI u2) (z2 : x2 = 0) (z3 : x3 = 0)
    (K : ∀ gI gA, yk_A gI (ck_put T c (ck_inc (T c))) (c + 1) → gA 0 = nI u0 → gA 1 = nI u1 → gA 2 = nI u2 → Jn (nI (p + 1)) yC yK yT (nI (c + 1)) yE yD bL bS bH bC bO bN bM gI gA bX bV) : wY_cut_312 post Jn (nI p) x2 x3 yC yK yT yU yE yD bL bS bH bC bO bN bM bI bA bX bV := by
  unfold wY_cut_312
  refine br_t z2 (br_t z3 (br_f (by rw [hU]; exact nI_ne0 (by omega) (by omega)) ?_))
  refine yk_382a z2 hU hc hx0 hx1 hx2 (fun gA a0 a1 a2 => ?_)
  obtain ⟨r1, r2⟩ := yk_incrow (hA c (by omega))
  exact K _ _ (yk_put (fun c' hc' => hA c' (by omega)) r1 r2) a0 a1 a2
theorem yk_312C {post : Int32 → SY → Prop} {Jn : _} {x2 x3 : Int32} (hx0 : bX 0 = nI u0) (hx1 : bX 1 = nI u1) (hx2 : bX 2 = nI u2) (z2 : ¬ x2 = 0)
    (K : ∀ gA, gA 0 = nI u0 → gA 1 = nI u1 → gA 2 = nI u2 → Jn (nI (p + 1)) yC yK yT yU yE yD bL bS bH bC bO bN bM bI gA bX bV) : wY_cut_312 post Jn (nI p) x2 x3 yC yK yT yU yE yD bL bS bH bC bO bN bM bI bA bX bV := by
  unfold wY_cut_312
  exact br_f z2 (yk_382b z2 hx0 hx1 hx2 K)
/-- one cut, from the marks to the next turn -/
theorem yk_turn {post : Int32 → SY → Prop} {Jn : _} {x2 : Int32} {b B0 L0 R0 u v : Nat} (hL : ∀ i, i < 36 → bL i = L i) (hU : yU = nI c) (hcB : c ≤ 2 * B0) (hb : b ≤ 12) (hp : p ≤ b) (hB : B0 ≤ p) (hl : L0 ≤ u) (hr : R0 ≤ v) (hu : u ≤ 12) (hv : v ≤ 12)
    (hx : (x2 = 0 ∧ p < b) ∨ (x2 ≠ 0 ∧ p = b)) (hA : yk_A bI T c) (ha0 : bA 0 = yv B0) (ha1 : bA 1 = yv L0) (ha2 : bA 2 = yv R0)
    (h0 : x2 = 0 → bM (12 + p) = nI u ∧ bM (24 + p) = nI v) (h1 : x2 ≠ 0 → bS 0 = nI p ∧ bS 1 = nI u ∧ bS 2 = nI v)
    (K : ∀ gI gA gX, yk_A gI (ck_one L b p true u v (c, T, B0, L0, R0)).2.1 (ck_one L b p true u v (c, T, B0, L0, R0)).1 → gA 0 = nI p → gA 1 = nI u → gA 2 = nI v → Jn (nI (p + 1)) yC yK yT (nI (ck_one L b p true u v (c, T, B0, L0, R0)).1) yE yD bL bS bH bC bO bN bM gI gA gX bV) :
    ∃ n, wY_cut_101 post Jn (nI p) x2 0 yC yK yT yU yE yD n 0 bL bS bH bC bO bN bM bI bA bX bV := by
  unfold ck_one at K
  rw [if_pos rfl] at K
  have hp12 : x2 = 0 → p < 12 := by
    intro z
    rcases hx with ⟨_, q⟩ | ⟨q, _⟩
    · omega
    · exact absurd z q
  refine yk_101 (by omega) (fun z => ⟨hp12 z, h0 z⟩) h1 (fun gX e0 e1 e2 => ?_)
  refine yk_158 e0 e1 e2 ha0 ha1 ha2 (by omega) hu hv (by omega) (by omega) (by omega) (fun hg => ?_) (fun hg => ?_)
  · have g : ck_isg B0 L0 R0 p u v = true := decide_eq_true hg
    refine yk_206 hL hU (by omega) e0 e1 e2 ha0 ha1 ha2 hB hl hr (by omega) hu hv (fun gI k1 k2 => ?_)
    have hA1 : yk_A gI (ck_put T c (ck_gr L B0 L0 R0 p u v)) (c + 1) := yk_put hA k1 k2
    rcases hx with ⟨z, hpb⟩ | ⟨z, hpb⟩
    · rw [if_pos hpb] at K
      dsimp only at K
      rw [g] at K
      unfold ck_aT ck_ac ck_gT ck_gc at K
      rw [if_pos (Or.inl rfl), if_pos (Or.inl rfl), if_pos rfl, if_pos rfl] at K
      exact yk_312A rfl (by omega) hA1 e0 e1 e2 z (Or.inl (by decide)) (fun gI gA => K gI gA gX)
    · rw [if_neg (by omega)] at K
      dsimp only at K
      rw [g] at K
      unfold ck_gT ck_gc at K
      rw [if_pos rfl, if_pos rfl] at K
      exact yk_312C e0 e1 e2 z (fun gA => K gI gA gX hA1)
  · have g : ck_isg B0 L0 R0 p u v = false := decide_eq_false hg
    rcases hx with ⟨z, hpb⟩ | ⟨z, hpb⟩
    · rw [if_pos hpb] at K
      dsimp only at K
      rw [g] at K
      unfold ck_aT ck_ac at K
      by_cases z0 : c = 0
      · rw [if_pos (Or.inr z0), if_pos (Or.inr z0)] at K
        exact yk_312A hU (by omega) hA e0 e1 e2 z (Or.inr z0) (fun gI gA => K gI gA gX)
      · rw [if_neg (by simp [z0]), if_neg (by simp [z0])] at K
        obtain ⟨c, rfl⟩ : ∃ c', c = c' + 1 := ⟨c - 1, by omega⟩
        exact yk_312B hU (by omega) hA e0 e1 e2 z rfl (fun gI gA => K gI gA gX)
    · rw [if_neg (by omega)] at K
      dsimp only at K
      rw [g] at K
      subst hU
      exact yk_312C e0 e1 e2 z (fun gA => K bI gA gX hA)
end
section
variable {yC yK yT yU yE yD : Int32} {bL bS bH bC bO bN bM bI bA bX bV : Nat → Int32}
variable {L : Nat → Int32} {b l r : Nat}
theorem yk_39 {post : Int32 → SY → Prop} (hL : ∀ i, i < 36 → bL i = L i) (hb : b ≤ 12) (hl : l ≤ 12) (hr : r ≤ 12) (h0 : bS 0 = nI b) (h1 : bS 1 = nI l) (h2 : bS 2 = nI r)
    (hM1 : ∀ p, p < b → bM (12 + p) = ck_M1 L b l p) (hM2 : ∀ p, p < b → bM (24 + p) = ck_M2 L b r p)
    (K : ∀ gI gA gX, yk_A gI (ck_t L b l r) (ck_n L b l r) → post (nI (ck_n L b l r)) (yC, yK, yT, nI (ck_n L b l r), yE, yD, bL, bS, bH, bC, bO, bN, bM, gI, gA, gX, bV)) :
    ∀ k p n gI gA gX, p + k = b + 1 → k < n → yk_A gI (ck_z L b l r p).2.1 (ck_z L b l r p).1 → gA 0 = yv (ck_z L b l r p).2.2.1 → gA 1 = yv (ck_z L b l r p).2.2.2.1 → gA 2 = yv (ck_z L b l r p).2.2.2.2 →
    wY_cut_39 post n (nI p) yC yK yT (nI (ck_z L b l r p).1) yE yD bL bS bH bC bO bN bM gI gA gX bV := by
  have hW := ck_Wm (A := L) (B1 := sc_B L 1) (B2 := sc_B L 2) (b := b) hl hr
  intro k
  induction k with
  | zero =>
    intro p n gI gA gX hp hn hA a0 a1 a2
    obtain ⟨n, rfl⟩ : ∃ m', n = m' + 1 := ⟨n - 1, by omega⟩
    have ep : p = b + 1 := by omega
    subst ep
    rw [wY_cut_39]
    exact br_t (by rw [h0]; exact nI_lt (by omega) (by omega)) (K gI gA gX hA)
  | succ k ih =>
    intro p n gI gA gX hp hn hA a0 a1 a2
    obtain ⟨n, rfl⟩ : ∃ m', n = m' + 1 := ⟨n - 1, by omega⟩
    have inv := ck_inv (L := L) hW p (by omega)
    have nx := fun g1 g2 g3 => ih (p + 1) n g1 g2 g3 (by omega) (by omega)
    have ez : ck_z L b l r (p + 1) = ck_one L b p (ck_ct (ck_M1 L b l) (ck_M2 L b r) b p) (ck_q (ck_M1 L b l) b l p) (ck_q (ck_M2 L b r) b r p) (ck_z L b l r p) := rfl
    rw [ez] at nx
    have inv : ck_Inv b l r (ck_ct (ck_M1 L b l) (ck_M2 L b r) b) (ck_q (ck_M1 L b l) b l) (ck_q (ck_M2 L b r) b r) p (ck_z L b l r p) := inv
    generalize ck_z L b l r p = z at nx inv hA a0 a1 a2
    obtain ⟨c, T, B0, L0, R0⟩ := z
    obtain ⟨v1, v2, v3, v4, v5, v6⟩ := inv
    dsimp only at v1 v2 v3 v4 v5 v6 hA a0 a1 a2
    rw [wY_cut_39]
    refine br_f (by rw [h0]; exact nI_nlt (by omega) (by omega)) ?_
    by_cases hct : ck_ct (ck_M1 L b l) (ck_M2 L b r) b p = true
    · have bd := hW.1 p (by omega) hct
      have bd : ck_q (ck_M1 L b l) b l p ≤ l ∧ ck_q (ck_M2 L b r) b r p ≤ r ∧ (p < b → ck_q (ck_M1 L b l) b l p < l ∧ ck_q (ck_M2 L b r) b r p < r) := bd
      have lo := v2 p (Nat.le_refl _) (by omega) hct
      rw [hct] at nx
      have go : ∀ gI gA gX, yk_A gI (ck_one L b p true (ck_q (ck_M1 L b l) b l p) (ck_q (ck_M2 L b r) b r p) (c, T, B0, L0, R0)).2.1 (ck_one L b p true (ck_q (ck_M1 L b l) b l p) (ck_q (ck_M2 L b r) b r p) (c, T, B0, L0, R0)).1 → gA 0 = nI p → gA 1 = nI (ck_q (ck_M1 L b l) b l p) → gA 2 = nI (ck_q (ck_M2 L b r) b r p) → wY_cut_39 post n (nI (p + 1)) yC yK yT (nI (ck_one L b p true (ck_q (ck_M1 L b l) b l p) (ck_q (ck_M2 L b r) b r p) (c, T, B0, L0, R0)).1) yE yD bL bS bH bC bO bN bM gI gA gX bV := by
        intro g1 g2 g3 k1 k2 k3 k4
        have s1 : (ck_one L b p true (ck_q (ck_M1 L b l) b l p) (ck_q (ck_M2 L b r) b r p) (c, T, B0, L0, R0)).2.2 = (p + 1, ck_q (ck_M1 L b l) b l p + 1, ck_q (ck_M2 L b r) b r p + 1) := by
          unfold ck_one
          rw [if_pos rfl]
          split <;> rfl
        refine nx g1 g2 g3 k1 ?_ ?_ ?_
        · rw [s1, yv_S]; exact k2
        · rw [s1, yv_S]; exact k3
        · rw [s1, yv_S]; exact k4
      by_cases hpb : p < b
      · obtain ⟨w1, w2⟩ := ck_cutv hl hr hpb hct
        refine br_f (by rw [h0]; exact fun y => absurd (ib_inj (by omega) (by omega) y) (by omega)) ?_
        have x1 : (12 : Int32) + nI p = nI (12 + p) := ib_c p 12
        have x2 : (24 : Int32) + nI p = nI (24 + p) := ib_c p 24
        unfold wY_cut_64
        refine br_t rfl ⟨by rw [x1]; exact vp_in_nI (by omega) (by omega), br_f ?_ ⟨by rw [x2]; exact vp_in_nI (by omega) (by omega), br_t ?_ ?_⟩⟩
        · rw [x1, nI_clamp (by omega), hM1 p hpb, w1]
          exact nI_pos (by omega)
        · rw [x2, nI_clamp (by omega), hM2 p hpb, w2]
          exact nI_pos' (by omega)
        · exact yk_turn hL rfl v3 hb (by omega) v1 lo.1 lo.2 (by omega) (by omega) (Or.inl ⟨rfl, hpb⟩) hA a0 a1 a2 (fun _ => ⟨by rw [hM1 p hpb, w1], by rw [hM2 p hpb, w2]⟩) (fun y => absurd rfl y) go
      · have epb : p = b := by omega
        have e1 : ck_q (ck_M1 L b l) b l p = l := if_neg hpb
        have e2 : ck_q (ck_M2 L b r) b r p = r := if_neg hpb
        refine br_t (by rw [h0, epb]) ?_
        unfold wY_cut_64
        refine br_f (by decide) ?_
        exact yk_turn hL rfl v3 hb (by omega) v1 lo.1 lo.2 (by omega) (by omega) (Or.inr ⟨by decide, epb⟩) hA a0 a1 a2 (fun y => absurd y (by decide)) (fun _ => ⟨by rw [h0, epb], by rw [h1, e1], by rw [h2, e2]⟩) go
    · have hpb : p < b := by
        refine Nat.not_le.mp fun z => hct ?_
        exact decide_eq_true (Or.inl z)
      have hneg : ¬ (¬ ck_M1 L b l p < 0 ∧ ¬ ck_M2 L b r p < 0) := fun z => hct (decide_eq_true (Or.inr z))
      unfold ck_one at nx
      rw [if_neg hct] at nx
      refine br_f (by rw [h0]; exact fun y => absurd (ib_inj (by omega) (by omega) y) (by omega)) ?_
      have x1 : (12 : Int32) + nI p = nI (12 + p) := ib_c p 12
      have x2 : (24 : Int32) + nI p = nI (24 + p) := ib_c p 24
      have J1 := nx gI gA gX hA a0 a1 a2
      unfold wY_cut_64
      refine br_t rfl ⟨by rw [x1]; exact vp_in_nI (by omega) (by omega), ?_⟩
      rw [x1, nI_clamp (n := 12 + p) (by omega), hM1 p hpb, x2, nI_clamp (n := 24 + p) (by omega), hM2 p hpb]
      refine br_c (fun _ => nm_r (nI_1 p) J1) (fun y => ⟨vp_in_nI (by omega) (by omega), br_f (fun q => hneg ⟨y, Int32.not_lt.mpr q⟩) (nm_r (nI_1 p) J1)⟩)
theorem yk_19 {post : Int32 → SY → Prop} (K : ∀ g, g 0 = yv 0 → g 1 = yv 0 → g 2 = yv 0 → ∃ n, wY_cut_39 post n 0 yC yK yT yU yE yD bL bS bH bC bO bN bM bI g bX bV) : ∃ n, wY_cut_19 post yC yK yT yU yE yD n 0 bL bS bH bC bO bN bM bI bA bX bV := by
  have v0 : vp_in (0 : Int32) 3 := vp_in_nI (n := 0) (by omega) (by omega)
  have v1 : vp_in (1 : Int32) 3 := vp_in_nI (n := 1) (by omega) (by omega)
  have v2 : vp_in (2 : Int32) 3 := vp_in_nI (n := 2) (by omega) (by omega)
  have m1 : (-1 : Int32) = yv 0 := by decide
  have fin := K (upd (upd (upd bA 0 (-1)) 1 (-1)) 2 (-1)) m1 m1 m1
  refine ⟨4, ?_⟩
  rw [wY_cut_19]
  refine br_f (by decide) ⟨v0, nm_r (e' := upd bA 0 (-1)) rfl (nm_r (e' := 1) (by decide) ?_)⟩
  rw [wY_cut_19]
  refine br_f (by decide) ⟨v1, nm_r (e' := upd (upd bA 0 (-1)) 1 (-1)) rfl (nm_r (e' := 2) (by decide) ?_)⟩
  rw [wY_cut_19]
  refine br_f (by decide) ⟨v2, nm_r (e' := upd (upd (upd bA 0 (-1)) 1 (-1)) 2 (-1)) rfl (nm_r (e' := 3) (by decide) ?_)⟩
  rw [wY_cut_19]
  exact br_t (by decide) fin
theorem yk_cut {post : Int32 → SY → Prop} (hL : ∀ i, i < 36 → bL i = L i) (hb : b ≤ 12) (hl : l ≤ 12) (hr : r ≤ 12) (h0 : bS 0 = nI b) (h1 : bS 1 = nI l) (h2 : bS 2 = nI r)
    (K : ∀ gT gC gO gN gM gI gA gX, yk_A gI (ck_t L b l r) (ck_n L b l r) → post (nI (ck_n L b l r)) (yC, yK, gT, nI (ck_n L b l r), yE, yD, bL, bS, bH, gC, gO, gN, gM, gI, gA, gX, bV)) : wpY_cut post (yC, yK, yT, yU, yE, yD, bL, bS, bH, bC, bO, bN, bM, bI, bA, bX, bV) := by
  unfold wpY_cut
  refine yw_script (sd := 1) hL hb hl (by omega) (by omega) h0 h1 (fun fC fO fN fM g1 g2 g3 => ?_)
  refine yw_script (sd := 2) hL hb hr (by omega) (by omega) h0 h2 (fun fC' fO' fN' fM' k1 k2 k3 => ?_)
  refine yk_19 (fun gA a0 a1 a2 => ⟨b + 2, ?_⟩)
  exact yk_39 hL hb hl hr h0 h1 h2 (fun p hp => by rw [k3 _ (by omega)]; exact g2 p hp) k2 (fun gI gA gX => K _ _ _ _ _ gI gA gX) (b + 1) 0 (b + 2) bI gA bX (by omega) (by omega) (fun c' h => absurd h (Nat.not_lt_zero _)) a0 a1 a2
end
end
section
/-! Y: the merged text, the open conflicts -/
theorem mg_allcg {L : Nat → Int32} {T : Nat → Nat → Nat} {ch ch' : Nat → Int32} : ∀ c, (∀ c', c' < c → ch c' = ch' c') → mg_all L T ch c = mg_all L T ch' c ∧ mg_open T ch c = mg_open T ch' c := by
  intro c
  induction c with
  | zero => exact fun _ => ⟨rfl, rfl⟩
  | succ c ih =>
    intro h
    obtain ⟨h1, h2⟩ := ih (fun c' hc' => h c' (by omega))
    rw [mg_all, mg_all, mg_open, mg_open, h1, h2, h c (by omega)]
    exact ⟨rfl, rfl⟩
section
variable {yC yK yT yU yE yD : Int32} {bL bS bH bC bO bN bM bI bA bX bV : Nat → Int32}
variable {L : Nat → Int32}
theorem ya_addL {post : SY → Prop} {ls : List Int32} {v : Int32} (hE : yE = nI ls.length) (hV : ls_A bV ls) (hl : (ls ++ [v]).length ≤ 64) (K : ∀ f, ls_A f (ls ++ [v]) → post (yC, yK, yT, yU, nI (ls ++ [v]).length, yD, bL, bS, bH, bC, bO, bN, bM, bI, bA, bX, f)) : wpY_add post (yC, yK, yT, yU, yE, yD, bL, bS, bH, bC, bO, bN, bM, bI, bA, bX, bV) v := by
  have e : (ls ++ [v]).length = ls.length + 1 := by simp
  rw [e] at hl
  rw [e] at K
  exact ya_add hE (by omega) (K _ (ls_add v hV))
theorem ym_put2 {post : SY → Prop} {ls : List Int32} {c tx x n : Nat} (hL : ∀ i, i < 36 → bL i = L i) (hc : c < 25) (htx : tx ≤ 2) (hx : x + n ≤ 12) (e1 : bI (8 * c + (1 + 2 * tx)) = nI x) (e2 : bI (8 * c + (2 + 2 * tx)) = nI n) (hl : (ls ++ mg_seg L (12 * tx + x) n).length ≤ 64)
    (K : ∀ f, ls_A f (ls ++ mg_seg L (12 * tx + x) n) → post (yC, yK, yT, yU, nI (ls ++ mg_seg L (12 * tx + x) n).length, yD, bL, bS, bH, bC, bO, bN, bM, bI, bA, bX, f)) :
    ∀ d k m f, k + d = n → d < m → ls_A f (ls ++ mg_seg L (12 * tx + x) k) → wY_put_2 post (nI c) (nI tx) m (nI k) yC yK yT yU (nI (ls ++ mg_seg L (12 * tx + x) k).length) yD bL bS bH bC bO bN bM bI bA bX f := by
  have x1 : nI c * 8 + 1 + 2 * nI tx = nI (8 * c + (1 + 2 * tx)) := by rw [ib_m8, nI_1, ib_2m, nI_add, Nat.add_assoc]
  have x2 : nI c * 8 + 2 + 2 * nI tx = nI (8 * c + (2 + 2 * tx)) := by
    rw [ib_m8, ib_2m, show (2 : Int32) = nI 2 from rfl, nI_add, nI_add, Nat.add_assoc]
  have w1 : vp_in (nI c * 8 + 1 + 2 * nI tx) 208 := by rw [x1]; exact vp_in_nI (by omega) (by omega)
  have w2 : vp_in (nI c * 8 + 2 + 2 * nI tx) 208 := by rw [x2]; exact vp_in_nI (by omega) (by omega)
  have r1 : bI (nI c * 8 + 1 + 2 * nI tx).toNatClampNeg = nI x := by rw [x1, nI_clamp (by omega), e1]
  have r2 : bI (nI c * 8 + 2 + 2 * nI tx).toNatClampNeg = nI n := by rw [x2, nI_clamp (by omega), e2]
  intro d
  induction d with
  | zero =>
    intro k m f hk hm hf
    obtain ⟨m, rfl⟩ : ∃ m', m = m' + 1 := ⟨m - 1, by omega⟩
    have e : k = n := by omega
    subst e
    rw [wY_put_2]
    exact ⟨w2, br_t (by rw [r2]; exact nI_le (Nat.le_refl _) (by omega)) (K f hf)⟩
  | succ d ih =>
    intro k m f hk hm hf
    obtain ⟨m, rfl⟩ : ∃ m', m = m' + 1 := ⟨m - 1, by omega⟩
    have e1 : ls ++ mg_seg L (12 * tx + x) (k + 1) = (ls ++ mg_seg L (12 * tx + x) k) ++ [L (12 * tx + x + k)] := by rw [mg_segS, List.append_assoc]
    have hl' : ((ls ++ mg_seg L (12 * tx + x) k) ++ [L (12 * tx + x + k)]).length ≤ 64 := by
      rw [← e1]
      rw [List.length_append, mg_segl] at hl ⊢
      omega
    have y1 : nI tx * 12 + bI (nI c * 8 + 1 + 2 * nI tx).toNatClampNeg + nI k = nI (12 * tx + x + k) := by rw [r1, ib_12, nI_add]
    rw [wY_put_2]
    refine ⟨w2, br_f (by rw [r2]; exact nI_ge (by omega) (by omega)) ⟨w1, by rw [y1]; exact vp_in_nI (by omega) (by omega), ?_⟩⟩
    rw [y1, nI_clamp (n := 12 * tx + x + k) (by omega), hL _ (by omega)]
    refine ya_addL rfl hf hl' (fun f' hf' => ?_)
    rw [← e1] at hf' ⊢
    exact nm_r (nI_1 k) (ih (k + 1) m f' (by omega) (by omega) hf')
theorem ym_put {post : SY → Prop} {ls : List Int32} {c tx x n : Nat} (hL : ∀ i, i < 36 → bL i = L i) (hc : c < 25) (htx : tx ≤ 2) (hx : x + n ≤ 12) (e1 : bI (8 * c + (1 + 2 * tx)) = nI x) (e2 : bI (8 * c + (2 + 2 * tx)) = nI n)
    (hE : yE = nI ls.length) (hV : ls_A bV ls) (hl : (ls ++ mg_seg L (12 * tx + x) n).length ≤ 64)
    (K : ∀ f, ls_A f (ls ++ mg_seg L (12 * tx + x) n) → post (yC, yK, yT, yU, nI (ls ++ mg_seg L (12 * tx + x) n).length, yD, bL, bS, bH, bC, bO, bN, bM, bI, bA, bX, f)) : wpY_put post (yC, yK, yT, yU, yE, yD, bL, bS, bH, bC, bO, bN, bM, bI, bA, bX, bV) (nI c) (nI tx) := by
  have z : ls ++ mg_seg L (12 * tx + x) 0 = ls := List.append_nil _
  subst hE
  have g : wY_put_2 post (nI c) (nI tx) (n + 1) (nI 0) yC yK yT yU (nI (ls ++ mg_seg L (12 * tx + x) 0).length) yD bL bS bH bC bO bN bM bI bA bX bV := ym_put2 hL hc htx hx e1 e2 hl K n 0 (n + 1) bV (by omega) (by omega) (by rw [z]; exact hV)
  rw [z] at g
  unfold wpY_put
  exact ⟨_, g⟩
section
variable {ls : List Int32} {c : Nat} {ro : Nat → Nat}
theorem ym_b {post : SY → Prop} (hL : ∀ i, i < 36 → bL i = L i) (hc : c < 25) (hx : ro 1 + ro 2 ≤ 12) (e : ∀ f, f < 7 → bI (8 * c + f) = nI (ro f)) (hE : yE = nI ls.length) (hV : ls_A bV ls) (hl : (ls ++ mg_b L ro).length ≤ 64)
    (K : ∀ a', ls_A a' (ls ++ mg_b L ro) → post (yC, yK, yT, yU, nI (ls ++ mg_b L ro).length, yD, bL, bS, bH, bC, bO, bN, bM, bI, bA, bX, a')) : wpY_put post (yC, yK, yT, yU, yE, yD, bL, bS, bH, bC, bO, bN, bM, bI, bA, bX, bV) (nI c) 0 := by
  have q : mg_b L ro = mg_seg L (12 * 0 + ro 1) (ro 2) := by unfold mg_b; rw [show 12 * 0 + ro 1 = ro 1 by omega]
  rw [q] at hl
  rw [q] at K
  exact ym_put (tx := 0) hL hc (by omega) hx (e 1 (by omega)) (e 2 (by omega)) hE hV hl K
theorem ym_l {post : SY → Prop} (hL : ∀ i, i < 36 → bL i = L i) (hc : c < 25) (hx : ro 3 + ro 4 ≤ 12) (e : ∀ f, f < 7 → bI (8 * c + f) = nI (ro f)) (hE : yE = nI ls.length) (hV : ls_A bV ls) (hl : (ls ++ mg_l L ro).length ≤ 64)
    (K : ∀ a', ls_A a' (ls ++ mg_l L ro) → post (yC, yK, yT, yU, nI (ls ++ mg_l L ro).length, yD, bL, bS, bH, bC, bO, bN, bM, bI, bA, bX, a')) : wpY_put post (yC, yK, yT, yU, yE, yD, bL, bS, bH, bC, bO, bN, bM, bI, bA, bX, bV) (nI c) 1 :=
  ym_put (tx := 1) hL hc (by omega) hx (e 3 (by omega)) (e 4 (by omega)) hE hV hl K
theorem ym_r {post : SY → Prop} (hL : ∀ i, i < 36 → bL i = L i) (hc : c < 25) (hx : ro 5 + ro 6 ≤ 12) (e : ∀ f, f < 7 → bI (8 * c + f) = nI (ro f)) (hE : yE = nI ls.length) (hV : ls_A bV ls) (hl : (ls ++ mg_r L ro).length ≤ 64)
    (K : ∀ a', ls_A a' (ls ++ mg_r L ro) → post (yC, yK, yT, yU, nI (ls ++ mg_r L ro).length, yD, bL, bS, bH, bC, bO, bN, bM, bI, bA, bX, a')) : wpY_put post (yC, yK, yT, yU, yE, yD, bL, bS, bH, bC, bO, bN, bM, bI, bA, bX, bV) (nI c) 2 :=
  ym_put (tx := 2) hL hc (by omega) hx (e 5 (by omega)) (e 6 (by omega)) hE hV hl K
theorem ym_62 {post : Int32 → SY → Prop} {Jn : _} {h : Int32} (hL : ∀ i, i < 36 → bL i = L i) (hc : c < 25) (h1 : ro 1 + ro 2 ≤ 12) (h2 : ro 3 + ro 4 ≤ 12) (h3 : ro 5 + ro 6 ≤ 12) (e : ∀ f, f < 7 → bI (8 * c + f) = nI (ro f)) (hE : yE = nI ls.length) (hV : ls_A bV ls) (hl : (ls ++ mg_cf L ro h).length ≤ 64)
    (K : ∀ a', ls_A a' (ls ++ mg_cf L ro h) → Jn (nI (c + 1)) yC yK yT yU (nI (ls ++ mg_cf L ro h).length) yD bL bS bH bC bO bN bM bI bA bX a') : wY_merge_62 post Jn (nI c) h yC yK yT yU yE yD bL bS bH bC bO bN bM bI bA bX bV := by
  unfold mg_cf at hl
  unfold mg_cf at K
  by_cases z0 : h = 0
  · rw [if_pos z0] at hl
    rw [if_pos z0] at K
    subst z0
    have q : ls ++ mg_mk L ro = ((((((ls ++ [-11]) ++ mg_l L ro) ++ [-12]) ++ mg_b L ro) ++ [-13]) ++ mg_r L ro) ++ [-14] := by
      unfold mg_mk
      simp only [List.append_assoc]
    rw [q] at hl
    rw [q] at K
    have lg : ∀ {a d : List Int32}, (a ++ d).length ≤ 64 → a.length ≤ 64 := fun h => by rw [List.length_append] at h; omega
    unfold wY_merge_62
    refine br_t rfl ?_
    unfold wY_merge_72
    refine br_f (by decide) ?_
    unfold wY_merge_84
    refine br_f (by decide) (ya_addL hE hV (lg (lg (lg (lg (lg (lg hl)))))) (fun a1 k1 => ?_))
    show wY_merge_97 post _ _ _ _ _ yC yK yT yU _ yD bL bS bH bC bO bN bM bI bA bX a1
    unfold wY_merge_97
    refine br_f (by decide) ?_
    unfold wY_merge_112
    refine ym_l hL hc h2 e rfl k1 (lg (lg (lg (lg (lg hl))))) (fun a2 k2 => ?_)
    show wY_merge_118 post _ _ _ _ _ yC yK yT yU _ yD bL bS bH bC bO bN bM bI bA bX a2
    unfold wY_merge_118
    refine br_f (by decide) (ya_addL rfl k2 (lg (lg (lg (lg hl)))) (fun a3 k3 => ?_))
    show wY_merge_129 post _ _ _ _ _ yC yK yT yU _ yD bL bS bH bC bO bN bM bI bA bX a3
    unfold wY_merge_129
    refine br_f (by decide) ?_
    unfold wY_merge_139
    refine ym_b hL hc h1 e rfl k3 (lg (lg (lg hl))) (fun a4 k4 => ?_)
    show wY_merge_145 post _ _ _ _ _ yC yK yT yU _ yD bL bS bH bC bO bN bM bI bA bX a4
    unfold wY_merge_145
    refine br_f (by decide) (ya_addL rfl k4 (lg (lg hl)) (fun a5 k5 => ?_))
    show wY_merge_156 post _ _ _ _ _ yC yK yT yU _ yD bL bS bH bC bO bN bM bI bA bX a5
    unfold wY_merge_156
    refine br_f (by decide) ?_
    unfold wY_merge_171
    refine ym_r hL hc h3 e rfl k5 (lg hl) (fun a6 k6 => ?_)
    show wY_merge_177 post _ _ _ yC yK yT yU _ yD bL bS bH bC bO bN bM bI bA bX a6
    unfold wY_merge_177
    exact br_f (by decide) (ya_addL rfl k6 hl (fun a7 k7 => nm_r (nI_1 c) (K a7 k7)))
  · rw [if_neg z0] at hl
    rw [if_neg z0] at K
    have j177 : ∀ (f : Nat → Int32) (m : Int32), Jn (nI (c + 1)) yC yK yT yU m yD bL bS bH bC bO bN bM bI bA bX f → wY_merge_177 post Jn (nI c) 0 yC yK yT yU m yD bL bS bH bC bO bN bM bI bA bX f := by
      intro f m hJ
      unfold wY_merge_177
      exact br_t rfl (nm_r (nI_1 c) hJ)
    unfold wY_merge_62
    refine br_f z0 ?_
    unfold wY_merge_72
    by_cases z3 : h = 3
    · rw [if_pos z3] at hl
      rw [if_pos z3] at K
      subst z3
      refine br_f (by decide) ?_
      unfold wY_merge_84
      refine br_t rfl ?_
      unfold wY_merge_97
      refine br_t rfl (br_t rfl (br_f (by decide) ?_))
      unfold wY_merge_118
      refine br_t rfl ?_
      unfold wY_merge_129
      refine br_t rfl (br_t rfl ?_)
      unfold wY_merge_139
      refine ym_b hL hc h1 e hE hV hl (fun a4 k4 => ?_)
      show wY_merge_145 post _ _ _ _ _ yC yK yT yU _ yD bL bS bH bC bO bN bM bI bA bX a4
      unfold wY_merge_145
      refine br_t rfl ?_
      unfold wY_merge_156
      exact br_t rfl (br_t rfl (br_f (by decide) (j177 _ _ (K a4 k4))))
    · rw [if_neg z3] at hl
      rw [if_neg z3] at K
      by_cases z1 : h = 1
      · rw [if_pos z1] at hl
        rw [if_pos z1] at K
        subst z1
        refine br_f (by decide) ?_
        unfold wY_merge_84
        refine br_t rfl ?_
        unfold wY_merge_97
        refine br_t rfl (br_t rfl (br_t rfl ?_))
        unfold wY_merge_112
        refine ym_l hL hc h2 e hE hV hl (fun a4 k4 => ?_)
        show wY_merge_118 post _ _ _ _ _ yC yK yT yU _ yD bL bS bH bC bO bN bM bI bA bX a4
        unfold wY_merge_118
        refine br_t rfl ?_
        unfold wY_merge_129
        refine br_t rfl (br_f (by decide) ?_)
        unfold wY_merge_145
        refine br_t rfl ?_
        unfold wY_merge_156
        exact br_t rfl (br_t rfl (br_f (by decide) (j177 _ _ (K a4 k4))))
      · rw [if_neg z1] at hl
        rw [if_neg z1] at K
        by_cases z4 : h = 4
        · rw [if_pos z4, ← List.append_assoc] at hl
          rw [if_pos z4, ← List.append_assoc] at K
          subst z4
          refine br_t rfl ?_
          unfold wY_merge_84
          refine br_t rfl ?_
          unfold wY_merge_97
          refine br_t rfl (br_f (by decide) ?_)
          unfold wY_merge_112
          refine ym_l hL hc h2 e hE hV (by rw [List.length_append] at hl; omega) (fun a4 k4 => ?_)
          show wY_merge_118 post _ _ _ _ _ yC yK yT yU _ yD bL bS bH bC bO bN bM bI bA bX a4
          unfold wY_merge_118
          refine br_t rfl ?_
          unfold wY_merge_129
          refine br_t rfl (br_f (by decide) ?_)
          unfold wY_merge_145
          refine br_t rfl ?_
          unfold wY_merge_156
          refine br_t rfl (br_f (by decide) ?_)
          unfold wY_merge_171
          exact ym_r hL hc h3 e rfl k4 hl (fun a5 k5 => j177 _ _ (K a5 k5))
        · rw [if_neg z4] at hl
          rw [if_neg z4] at K
          refine br_f z4 ?_
          unfold wY_merge_84
          refine br_t rfl ?_
          unfold wY_merge_97
          refine br_t rfl (br_t rfl (br_f z1 ?_))
          unfold wY_merge_118
          refine br_t rfl ?_
          unfold wY_merge_129
          refine br_t rfl (br_f z3 ?_)
          unfold wY_merge_145
          refine br_t rfl ?_
          unfold wY_merge_156
          refine br_t rfl (br_t rfl ?_)
          by_cases z2 : h = 2
          · rw [if_pos z2] at hl
            rw [if_pos z2] at K
            refine br_t z2 ?_
            unfold wY_merge_171
            exact ym_r hL hc h3 e hE hV hl (fun a5 k5 => j177 _ _ (K a5 k5))
          · rw [if_neg z2, List.append_nil] at K
            subst hE
            exact br_f z2 (j177 _ _ (K bV hV))
end
section
variable {T : Nat → Nat → Nat} {N : Nat}
theorem ym_12 {post : Int32 → SY → Prop} (hL : ∀ i, i < 36 → bL i = L i) (hN : N ≤ 25) (hU : yU = nI N) (hA : yk_A bI T N) (hr : ck_rows 12 12 12 N T) (hE : ck_E T N ≤ 64)
    (K : ∀ a', ls_A a' (mg_all L T bH N) → post (nI (mg_all L T bH N).length) (yC, yK, yT, yU, nI (mg_all L T bH N).length, yD, bL, bS, bH, bC, bO, bN, bM, bI, bA, bX, a')) :
    ∀ d c m f, c + d = N → d < m → ls_A f (mg_all L T bH c) → wY_merge_12 post m (nI c) yC yK yT yU (nI (mg_all L T bH c).length) yD bL bS bH bC bO bN bM bI bA bX f := by
  subst hU
  intro d
  induction d with
  | zero =>
    intro c m f hc hm hf
    obtain ⟨m, rfl⟩ : ∃ m', m = m' + 1 := ⟨m - 1, by omega⟩
    have e : c = N := by omega
    subst e
    rw [wY_merge_12]
    exact br_t (nI_le (Nat.le_refl _) (by omega)) (K f hf)
  | succ d ih =>
    intro c m f hc hm hf
    obtain ⟨m, rfl⟩ : ∃ m', m = m' + 1 := ⟨m - 1, by omega⟩
    have e := hA c (by omega)
    obtain ⟨r1, r2, r3, r4⟩ := hr c (by omega)
    have hl : (mg_all L T bH (c + 1)).length ≤ 64 := Nat.le_trans (Nat.le_trans (mg_allmono L T bH (by omega : c + 1 ≤ N)) (mg_alll L T bH N)) hE
    have nx := fun f' => ih (c + 1) m f' (by omega) (by omega)
    rw [mg_all] at hl
    have e1 : mg_all L T bH (c + 1) = mg_all L T bH c ++ mg_ch L (T c) (bH c) := rfl
    rw [e1] at nx
    have ex : nI c * 8 = nI (8 * c + 0) := ib_m8 c
    have go : ∀ h : Int32, mg_ch L (T c) (bH c) = mg_cf L (T c) h → wY_merge_62 post (wY_merge_12 post m) (nI c) h yC yK yT (nI N) (nI (mg_all L T bH c).length) yD bL bS bH bC bO bN bM bI bA bX f := by
      intro h q
      rw [q] at hl nx
      exact ym_62 hL (by omega) r1 r2 r3 e rfl hf hl nx
    unfold mg_ch at go
    rw [wY_merge_12]
    refine br_f (nI_ge (by omega) (by omega)) ⟨by rw [ex]; exact vp_in_nI (by omega) (by omega), nm_r (e' := nI (T c 0)) (by rw [ex, nI_clamp (by omega), e 0 (by omega)]) ?_⟩
    by_cases k4 : T c 0 = 4
    · rw [if_pos k4] at go
      refine br_t (by rw [k4]; rfl) ⟨vp_in_nI (by omega) (by omega), ?_⟩
      rw [nI_clamp (by omega)]
      exact go _ rfl
    · rw [if_neg k4] at go
      refine br_f (fun z => k4 (ib_inj (by omega) (by decide) (b := 4) z)) ?_
      by_cases k0 : T c 0 = 0
      · rw [if_pos k0] at go
        exact br_t (by rw [k0]; rfl) (go 3 rfl)
      · rw [if_neg k0] at go
        refine br_f (fun z => k0 (ib_inj (by omega) (by decide) (b := 0) z)) ?_
        by_cases k2 : T c 0 = 2
        · rw [if_pos k2] at go
          exact br_t (by rw [k2]; rfl) (go 2 rfl)
        · rw [if_neg k2] at go
          exact br_f (fun z => k2 (ib_inj (by omega) (by decide) (b := 2) z)) (go 1 rfl)
theorem ym_open9 {post : Int32 → SY → Prop} (hN : N ≤ 25) (hA : yk_A bI T N) (hr : ck_rows 12 12 12 N T) (K : post (nI (mg_open T bH N)) (yC, yK, yT, yU, yE, yD, bL, bS, bH, bC, bO, bN, bM, bI, bA, bX, bV)) :
    ∀ d c m, c + d = N → d < m → wY_conflicts_9 post (nI N) yC yK yT yU yE yD bL bS bH bC bO bN bM bI bA bX bV m (nI (mg_open T bH c)) (nI c) := by
  intro d
  induction d with
  | zero =>
    intro c m hc hm
    obtain ⟨m, rfl⟩ : ∃ m', m = m' + 1 := ⟨m - 1, by omega⟩
    have e : c = N := by omega
    subst e
    rw [wY_conflicts_9]
    exact br_t (nI_le (Nat.le_refl _) (by omega)) (br_t (nI_pos' (by omega)) K)
  | succ d ih =>
    intro c m hc hm
    obtain ⟨m, rfl⟩ : ∃ m', m = m' + 1 := ⟨m - 1, by omega⟩
    have e := hA c (by omega)
    obtain ⟨r1, r2, r3, r4⟩ := hr c (by omega)
    have nx := ih (c + 1) m (by omega) (by omega)
    have ex : nI c * 8 = nI (8 * c + 0) := ib_m8 c
    rw [mg_open] at nx
    rw [wY_conflicts_9]
    refine br_f (nI_ge (by omega) (by omega)) ⟨by rw [ex]; exact vp_in_nI (by omega) (by omega), ?_⟩
    rw [ex, nI_clamp (by omega), e 0 (by omega)]
    by_cases k4 : T c 0 = 4
    · refine br_t (by rw [k4]; rfl) ⟨vp_in_nI (by omega) (by omega), ?_⟩
      rw [nI_clamp (by omega)]
      by_cases z : bH c = 0
      · rw [if_pos ⟨k4, z⟩] at nx
        exact br_t z (nm_r (nI_1 _) (nm_r (nI_1 _) nx))
      · rw [if_neg (fun y => z y.2)] at nx
        exact br_f z (nm_r (nI_1 _) nx)
    · rw [if_neg (fun y => k4 y.1)] at nx
      exact br_f (fun z => k4 (ib_inj (by omega) (by decide) (b := 4) z)) (nm_r (nI_1 _) nx)
end
section
variable {b l r : Nat}
theorem ym_merge {post : Int32 → SY → Prop} (hL : ∀ i, i < 36 → bL i = L i) (hb : b ≤ 12) (hl : l ≤ 12) (hr : r ≤ 12) (h0 : bS 0 = nI b) (h1 : bS 1 = nI l) (h2 : bS 2 = nI r)
    (K : ∀ gT gE gC gO gN gM gI gA gX gV, ls_A gV (mg_all L (ck_t L b l r) bH (ck_n L b l r)) → post (nI (mg_all L (ck_t L b l r) bH (ck_n L b l r)).length) (yC, yK, gT, nI (ck_n L b l r), gE, yD, bL, bS, bH, gC, gO, gN, gM, gI, gA, gX, gV)) : wpY_merge post (yC, yK, yT, yU, yE, yD, bL, bS, bH, bC, bO, bN, bM, bI, bA, bX, bV) := by
  obtain ⟨f1, f2, f3⟩ := ck_facts (L := L) hb hl hr
  have f2 := ck_rows12 hb hl hr f2
  unfold wpY_merge
  refine yk_cut hL hb hl hr h0 h1 h2 (fun gT gC gO gN gM gI gA gX hI => ⟨ck_n L b l r + 1, ?_⟩)
  exact ym_12 hL f1 rfl hI f2 f3 (fun gV hV => K _ _ _ _ _ _ _ _ _ _ hV) (ck_n L b l r) 0 (ck_n L b l r + 1) bV (by omega) (by omega) (ls_nil _)
theorem ym_count {post : Int32 → SY → Prop} (hD : yD = 1) (hL : ∀ i, i < 36 → bL i = L i) (hb : b ≤ 12) (hl : l ≤ 12) (hr : r ≤ 12) (h0 : bS 0 = nI b) (h1 : bS 1 = nI l) (h2 : bS 2 = nI r)
    (K : ∀ gT gC gO gN gM gI gA gX, yk_A gI (ck_t L b l r) (ck_n L b l r) → post (nI (ck_n L b l r)) (yC, yK, gT, nI (ck_n L b l r), yE, yD, bL, bS, bH, gC, gO, gN, gM, gI, gA, gX, bV)) : wpY_chunkCount post (yC, yK, yT, yU, yE, yD, bL, bS, bH, bC, bO, bN, bM, bI, bA, bX, bV) := by
  unfold wpY_chunkCount
  exact br_f (by rw [hD]; decide) (yk_cut hL hb hl hr h0 h1 h2 K)
theorem ym_conf {post : Int32 → SY → Prop} (hD : yD = 1) (hL : ∀ i, i < 36 → bL i = L i) (hb : b ≤ 12) (hl : l ≤ 12) (hr : r ≤ 12) (h0 : bS 0 = nI b) (h1 : bS 1 = nI l) (h2 : bS 2 = nI r)
    (K : ∀ gT gC gO gN gM gI gA gX, post (nI (mg_open (ck_t L b l r) bH (ck_n L b l r))) (yC, yK, gT, nI (ck_n L b l r), yE, yD, bL, bS, bH, gC, gO, gN, gM, gI, gA, gX, bV)) : wpY_conflicts post (yC, yK, yT, yU, yE, yD, bL, bS, bH, bC, bO, bN, bM, bI, bA, bX, bV) := by
  obtain ⟨f1, f2, f3⟩ := ck_facts (L := L) hb hl hr
  have f2 := ck_rows12 hb hl hr f2
  unfold wpY_conflicts
  refine ym_count hD hL hb hl hr h0 h1 h2 (fun gT gC gO gN gM gI gA gX hI => ⟨ck_n L b l r + 1, ?_⟩)
  exact ym_open9 f1 hI f2 (K _ _ _ _ _ _ _ _) (ck_n L b l r) 0 (ck_n L b l r + 1) (by omega) (by omega)
theorem ym_cmp2 {post : Int32 → SY → Prop} (K : ∀ g, (∀ c, c < 26 → g c = 0) → wpY_conflicts post (yC, yK, yT, yU, yE, 1, bL, bS, g, bC, bO, bN, bM, bI, bA, bX, bV)) :
    ∀ d c n g, c + d = 26 → d < n → (∀ c', c' < c → g c' = 0) → wY_compare_2 post yC yK yT yU yE yD n (nI c) bL bS g bC bO bN bM bI bA bX bV := by
  intro d
  induction d with
  | zero =>
    intro c n g hc hn hg
    obtain ⟨n, rfl⟩ : ∃ m', n = m' + 1 := ⟨n - 1, by omega⟩
    rw [wY_compare_2]
    exact br_t (nI_le (a := 26) (by omega) (by omega)) (K g (fun c' h => hg c' (by omega)))
  | succ d ih =>
    intro c n g hc hn hg
    obtain ⟨n, rfl⟩ : ∃ m', n = m' + 1 := ⟨n - 1, by omega⟩
    rw [wY_compare_2]
    refine br_f (nI_ge (b := 26) (by omega) (by decide)) ⟨vp_in_nI (by omega) (by omega), nm_r (e' := upd g c 0) (by rw [nI_clamp (by omega)]) (nm_r (nI_1 c) (ih (c + 1) n _ (by omega) (by omega) (fun c' hc' => ?_)))⟩
    by_cases e : c' = c
    · rw [e, pk_us]
    · rw [pk_un e]
      exact hg c' (by omega)
theorem ym_compare {post : Int32 → SY → Prop} (hL : ∀ i, i < 36 → bL i = L i) (hb : b ≤ 12) (hl : l ≤ 12) (hr : r ≤ 12) (h0 : bS 0 = nI b) (h1 : bS 1 = nI l) (h2 : bS 2 = nI r)
    (K : ∀ gT gH gC gO gN gM gI gA gX, (∀ c, c < 26 → gH c = 0) → post (nI (mg_open (ck_t L b l r) gH (ck_n L b l r))) (yC, yK, gT, nI (ck_n L b l r), yE, 1, bL, bS, gH, gC, gO, gN, gM, gI, gA, gX, bV)) : wpY_compare post (yC, yK, yT, yU, yE, yD, bL, bS, bH, bC, bO, bN, bM, bI, bA, bX, bV) := by
  unfold wpY_compare
  refine ⟨27, ym_cmp2 (fun g hg => ?_) 26 0 27 bH (by omega) (by omega) (fun c' h => by omega)⟩
  exact ym_conf rfl hL hb hl hr h0 h1 h2 (fun gT gC gO gN gM gI gA gX => K _ _ _ _ _ _ _ _ _ hg)
end
end
end
section
/-! Y: apply -/
section
variable {yC yK yT yU yE yD : Int32} {bL bS bH bC bO bN bM bI bA bX bV : Nat → Int32}
variable {O F P : Nat → Nat} {l : Nat → Int32} {N x ad tk w : Nat} {v3 : Int32}
theorem yq_T {F : Nat → Nat} {t : Nat} (hv : -12 ≤ v3.toInt ∧ v3.toInt ≤ 12) (hF : F t ≤ 24) : (v3 + nI (F t)).toInt = (F t : Int) + v3.toInt := by
  rw [ib_addT (by omega) (by rw [nI_toInt (by omega)]; omega), nI_toInt (by omega)]
  omega
theorem yq_248 {post : Int32 → SY → Prop} {Jn : _} {t : Nat} {x5 x7 x8 : Int32} (ht : t < N) (hN : N ≤ 24) (hO3 : ∀ u, O u = 0 ∨ O u = 1 ∨ O u = 2) (had : ad ≤ 2) (hO : ∀ u, u < N → bO u = nI (O u)) (hF : ∀ u, F (u + 1) = F u + (if O u = ad then 0 else 1))
    (K : Jn (v3 + nI (F (t + 1))) x7 x8 (nI (t + 1)) yC yK yT yU yE yD bL bS bH bC bO bN bM bI bA bX bV) : wY_apply_248 post Jn (nI ad) x5 (v3 + nI (F t)) x7 x8 (nI t) yC yK yT yU yE yD bL bS bH bC bO bN bM bI bA bX bV := by
  have o3 := hO3 t
  rw [hF t] at K
  unfold wY_apply_248
  refine ⟨vp_in_nI (by omega) (by omega), pk_eq (O t) ad (fun z => ?_) (fun z => ?_) (by rw [nI_clamp (by omega), hO t ht])⟩
  · rw [if_pos z] at K
    exact nm_r (nI_1 t) K
  · rw [if_neg z] at K
    exact nm_r (by rw [Int32.add_assoc, nI_1]) (nm_r (nI_1 t) K)
theorem yq_216 {post : Int32 → SY → Prop} {Jn : _} {t : Nat} {x7 x8 : Int32} {ls : List Int32} (ht : t < N) (hN : N ≤ 24) (hx : x ≤ 3) (hT : yT = nI N) (hK : yK = nI x) (hO3 : ∀ u, O u = 0 ∨ O u = 1 ∨ O u = 2) (had : ad ≤ 2) (htk : tk ≤ 2) (hO : ∀ u, u < N → bO u = nI (O u)) (hl : ∀ u, u < N → bN u = l u) (hF : ∀ u, F (u + 1) = F u + (if O u = ad then 0 else 1))
    (hE : yE = nI ls.length) (hV : ls_A bV ls) (hls : ls.length ≤ 50)
    (K : ∀ f, ls_A f (ls ++ ap_o (sh_s O N x) O l tk t) → Jn (v3 + nI (F (t + 1))) x7 x8 (nI (t + 1)) yC yK yT yU (nI (ls ++ ap_o (sh_s O N x) O l tk t).length) yD bL bS bH bC bO bN bM bI bA bX f) : wY_apply_216 post Jn (nI ad) (nI tk) (v3 + nI (F t)) x7 x8 (nI t) yC yK yT yU yE yD bL bS bH bC bO bN bM bI bA bX bV := by
  have o3 := hO3 t
  have w : vp_in (nI t) 24 := vp_in_nI (by omega) (by omega)
  have ct : (nI t).toNatClampNeg = t := nI_clamp (by omega)
  unfold ap_o at K
  unfold wY_apply_216
  refine ys_shown hN hx (by omega) hT hK hO3 hO (fun hs => br_f (by decide) ⟨w, ?_⟩) (fun hs => br_t rfl ?_)
  · rw [ct, hO t ht]
    refine pk_eq (O t) tk (fun z => ?_) (fun z => ⟨w, ?_⟩)
    · rw [if_neg (fun y => y.2 z), List.append_nil] at K
      subst hE
      exact yq_248 ht hN hO3 had hO hF (K bV hV)
    · rw [if_pos ⟨hs, z⟩] at K
      rw [hl t ht]
      refine ya_addL hE hV (by rw [List.length_append]; exact Nat.le_trans (Nat.add_le_add_right hls 1) (by decide)) (fun f hf => ?_)
      exact yq_248 ht hN hO3 had hO hF (K f hf)
  · rw [if_neg (fun y => by rw [hs] at y; exact absurd y.1 (by decide)), List.append_nil] at K
    subst hE
    exact yq_248 ht hN hO3 had hO hF (K bV hV)
/-- a step that isn't shown -/
theorem yq_155n {post : Int32 → SY → Prop} {Jn : _} {t : Nat} {x7 x8 : Int32} {ls : List Int32} (ht : t < N) (hN : N ≤ 24) (hx : x ≤ 3) (hT : yT = nI N) (hK : yK = nI x) (hO3 : ∀ u, O u = 0 ∨ O u = 1 ∨ O u = 2) (had : ad ≤ 2) (htk : tk ≤ 2) (hO : ∀ u, u < N → bO u = nI (O u)) (hl : ∀ u, u < N → bN u = l u) (hF : ∀ u, F (u + 1) = F u + (if O u = ad then 0 else 1))
    (hE : yE = nI ls.length) (hV : ls_A bV ls) (hls : ls.length ≤ 50) (hs : sh_s O N x t = false)
    (K : ∀ f, ls_A f (ls ++ ap_o (sh_s O N x) O l tk t) → Jn (v3 + nI (F (t + 1))) x7 x8 (nI (t + 1)) yC yK yT yU (nI (ls ++ ap_o (sh_s O N x) O l tk t).length) yD bL bS bH bC bO bN bM bI bA bX f) : wY_apply_155 post Jn (nI ad) (nI tk) (v3 + nI (F t)) x7 x8 (nI t) yC yK yT yU yE yD bL bS bH bC bO bN bM bI bA bX bV := by
  unfold wY_apply_155
  exact ys_shown hN hx (by omega) hT hK hO3 hO (fun z => by rw [hs] at z; cases z) (fun _ => br_t rfl (yq_216 ht hN hx hT hK hO3 had htk hO hl hF hE hV hls K))
/-- a shown step: r1 stands at its place -/
theorem yq_155s {post : Int32 → SY → Prop} {Jn : _} {t r1 : Nat} {x8 : Int32} {ls : List Int32} (ht : t < N) (hN : N ≤ 24) (hx : x ≤ 3) (hw : w ≤ 12) (hS3 : bS 3 = nI w) (hT : yT = nI N) (hK : yK = nI x) (hO3 : ∀ u, O u = 0 ∨ O u = 1 ∨ O u = 2) (had : ad ≤ 2) (htk : tk ≤ 2) (hO : ∀ u, u < N → bO u = nI (O u)) (hl : ∀ u, u < N → bN u = l u) (hF : ∀ u, F (u + 1) = F u + (if O u = ad then 0 else 1)) (hFt : F t ≤ 24)
    (hv : -12 ≤ v3.toInt ∧ v3.toInt ≤ 12) (hE : yE = nI ls.length) (hV : ls_A bV ls) (hls : ls.length ≤ 50) (hs : sh_s O N x t = true) (hr : (r1 : Int) = (F t : Int) + v3.toInt)
    (KN : (O t ≠ ad ∧ ¬ ((F t : Int) + v3.toInt < w ∧ ap_W bL ((F t : Int) + v3.toInt).toNat = l t)) → post (-4) (yC, yK, yT, yU, yE, yD, bL, bS, bH, bC, bO, bN, bM, bI, bA, bX, bV))
    (K : (O t ≠ ad → (F t : Int) + v3.toInt < w ∧ ap_W bL ((F t : Int) + v3.toInt).toNat = l t) → ∀ f, ls_A f (ls ++ ap_o (sh_s O N x) O l tk t) → Jn (v3 + nI (F (t + 1))) (nI (if O t = ad then r1 else r1 + 1)) x8 (nI (t + 1)) yC yK yT yU (nI (ls ++ ap_o (sh_s O N x) O l tk t).length) yD bL bS bH bC bO bN bM bI bA bX f) : wY_apply_155 post Jn (nI ad) (nI tk) (v3 + nI (F t)) (nI r1) x8 (nI t) yC yK yT yU yE yD bL bS bH bC bO bN bM bI bA bX bV := by
  have o3 := hO3 t
  have wt : vp_in (nI t) 24 := vp_in_nI (by omega) (by omega)
  have ct : (nI t).toNatClampNeg = t := nI_clamp (by omega)
  have tp := yq_T (F := F) (t := t) hv hFt
  have pl : v3 + nI (F t) = nI r1 := ib_ofT (by rw [tp]; omega) (by omega)
  unfold wY_apply_155
  refine ys_shown hN hx (by omega) hT hK hO3 hO (fun _ => br_f (by decide) ⟨wt, ?_⟩) (fun z => by rw [hs] at z; cases z)
  rw [ct, hO t ht]
  refine pk_eq (O t) ad (fun z => ?_) (fun z => ?_)
  · have K := K (fun y => absurd z y)
    rw [if_pos z] at K
    exact yq_216 ht hN hx hT hK hO3 had htk hO hl hF hE hV hls K
  · have er : ((F t : Int) + v3.toInt).toNat = r1 := by omega
    refine pk_le w r1 (fun y => KN ⟨z, fun q => by omega⟩) (fun y => ?_) hS3 pl
    have x36 : (36 : Int32) + (v3 + nI (F t)) = nI (36 + r1) := by rw [pl]; exact ib_c _ 36
    refine ⟨by rw [x36]; exact vp_in_nI (by omega) (by omega), wt, ?_⟩
    rw [x36, nI_clamp (n := 36 + r1) (by omega), hl t ht]
    refine br_c (fun q => nm_r (e' := nI (r1 + 1)) (by rw [pl, nI_1]) ?_) (fun q => KN ⟨z, fun q2 => q ?_⟩)
    · have K := K (fun _ => ⟨by omega, by rw [er]; exact q⟩)
      rw [if_neg z] at K
      exact yq_216 ht hN hx hT hK hO3 had htk hO hl hF hE hV hls K
    · have q3 := q2.2
      rw [er] at q3
      exact q3
/-- the lines in front of a hunk -/
theorem yq_125 {post : Int32 → SY → Prop} {Jn : _} {t fr to k : Nat} {x4 x5 : Int32} {ls : List Int32} (hfr : fr ≤ 12) (hto : to ≤ 12) (hft : fr ≤ to) (hls : ls.length ≤ 30) {x6 : Int32} (hx6 : x6 = nI to)
    (K : ∀ f, ls_A f (ls ++ mg_seg (ap_W bL) fr (to - fr)) → wY_apply_155 post Jn x4 x5 x6 (nI to) (nI (k + 1)) (nI t) yC yK yT yU (nI (ls ++ mg_seg (ap_W bL) fr (to - fr)).length) yD bL bS bH bC bO bN bM bI bA bX f) :
    ∀ d i n f, i + d = to - fr → d < n → ls_A f (ls ++ mg_seg (ap_W bL) fr i) → wY_apply_125 post Jn x4 x5 x6 (nI k) (nI t) n (nI (fr + i)) yC yK yT yU (nI (ls ++ mg_seg (ap_W bL) fr i).length) yD bL bS bH bC bO bN bM bI bA bX f := by
  subst hx6
  intro d
  induction d with
  | zero =>
    intro i n f hi hn hf
    obtain ⟨n, rfl⟩ : ∃ m', n = m' + 1 := ⟨n - 1, by omega⟩
    have e : i = to - fr := by omega
    subst e
    have e2 : fr + (to - fr) = to := by omega
    rw [wY_apply_125, e2]
    exact br_t (nI_le (Nat.le_refl _) (by omega)) (nm_r (nI_1 k) (K f hf))
  | succ d ih =>
    intro i n f hi hn hf
    obtain ⟨n, rfl⟩ : ∃ m', n = m' + 1 := ⟨n - 1, by omega⟩
    have e1 : ls ++ mg_seg (ap_W bL) fr (i + 1) = (ls ++ mg_seg (ap_W bL) fr i) ++ [ap_W bL (fr + i)] := by rw [mg_segS, List.append_assoc]
    have hl' : ((ls ++ mg_seg (ap_W bL) fr i) ++ [ap_W bL (fr + i)]).length ≤ 64 := by
      rw [← e1, List.length_append, mg_segl]
      omega
    have x1 : (36 : Int32) + nI (fr + i) = nI (36 + (fr + i)) := ib_c _ 36
    rw [wY_apply_125]
    refine br_f (nI_ge (by omega) (by omega)) ⟨by rw [x1]; exact vp_in_nI (by omega) (by omega), ?_⟩
    rw [x1, nI_clamp (n := 36 + (fr + i)) (by omega)]
    refine ya_addL rfl hf hl' (fun f' hf' => ?_)
    have q := ih (i + 1) n f' (by omega) (by omega)
    rw [e1] at q
    exact nm_r (nI_1 _) (q hf')
theorem yq_317 {post : Int32 → SY → Prop} {ls : List Int32} {x8 : Int32} (hl : ls.length ≤ 12) (hE : yE = nI ls.length) (hV : ls_A bV ls) (K : post x8 (yC, yK, yT, yU, yE, yD, ap_wr bL ls ls.length, upd bS 3 (nI ls.length), bH, bC, bO, bN, bM, bI, bA, bX, bV)) :
    ∀ d p n, p + d = ls.length → d < n → wY_apply_317 post x8 yC yK yT yU yE yD n (nI p) (ap_wr bL ls p) bS bH bC bO bN bM bI bA bX bV := by
  subst hE
  intro d
  induction d with
  | zero =>
    intro p n hp hn
    obtain ⟨n, rfl⟩ : ∃ m', n = m' + 1 := ⟨n - 1, by omega⟩
    have e : p = ls.length := by omega
    subst e
    rw [wY_apply_317]
    exact br_t (nI_le (Nat.le_refl _) (by omega)) (nm_e K)
  | succ d ih =>
    intro p n hp hn
    obtain ⟨n, rfl⟩ : ∃ m', n = m' + 1 := ⟨n - 1, by omega⟩
    have x1 : (36 : Int32) + nI p = nI (36 + p) := ib_c _ 36
    rw [wY_apply_317]
    refine br_f (nI_ge (by omega) (by omega)) ⟨vp_in_nI (by omega) (by omega), by rw [x1]; exact vp_in_nI (by omega) (by omega), ?_⟩
    rw [x1, nI_clamp (n := 36 + p) (by omega), nI_clamp (n := p) (by omega), hV p (by omega), ap_wrS]
    exact nm_e (nm_r (nI_1 p) (ih (p + 1) n (by omega) (by omega)))
theorem yq_269 {post : Int32 → SY → Prop} {ls : List Int32} {x8 : Int32} {r cap : Nat} (hr : r ≤ w) (hw : w ≤ 12) (hcap : cap ≤ 12) (hC : yC = nI cap) (hS3 : bS 3 = nI w) (hls : ls.length ≤ 30)
    (KF : cap < (ls ++ mg_seg (ap_W bL) r (w - r)).length → ∀ gE gV, post (-2) (yC, yK, yT, yU, gE, yD, bL, bS, bH, bC, bO, bN, bM, bI, bA, bX, gV))
    (KO : (ls ++ mg_seg (ap_W bL) r (w - r)).length ≤ cap → ∀ gE gV, post x8 (yC, yK, yT, yU, gE, yD, ap_wr bL (ls ++ mg_seg (ap_W bL) r (w - r)) (ls ++ mg_seg (ap_W bL) r (w - r)).length, upd bS 3 (nI (ls ++ mg_seg (ap_W bL) r (w - r)).length), bH, bC, bO, bN, bM, bI, bA, bX, gV)) :
    ∀ d i n f, i + d = w - r → d < n → ls_A f (ls ++ mg_seg (ap_W bL) r i) → wY_apply_269 post x8 n (nI (r + i)) yC yK yT yU (nI (ls ++ mg_seg (ap_W bL) r i).length) yD bL bS bH bC bO bN bM bI bA bX f := by
  subst hC
  intro d
  induction d with
  | zero =>
    intro i n f hi hn hf
    obtain ⟨n, rfl⟩ : ∃ m', n = m' + 1 := ⟨n - 1, by omega⟩
    have e : i = w - r := by omega
    subst e
    have e2 : r + (w - r) = w := by omega
    have ll : (ls ++ mg_seg (ap_W bL) r (w - r)).length ≤ 64 := by
      rw [List.length_append, mg_segl]
      omega
    rw [wY_apply_269, e2]
    refine br_t (by rw [hS3]; exact nI_le (Nat.le_refl _) (by omega)) (pk_le (ls ++ mg_seg (ap_W bL) r (w - r)).length cap (fun z => ?_) (fun z => KF z _ _))
    have q : wY_apply_317 post x8 (nI cap) yK yT yU (nI (ls ++ mg_seg (ap_W bL) r (w - r)).length) yD ((ls ++ mg_seg (ap_W bL) r (w - r)).length + 1) (nI 0) (ap_wr bL (ls ++ mg_seg (ap_W bL) r (w - r)) 0) bS bH bC bO bN bM bI bA bX f := yq_317 (by omega) rfl hf (KO z _ _) (ls ++ mg_seg (ap_W bL) r (w - r)).length 0 ((ls ++ mg_seg (ap_W bL) r (w - r)).length + 1) (by omega) (by omega)
    rw [ap_wr0] at q
    exact ⟨_, q⟩
  | succ d ih =>
    intro i n f hi hn hf
    obtain ⟨n, rfl⟩ : ∃ m', n = m' + 1 := ⟨n - 1, by omega⟩
    have e1 : ls ++ mg_seg (ap_W bL) r (i + 1) = (ls ++ mg_seg (ap_W bL) r i) ++ [ap_W bL (r + i)] := by rw [mg_segS, List.append_assoc]
    have hl' : ((ls ++ mg_seg (ap_W bL) r i) ++ [ap_W bL (r + i)]).length ≤ 64 := by
      rw [← e1, List.length_append, mg_segl]
      omega
    have x1 : (36 : Int32) + nI (r + i) = nI (36 + (r + i)) := ib_c _ 36
    rw [wY_apply_269]
    refine br_f (by rw [hS3]; exact nI_ge (by omega) (by omega)) ⟨by rw [x1]; exact vp_in_nI (by omega) (by omega), ?_⟩
    rw [x1, nI_clamp (n := 36 + (r + i)) (by omega)]
    refine ya_addL rfl hf hl' (fun f' hf' => ?_)
    have q := ih (i + 1) n f' (by omega) (by omega)
    rw [e1] at q
    exact nm_r (nI_1 _) (q hf')
theorem yq_88 {post : Int32 → SY → Prop} {cap : Nat} (hN : N ≤ 24) (hx : x ≤ 3) (hw : w ≤ 12) (hcap : cap ≤ 12) (hC : yC = nI cap) (hS3 : bS 3 = nI w) (hT : yT = nI N) (hK : yK = nI x) (hO3 : ∀ u, O u = 0 ∨ O u = 1 ∨ O u = 2) (hat : (ad = 2 ∧ tk = 1) ∨ (ad = 1 ∧ tk = 2)) (hO : ∀ u, u < N → bO u = nI (O u)) (hl : ∀ u, u < N → bN u = l u)
    (hF : ∀ u, F (u + 1) = F u + (if O u = ad then 0 else 1)) (hPo : ∀ u, P (u + 1) = P u + (if O u = tk then 0 else 1)) (hF0 : F 0 = 0) (hP0 : P 0 = 0) (hFN : F N ≤ 12) (hPN : P N ≤ 12) (hS0 : ∀ u, u < N → sh_s O N x u = false → O u = 0) (hv : -12 ≤ v3.toInt ∧ v3.toInt ≤ 12)
    (KN : ¬ ap_Fit (sh_s O N x) O F l (ap_W bL) ad w v3.toInt N → ∀ gE gV, post (-4) (yC, yK, yT, yU, gE, yD, bL, bS, bH, bC, bO, bN, bM, bI, bA, bX, gV))
    (KF : ap_Fit (sh_s O N x) O F l (ap_W bL) ad w v3.toInt N → cap < (ap_fin (sh_s O N x) O F l (ap_W bL) ad tk w N v3.toInt).length → ∀ gE gV, post (-2) (yC, yK, yT, yU, gE, yD, bL, bS, bH, bC, bO, bN, bM, bI, bA, bX, gV))
    (KO : ap_Fit (sh_s O N x) O F l (ap_W bL) ad w v3.toInt N → (ap_fin (sh_s O N x) O F l (ap_W bL) ad tk w N v3.toInt).length ≤ cap → ∀ gE gV, post (nI (pt_k (sh_s O N x) N)) (yC, yK, yT, yU, gE, yD, ap_wr bL (ap_fin (sh_s O N x) O F l (ap_W bL) ad tk w N v3.toInt) (ap_fin (sh_s O N x) O F l (ap_W bL) ad tk w N v3.toInt).length, upd bS 3 (nI (ap_fin (sh_s O N x) O F l (ap_W bL) ad tk w N v3.toInt).length), bH, bC, bO, bN, bM, bI, bA, bX, gV)) :
    ∀ d t n f, t + d = N → d < n → ap_Fit (sh_s O N x) O F l (ap_W bL) ad w v3.toInt t → ls_A f (ap_L (sh_s O N x) O F l (ap_W bL) ad tk v3.toInt t) →
    wY_apply_88 post (nI ad) (nI tk) n (v3 + nI (F t)) (nI (ap_r (sh_s O N x) O F ad v3.toInt t)) (nI (pt_k (sh_s O N x) t)) (nI t) yC yK yT yU (nI (ap_L (sh_s O N x) O F l (ap_W bL) ad tk v3.toInt t).length) yD bL bS bH bC bO bN bM bI bA bX f := by
  have inv := fun t ht hf => ap_inv (S := sh_s O N x) (O := O) (F := F) (P := P) (l := l) (W := ap_W bL) (ad := ad) (tk := tk) (w := w) (N := N) (sf := v3.toInt) hF hPo hF0 hP0 (by omega) hS0 t ht hf
  intro d
  induction d with
  | zero =>
    intro t n f hd hn hfit hf
    obtain ⟨n, rfl⟩ : ∃ m', n = m' + 1 := ⟨n - 1, by omega⟩
    have e : t = N := by omega
    subst e
    obtain ⟨i1, i2, i3, i4⟩ := inv t (Nat.le_refl _) hfit
    have fl := ap_finl (P := P) (tk := tk) hF hPo hF0 hP0 (by omega) hS0 hfit
    have z : ∀ ls : List Int32, ls ++ mg_seg (ap_W bL) (ap_r (sh_s O t x) O F ad v3.toInt t) 0 = ls := fun ls => List.append_nil _
    rw [wY_apply_88]
    refine br_t (by rw [hT]; exact nI_le (Nat.le_refl _) (by omega)) ⟨w - ap_r (sh_s O t x) O F ad v3.toInt t + 1, ?_⟩
    have q : wY_apply_269 post (nI (pt_k (sh_s O t x) t)) (w - ap_r (sh_s O t x) O F ad v3.toInt t + 1) (nI (ap_r (sh_s O t x) O F ad v3.toInt t + 0)) yC yK yT yU (nI (ap_L (sh_s O t x) O F l (ap_W bL) ad tk v3.toInt t ++ mg_seg (ap_W bL) (ap_r (sh_s O t x) O F ad v3.toInt t) 0).length) yD bL bS bH bC bO bN bM bI bA bX f :=
      yq_269 (w := w) i1 hw hcap hC hS3 (by omega) (KF hfit) (KO hfit) (w - ap_r (sh_s O t x) O F ad v3.toInt t) 0 (w - ap_r (sh_s O t x) O F ad v3.toInt t + 1) f (by omega) (by omega) (by rw [z]; exact hf)
    rw [z] at q
    exact q
  | succ d ih =>
    intro t n f hd hn hfit hf
    obtain ⟨n, rfl⟩ : ∃ m', n = m' + 1 := ⟨n - 1, by omega⟩
    have ht : t < N := by omega
    obtain ⟨i1, i2, i3, i4⟩ := inv t (by omega) hfit
    have mF := ap_Fmono hF (t := t) (u := N) (by omega)
    have mP := ap_Fmono hPo (t := t) (u := N) (by omega)
    have tp := yq_T (F := F) (t := t) hv (by omega)
    have few := pt_few (S := sh_s O N x) (t := t) (by omega)
    have fitS : ap_Ok (sh_s O N x) O F l (ap_W bL) ad w v3.toInt t → ap_Fit (sh_s O N x) O F l (ap_W bL) ad w v3.toInt (t + 1) := by
      intro h u hu
      by_cases e : u = t
      · rw [e]; exact h
      · exact hfit u (by omega)
    have KN' : ¬ ap_Ok (sh_s O N x) O F l (ap_W bL) ad w v3.toInt t → ∀ gE gV, post (-4) (yC, yK, yT, yU, gE, yD, bL, bS, bH, bC, bO, bN, bM, bI, bA, bX, gV) := fun h => KN (fun y => h (y t ht))
    have nx := fun f' (h : ap_Ok (sh_s O N x) O F l (ap_W bL) ad w v3.toInt t) => ih (t + 1) n f' (by omega) (by omega) (fitS h)
    rw [ap_LS, ap_rS] at nx
    rw [wY_apply_88]
    refine br_f (by rw [hT]; exact nI_ge (by omega) (by omega)) (ys_begins hN hx (by omega) hT hK hO3 hO (fun hb => br_f (by decide) ?_) (fun hb => br_t rfl ?_))
    · have hs := (sh_bS hb).1
      have ek : pt_k (sh_s O N x) (t + 1) = pt_k (sh_s O N x) t + 1 := by
        show pt_k (sh_s O N x) t + (if sh_b (sh_s O N x) t = true then 1 else 0) = _
        rw [if_pos hb]
      rw [if_pos hb, ek] at nx
      unfold ap_g at nx
      rw [if_pos hb] at nx
      refine br_c (fun z => KN' (fun y => ?_) _ _) (fun z => br_c (fun z2 => ?_) (fun z2 => KN' (fun y => ?_) _ _))
      · rw [Int32.lt_iff_toInt_lt, tp, ib_T0] at z
        have := (y.1 hb).1
        omega
      · rw [Int32.lt_iff_toInt_lt, tp, ib_T0] at z
        rw [Int32.le_iff_toInt_le, tp, hS3, nI_toInt (by omega)] at z2
        have pl : v3 + nI (F t) = nI ((F t : Int) + v3.toInt).toNat := ib_ofT (by rw [tp]; omega) (by omega)
        have zz : ∀ ls : List Int32, ls ++ mg_seg (ap_W bL) (ap_r (sh_s O N x) O F ad v3.toInt t) 0 = ls := fun ls => List.append_nil _
        have q : wY_apply_125 post (wY_apply_88 post (nI ad) (nI tk) n) (nI ad) (nI tk) (v3 + nI (F t)) (nI (pt_k (sh_s O N x) t)) (nI t) (((F t : Int) + v3.toInt).toNat - ap_r (sh_s O N x) O F ad v3.toInt t + 1) (nI (ap_r (sh_s O N x) O F ad v3.toInt t + 0)) yC yK yT yU (nI (ap_L (sh_s O N x) O F l (ap_W bL) ad tk v3.toInt t ++ mg_seg (ap_W bL) (ap_r (sh_s O N x) O F ad v3.toInt t) 0).length) yD bL bS bH bC bO bN bM bI bA bX f := by
          refine yq_125 (to := ((F t : Int) + v3.toInt).toNat) (by omega) (by omega) (by omega) (by omega) pl (fun f' hf' => ?_) (((F t : Int) + v3.toInt).toNat - ap_r (sh_s O N x) O F ad v3.toInt t) 0 _ f (by omega) (by omega) (by rw [zz]; exact hf)
          refine yq_155s (w := w) ht hN hx hw hS3 hT hK hO3 (by omega) (by omega) hO hl hF (by omega) hv rfl hf' (by rw [List.length_append, mg_segl]; omega) hs (by omega) (fun y => KN' (fun y2 => y.2 (y2.2 hs y.1)) _ _) (fun y f2 hf2 => ?_)
          have nx := nx f2 ⟨fun _ => ⟨by omega, by omega⟩, fun _ => y⟩ hf2
          by_cases zo : O t = ad
          · rw [if_neg (fun y => y.2 zo), show max (ap_r (sh_s O N x) O F ad v3.toInt t) ((F t : Int) + v3.toInt).toNat = ((F t : Int) + v3.toInt).toNat by omega] at nx
            rw [if_pos zo]
            exact nx
          · rw [if_pos ⟨hs, zo⟩] at nx
            rw [if_neg zo]
            exact nx
        rw [zz] at q
        exact ⟨_, q⟩
      · rw [Int32.le_iff_toInt_le, tp, hS3, nI_toInt (by omega)] at z2
        have := (y.1 hb).2
        omega
    · have ek : pt_k (sh_s O N x) (t + 1) = pt_k (sh_s O N x) t := by
        show pt_k (sh_s O N x) t + (if sh_b (sh_s O N x) t = true then 1 else 0) = _
        rw [if_neg hb]
        rfl
      rw [if_neg hb, ek, ap_gn hb, List.append_nil] at nx
      by_cases hs : sh_s O N x t = true
      · obtain ⟨q1, q2⟩ := sh_bN hb hs
        have er := i3 q1 q2
        refine yq_155s (w := w) ht hN hx hw hS3 hT hK hO3 (by omega) (by omega) hO hl hF (by omega) hv rfl hf (by omega) hs er (fun y => KN' (fun y2 => y.2 (y2.2 hs y.1)) _ _) (fun y f2 hf2 => ?_)
        have nx := nx f2 ⟨fun z => absurd z hb, fun _ => y⟩ hf2
        by_cases zo : O t = ad
        · rw [if_neg (fun y => y.2 zo)] at nx
          rw [if_pos zo]
          exact nx
        · rw [if_pos ⟨hs, zo⟩, show ((F t : Int) + v3.toInt).toNat = ap_r (sh_s O N x) O F ad v3.toInt t by omega] at nx
          rw [if_neg zo]
          exact nx
      · have hs' : sh_s O N x t = false := by
          cases e : sh_s O N x t
          · rfl
          · exact absurd e hs
        refine yq_155n ht hN hx hT hK hO3 (by omega) (by omega) hO hl hF rfl hf (by omega) hs' (fun f2 hf2 => ?_)
        have nx := nx f2 ⟨fun z => absurd z hb, fun z => absurd z hs⟩ hf2
        rw [if_neg (fun y => hs y.1)] at nx
        exact nx
end
end
section
/-! the relation -/
/-- what a comparison has left in the component, L being the compared texts -/
def rl_C (x b l r : Nat) (xT xM : Int32) (aL aE aM aP aQ aH aW aU aV bH : Nat → Int32) : Prop :=
  ∃ L : Nat → Int32, (∀ i, i < 36 → aL i = L i) ∧ xd_S L 1 b l x aE aM aP aQ aH aW ∧ xd_S L 2 b r x aE aM aP aQ aH aW ∧ xT = nI (ck_n L b l r) ∧ xk_A aU (ck_t L b l r) (ck_n L b l r) bH ∧
    xM = nI (mg_all L (ck_t L b l r) bH (ck_n L b l r)).length ∧ ls_A aV (mg_all L (ck_t L b l r) bH (ck_n L b l r))
def rl_Z (cap : Nat) (aS : Nat → Int32) (sz : Nat → Nat) : Prop := ∀ t, t < 4 → aS t = nI (sz t) ∧ sz t ≤ cap
def rl_R (xC xK xD xT xM : Int32) (aL aS aE aM aP aQ aH aW aU aV : Nat → Int32) (yC yK yD : Int32) (bL bS bH : Nat → Int32) : Prop :=
  yC = xC ∧ yK = xK ∧ yD = xD ∧ bL = aL ∧ bS = aS ∧ ∃ (cap x : Nat) (sz : Nat → Nat), xC = nI cap ∧ xK = nI x ∧ cap ≤ 12 ∧ x ≤ 3 ∧ rl_Z cap aS sz ∧ (xD = 0 ∨ (xD = 1 ∧ rl_C x (sz 0) (sz 1) (sz 2) xT xM aL aE aM aP aQ aH aW aU aV bH))
/-- the relation at the head of a turn whose first cell is k -/
def i_Rel (k : Nat) (u : SX) (v : SY) : Prop := match u with
  | (q0, q1, q2, q3, q4, q5, q6, q7, q8, q9, xC, xK, xD, xT, xM, aL, aS, aR, aO, aN, aZ, aE, aM, aP, aQ, aH, aW, aU, aV, aX) => match v with
    | (yC, yK, yT, yU, yE, yD, bL, bS, bH, bC, bO, bN, bM, bI, bA, bX, bV) => rl_R xC xK xD xT xM aL aS aE aM aP aQ aH aW aU aV yC yK yD bL bS bH
theorem i_up {k : Nat} {u : SX} {v : SY} (h : i_Rel k u v) : i_Rel (k + 4) u v := h
theorem rl_el {k : Nat} {u : SX} {v : SY} {Q : SX → SY → Prop} (I : i_Rel k u v) (h : ∀ (q0 q1 q2 q3 q4 q5 q6 q7 q8 q9 xD xT xM : Int32) (aL aS aR aO aN aZ aE aM aP aQ aH aW aU aV aX : Nat → Int32) (yT yU yE : Int32) (bH bC bO bN bM bI bA bX bV : Nat → Int32) (cap x : Nat) (sz : Nat → Nat), cap ≤ 12 → x ≤ 3 → rl_Z cap aS sz → (xD = 0 ∨ (xD = 1 ∧ rl_C x (sz 0) (sz 1) (sz 2) xT xM aL aE aM aP aQ aH aW aU aV bH)) → Q (q0, q1, q2, q3, q4, q5, q6, q7, q8, q9, nI cap, nI x, xD, xT, xM, aL, aS, aR, aO, aN, aZ, aE, aM, aP, aQ, aH, aW, aU, aV, aX) (nI cap, nI x, yT, yU, yE, xD, aL, aS, bH, bC, bO, bN, bM, bI, bA, bX, bV)) : Q u v := by
  obtain ⟨q0, q1, q2, q3, q4, q5, q6, q7, q8, q9, xC, xK, xD, xT, xM, aL, aS, aR, aO, aN, aZ, aE, aM, aP, aQ, aH, aW, aU, aV, aX⟩ := u
  obtain ⟨yC, yK, yT, yU, yE, yD, bL, bS, bH, bC, bO, bN, bM, bI, bA, bX, bV⟩ := v
  obtain ⟨e1, e2, e3, e4, e5, cap, x, sz, e6, e7, h1, h2, h3, h4⟩ := I
  subst e1 e2 e3 e4 e5 e6 e7
  exact h _ _ _ _ _ _ _ _ _ _ _ _ _ _ _ _ _ _ _ _ _ _ _ _ _ _ _ _ _ _ _ _ _ _ _ _ _ _ _ _ cap x sz h1 h2 h3 h4
section
variable {q0 q1 q2 q3 q4 q5 q6 q7 q8 q9 xC xK xD xT xM : Int32} {aL aS aR aO aN aZ aE aM aP aQ aH aW aU aV aX : Nat → Int32}
variable {yC yK yT yU yE yD : Int32} {bL bS bH bC bO bN bM bI bA bX bV : Nat → Int32}
variable {k cap x : Nat} {sz : Nat → Nat}
theorem rl_mk (h1 : cap ≤ 12) (h2 : x ≤ 3) (h3 : rl_Z cap aS sz) (h4 : xD = 0 ∨ (xD = 1 ∧ rl_C x (sz 0) (sz 1) (sz 2) xT xM aL aE aM aP aQ aH aW aU aV bH)) : i_Rel k (q0, q1, q2, q3, q4, q5, q6, q7, q8, q9, nI cap, nI x, xD, xT, xM, aL, aS, aR, aO, aN, aZ, aE, aM, aP, aQ, aH, aW, aU, aV, aX) (nI cap, nI x, yT, yU, yE, xD, aL, aS, bH, bC, bO, bN, bM, bI, bA, bX, bV) :=
  ⟨rfl, rfl, rfl, rfl, rfl, cap, x, sz, rfl, rfl, h1, h2, h3, h4⟩
/-- a text has changed -/
theorem rl_chg {tx n : Nat} {g h : Nat → Int32} (h1 : cap ≤ 12) (h2 : x ≤ 3) (h3 : rl_Z cap aS sz) (h4 : xD = 0 ∨ (xD = 1 ∧ rl_C x (sz 0) (sz 1) (sz 2) xT xM aL aE aM aP aQ aH aW aU aV bH)) (hg : tx = 3 → ∀ i, i < 36 → g i = aL i) (hh : ∀ t, t < 4 → h t = if t = tx then nI n else aS t) (hn : n ≤ cap) :
    i_Rel k (q0, q1, q2, q3, q4, q5, q6, q7, q8, q9, nI cap, nI x, if tx = 3 then xD else 0, xT, xM, g, h, aR, aO, aN, aZ, aE, aM, aP, aQ, aH, aW, aU, aV, aX) (nI cap, nI x, yT, yU, yE, if tx = 3 then xD else 0, g, h, bH, bC, bO, bN, bM, bI, bA, bX, bV) := by
  have hz : rl_Z cap h (fun t => if t = tx then n else sz t) := by
    intro t ht
    rw [hh t ht]
    dsimp only
    by_cases e : t = tx
    · rw [if_pos e, if_pos e]
      exact ⟨rfl, hn⟩
    · rw [if_neg e, if_neg e]
      exact h3 t ht
  refine rl_mk h1 h2 hz ?_
  by_cases e : tx = 3
  · rw [if_pos e]
    rcases h4 with z | ⟨z, L, c1, c2⟩
    · exact Or.inl z
    · refine Or.inr ⟨z, ?_⟩
      subst e
      exact ⟨L, fun i hi => (hg rfl i hi).trans (c1 i hi), c2⟩
  · rw [if_neg e]
    exact Or.inl rfl
theorem xn_note {post : SX → Prop} {tx : Nat} (htx : tx ≤ 3) (K : post (q0, q1, q2, q3, q4, q5, q6, q7, q8, q9, xC, xK, if tx = 3 then xD else 0, xT, xM, aL, aS, aR, aO, aN, aZ, aE, aM, aP, aQ, aH, aW, aU, aV, aX)) : wpX_noteChange post (q0, q1, q2, q3, q4, q5, q6, q7, q8, q9, xC, xK, xD, xT, xM, aL, aS, aR, aO, aN, aZ, aE, aM, aP, aQ, aH, aW, aU, aV, aX) (nI tx) := by
  unfold wpX_noteChange
  refine pk_eq tx 3 (fun z => ?_) (fun z => ?_)
  · rw [if_pos z] at K
    exact K
  · rw [if_neg z] at K
    exact K
theorem yn_chg {post : Int32 → SY → Prop} {tx : Nat} (htx : tx ≤ 3) (hD : yD = 0 ∨ yD = 1) (K : post 0 (yC, yK, yT, yU, yE, if tx = 3 then yD else 0, bL, bS, bH, bC, bO, bN, bM, bI, bA, bX, bV)) : wpY_changed post (yC, yK, yT, yU, yE, yD, bL, bS, bH, bC, bO, bN, bM, bI, bA, bX, bV) (nI tx) := by
  unfold wpY_changed
  rcases hD with z | z
  · subst z
    rw [show (if tx = 3 then (0 : Int32) else 0) = 0 by split <;> rfl] at K
    exact br_t rfl K
  · subst z
    refine br_f (by decide) (pk_eq tx 3 (fun z => ?_) (fun z => ?_))
    · rw [if_pos z] at K
      exact K
    · rw [if_neg z] at K
      exact K
end
/-! lines shifted up, down, copied -/
def sf_up (f : Nat → Int32) (a s p : Nat) : Nat → Int32 := fun j => if a + p < j ∧ j ≤ a + s then f (j - 1) else f j
theorem sf_up0 (f : Nat → Int32) (a s : Nat) : sf_up f a s s = f := funext fun j => if_neg (by omega)
theorem sf_upS (f : Nat → Int32) {a s p : Nat} (hp : p < s) : upd (sf_up f a s (p + 1)) (a + (p + 1)) (sf_up f a s (p + 1) (a + p)) = sf_up f a s p := funext fun j => by
  have e : sf_up f a s (p + 1) (a + p) = f (a + p) := if_neg (by omega)
  rw [e]
  by_cases z : j = a + (p + 1)
  · subst z
    rw [pk_us]
    unfold sf_up
    rw [if_pos (by omega)]
    exact congrArg f (by omega)
  · rw [pk_un z]
    unfold sf_up
    by_cases y : a + (p + 1) < j ∧ j ≤ a + s
    · rw [if_pos y, if_pos (by omega)]
    · rw [if_neg y, if_neg (by omega)]
def sf_dn (f : Nat → Int32) (a q p : Nat) : Nat → Int32 := fun j => if a + q ≤ j ∧ j < a + p then f (j + 1) else f j
theorem sf_dn0 (f : Nat → Int32) (a q : Nat) : sf_dn f a q q = f := funext fun j => if_neg (by omega)
theorem sf_dnS (f : Nat → Int32) {a q p : Nat} (hp : q ≤ p) : upd (sf_dn f a q p) (a + p) (sf_dn f a q p (a + p + 1)) = sf_dn f a q (p + 1) := funext fun j => by
  have e : sf_dn f a q p (a + p + 1) = f (a + p + 1) := if_neg (by omega)
  rw [e]
  by_cases z : j = a + p
  · subst z
    rw [pk_us]
    unfold sf_dn
    rw [if_pos (by omega)]
  · rw [pk_un z]
    unfold sf_dn
    by_cases y : a + q ≤ j ∧ j < a + p
    · rw [if_pos y, if_pos (by omega)]
    · rw [if_neg y, if_neg (by omega)]
def sf_cp (f g : Nat → Int32) (a p : Nat) : Nat → Int32 := fun j => if a ≤ j ∧ j < a + p then g (j - a) else f j
theorem sf_cp0 (f g : Nat → Int32) (a : Nat) : sf_cp f g a 0 = f := funext fun j => if_neg (by omega)
theorem sf_cpS (f g : Nat → Int32) (a p : Nat) : upd (sf_cp f g a p) (a + p) (g p) = sf_cp f g a (p + 1) := funext fun j => by
  by_cases z : j = a + p
  · subst z
    rw [pk_us]
    unfold sf_cp
    rw [if_pos (by omega), Nat.add_sub_cancel_left]
  · rw [pk_un z]
    unfold sf_cp
    by_cases y : a ≤ j ∧ j < a + p
    · rw [if_pos y, if_pos (by omega)]
    · rw [if_neg y, if_neg (by omega)]
section
variable {q0 q1 q2 q3 q4 q5 q6 q7 q8 q9 xC xK xD xT xM : Int32} {aL aS aR aO aN aZ aE aM aP aQ aH aW aU aV aX : Nat → Int32}
variable {yC yK yT yU yE yD : Int32} {bL bS bH bC bO bN bM bI bA bX bV : Nat → Int32}
variable {tx s ps : Nat}
theorem xi_67 {post : Int32 → SX → Prop} {v3 : Int32} (htx : tx ≤ 3) (hs : s < 12) (hps : ps ≤ s) (hS : aS tx = nI s)
    (K : post 0 (q0, q1, q2, q3, q4, q5, q6, q7, q8, q9, xC, xK, if tx = 3 then xD else 0, xT, xM, upd (sf_up aL (12 * tx) s ps) (12 * tx + ps) v3, upd aS tx (nI (s + 1)), aR, aO, aN, aZ, aE, aM, aP, aQ, aH, aW, aU, aV, aX)) :
    ∀ d p n, p = ps + d → p ≤ s → d < n → wX_insertLine_67 post (nI tx) (nI ps) v3 (nI (12 * tx)) q0 q1 q2 q3 q4 q5 q6 q7 q8 q9 xC xK xD xT xM n (nI p) (sf_up aL (12 * tx) s p) aS aR aO aN aZ aE aM aP aQ aH aW aU aV aX := by
  have w : vp_in (nI tx) 4 := vp_in_nI (by omega) (by omega)
  have c : (nI tx).toNatClampNeg = tx := nI_clamp (by omega)
  intro d
  induction d with
  | zero =>
    intro p n hp hp2 hn
    obtain ⟨n, rfl⟩ : ∃ m', n = m' + 1 := ⟨n - 1, by omega⟩
    have e : p = ps := by omega
    subst e
    rw [wX_insertLine_67]
    refine br_t (nI_le (Nat.le_refl _) (by omega)) ⟨by rw [nI_add]; exact vp_in_nI (by omega) (by omega), nm_r (e' := upd (sf_up aL (12 * tx) s p) (12 * tx + p) v3) (by rw [nI_add, nI_clamp (by omega)]) ⟨w, w, nm_r (e' := upd aS tx (nI (s + 1))) (by rw [c, hS, nI_1]) (xn_note htx K)⟩⟩
  | succ d ih =>
    intro p n hp hp2 hn
    obtain ⟨n, rfl⟩ : ∃ m', n = m' + 1 := ⟨n - 1, by omega⟩
    obtain ⟨p, rfl⟩ : ∃ p', p = p' + 1 := ⟨p - 1, by omega⟩
    have x1 : nI (12 * tx) + nI (p + 1) - 1 = nI (12 * tx + p) := by rw [nI_add, ← Nat.add_assoc, nI_pred]
    have x2 : nI (12 * tx) + nI (p + 1) = nI (12 * tx + (p + 1)) := nI_add _ _
    rw [wX_insertLine_67]
    refine br_f (nI_ge (by omega) (by omega)) ⟨by rw [x1]; exact vp_in_nI (by omega) (by omega), by rw [x2]; exact vp_in_nI (by omega) (by omega), nm_r (e' := sf_up aL (12 * tx) s p) ?_ (nm_r (pk_m1 p) (ih p n (by omega) (by omega) (by omega)))⟩
    rw [x1, x2, nI_clamp (by omega), nI_clamp (by omega)]
    exact sf_upS aL (by omega)
theorem yi_59 {post : Int32 → SY → Prop} {v3 : Int32} (htx : tx ≤ 3) (hs : s < 12) (hps : ps ≤ s) (hS : bS tx = nI s) (hD : yD = 0 ∨ yD = 1)
    (K : post 0 (yC, yK, yT, yU, yE, if tx = 3 then yD else 0, upd (sf_up bL (12 * tx) s ps) (12 * tx + ps) v3, upd bS tx (nI (s + 1)), bH, bC, bO, bN, bM, bI, bA, bX, bV)) :
    ∀ d p n, p = ps + d → p ≤ s → d < n → wY_insertLine_59 post (nI tx) (nI ps) v3 yC yK yT yU yE yD n (nI p) (sf_up bL (12 * tx) s p) bS bH bC bO bN bM bI bA bX bV := by
  have w : vp_in (nI tx) 4 := vp_in_nI (by omega) (by omega)
  have c : (nI tx).toNatClampNeg = tx := nI_clamp (by omega)
  intro d
  induction d with
  | zero =>
    intro p n hp hp2 hn
    obtain ⟨n, rfl⟩ : ∃ m', n = m' + 1 := ⟨n - 1, by omega⟩
    have e : p = ps := by omega
    subst e
    rw [wY_insertLine_59]
    refine br_t (nI_le (Nat.le_refl _) (by omega)) ⟨by rw [ib_12]; exact vp_in_nI (by omega) (by omega), nm_r (e' := upd (sf_up bL (12 * tx) s p) (12 * tx + p) v3) (by rw [ib_12, nI_clamp (by omega)]) ⟨w, w, nm_r (e' := upd bS tx (nI (s + 1))) (by rw [c, hS, nI_1]) (yn_chg htx hD K)⟩⟩
  | succ d ih =>
    intro p n hp hp2 hn
    obtain ⟨n, rfl⟩ : ∃ m', n = m' + 1 := ⟨n - 1, by omega⟩
    obtain ⟨p, rfl⟩ : ∃ p', p = p' + 1 := ⟨p - 1, by omega⟩
    have x1 : nI tx * 12 + nI (p + 1) - 1 = nI (12 * tx + p) := by rw [ib_12, ← Nat.add_assoc, nI_pred]
    have x2 : nI tx * 12 + nI (p + 1) = nI (12 * tx + (p + 1)) := ib_12 _ _
    rw [wY_insertLine_59]
    refine br_f (nI_ge (by omega) (by omega)) ⟨by rw [x1]; exact vp_in_nI (by omega) (by omega), by rw [x2]; exact vp_in_nI (by omega) (by omega), nm_r (e' := sf_up bL (12 * tx) s p) ?_ (nm_r (pk_m1 p) (ih p n (by omega) (by omega) (by omega)))⟩
    rw [x1, x2, nI_clamp (by omega), nI_clamp (by omega)]
    exact sf_upS bL (by omega)
theorem xr_45 {post : Int32 → SX → Prop} (htx : tx ≤ 3) (hs : s < 12) (hps : ps ≤ s) (hS : aS tx = nI s)
    (K : post 0 (q0, q1, q2, q3, q4, q5, q6, q7, q8, q9, xC, xK, if tx = 3 then xD else 0, xT, xM, sf_dn aL (12 * tx) ps s, aS, aR, aO, aN, aZ, aE, aM, aP, aQ, aH, aW, aU, aV, aX)) :
    ∀ d p n, p + d = s → ps ≤ p → d < n → wX_removeLine_45 post (nI tx) (nI (12 * tx)) q0 q1 q2 q3 q4 q5 q6 q7 q8 q9 xC xK xD xT xM n (nI p) (sf_dn aL (12 * tx) ps p) aS aR aO aN aZ aE aM aP aQ aH aW aU aV aX := by
  have w : vp_in (nI tx) 4 := vp_in_nI (by omega) (by omega)
  have c : (nI tx).toNatClampNeg = tx := nI_clamp (by omega)
  intro d
  induction d with
  | zero =>
    intro p n hp hp2 hn
    obtain ⟨n, rfl⟩ : ∃ m', n = m' + 1 := ⟨n - 1, by omega⟩
    have e : p = s := by omega
    subst e
    rw [wX_removeLine_45]
    exact ⟨w, br_t (by rw [c, hS]; exact nI_le (Nat.le_refl _) (by omega)) (xn_note htx K)⟩
  | succ d ih =>
    intro p n hp hp2 hn
    obtain ⟨n, rfl⟩ : ∃ m', n = m' + 1 := ⟨n - 1, by omega⟩
    have x1 : nI (12 * tx) + nI p + 1 = nI (12 * tx + p + 1) := by rw [nI_add, nI_1]
    have x2 : nI (12 * tx) + nI p = nI (12 * tx + p) := nI_add _ _
    rw [wX_removeLine_45]
    refine ⟨w, br_f (by rw [c, hS]; exact nI_ge (by omega) (by omega)) ⟨by rw [x1]; exact vp_in_nI (by omega) (by omega), by rw [x2]; exact vp_in_nI (by omega) (by omega), nm_r (e' := sf_dn aL (12 * tx) ps (p + 1)) ?_ (nm_r (nI_1 p) (ih (p + 1) n (by omega) (by omega) (by omega)))⟩⟩
    rw [x1, x2, nI_clamp (by omega), nI_clamp (by omega)]
    exact sf_dnS aL hp2
theorem yr_27 {post : Int32 → SY → Prop} (htx : tx ≤ 3) (hs : s < 12) (hps : ps ≤ s) (hS : bS tx = nI (s + 1)) (hD : yD = 0 ∨ yD = 1)
    (K : post 0 (yC, yK, yT, yU, yE, if tx = 3 then yD else 0, sf_dn bL (12 * tx) ps s, upd bS tx (nI s), bH, bC, bO, bN, bM, bI, bA, bX, bV)) :
    ∀ d p n, p + d = s → ps ≤ p → d < n → wY_removeLine_27 post (nI tx) yC yK yT yU yE yD n (nI p) (sf_dn bL (12 * tx) ps p) bS bH bC bO bN bM bI bA bX bV := by
  have w : vp_in (nI tx) 4 := vp_in_nI (by omega) (by omega)
  have c : (nI tx).toNatClampNeg = tx := nI_clamp (by omega)
  intro d
  induction d with
  | zero =>
    intro p n hp hp2 hn
    obtain ⟨n, rfl⟩ : ∃ m', n = m' + 1 := ⟨n - 1, by omega⟩
    have e : p = s := by omega
    subst e
    rw [wY_removeLine_27]
    exact ⟨w, br_t (by rw [c, hS, nI_1]; exact nI_le (Nat.le_refl _) (by omega)) ⟨w, w, nm_r (e' := upd bS tx (nI p)) (by rw [c, hS, nI_pred]) (yn_chg htx hD K)⟩⟩
  | succ d ih =>
    intro p n hp hp2 hn
    obtain ⟨n, rfl⟩ : ∃ m', n = m' + 1 := ⟨n - 1, by omega⟩
    have x1 : nI tx * 12 + nI p + 1 = nI (12 * tx + p + 1) := by rw [ib_12, nI_1]
    have x2 : nI tx * 12 + nI p = nI (12 * tx + p) := ib_12 _ _
    rw [wY_removeLine_27]
    refine ⟨w, br_f (by rw [c, hS, nI_1]; exact nI_ge (by omega) (by omega)) ⟨by rw [x1]; exact vp_in_nI (by omega) (by omega), by rw [x2]; exact vp_in_nI (by omega) (by omega), nm_r (e' := sf_dn bL (12 * tx) ps (p + 1)) ?_ (nm_r (nI_1 p) (ih (p + 1) n (by omega) (by omega) (by omega)))⟩⟩
    rw [x1, x2, nI_clamp (by omega), nI_clamp (by omega)]
    exact sf_dnS bL hp2
theorem xc_83 {post : Int32 → SX → Prop} {fr : Nat} {g : Nat → Int32} (htx : tx ≤ 3) (hfr : fr ≤ 4) (hs : s ≤ 12) (hg : ∀ p, p < s → g p = if fr = 4 then aV p else aL (12 * fr + p))
    (K : post 0 (q0, q1, q2, q3, q4, q5, q6, q7, q8, q9, xC, xK, if tx = 3 then xD else 0, xT, xM, sf_cp aL g (12 * tx) s, upd aS tx (nI s), aR, aO, aN, aZ, aE, aM, aP, aQ, aH, aW, aU, aV, aX)) :
    ∀ d p n, p + d = s → d < n → wX_copyText_83 post (nI fr) (nI tx) (nI s) q0 q1 q2 q3 q4 q5 q6 q7 q8 q9 xC xK xD xT xM n (nI p) (sf_cp aL g (12 * tx) p) aS aR aO aN aZ aE aM aP aQ aH aW aU aV aX := by
  have w : vp_in (nI tx) 4 := vp_in_nI (by omega) (by omega)
  have c : (nI tx).toNatClampNeg = tx := nI_clamp (by omega)
  intro d
  induction d with
  | zero =>
    intro p n hp hn
    obtain ⟨n, rfl⟩ : ∃ m', n = m' + 1 := ⟨n - 1, by omega⟩
    have e : p = s := by omega
    subst e
    rw [wX_copyText_83]
    exact br_t (nI_le (Nat.le_refl _) (by omega)) ⟨w, nm_r (e' := upd aS tx (nI p)) (by rw [c]) (xn_note htx K)⟩
  | succ d ih =>
    intro p n hp hn
    obtain ⟨n, rfl⟩ : ∃ m', n = m' + 1 := ⟨n - 1, by omega⟩
    have x2 : nI tx * 12 + nI p = nI (12 * tx + p) := ib_12 _ _
    have i2 : vp_in (nI tx * 12 + nI p) 48 := by rw [x2]; exact vp_in_nI (by omega) (by omega)
    have gp := hg p (by omega)
    rw [wX_copyText_83]
    refine br_f (nI_ge (by omega) (by omega)) (pk_eq fr 4 (fun z => ?_) (fun z => ?_))
    · rw [if_pos z] at gp
      refine ⟨vp_in_nI (by omega) (by omega), i2, nm_r (e' := sf_cp aL g (12 * tx) (p + 1)) ?_ (nm_r (nI_1 p) (ih (p + 1) n (by omega) (by omega)))⟩
      rw [x2, nI_clamp (by omega), nI_clamp (by omega), ← gp]
      exact sf_cpS _ _ _ _
    · rw [if_neg z] at gp
      have x1 : nI fr * 12 + nI p = nI (12 * fr + p) := ib_12 _ _
      refine ⟨by rw [x1]; exact vp_in_nI (by omega) (by omega), i2, nm_r (e' := sf_cp aL g (12 * tx) (p + 1)) ?_ (nm_r (nI_1 p) (ih (p + 1) n (by omega) (by omega)))⟩
      rw [x2, x1, nI_clamp (by omega), nI_clamp (by omega)]
      have e : sf_cp aL g (12 * tx) p (12 * fr + p) = g p := by
        rw [gp]
        exact if_neg (by omega)
      rw [e]
      exact sf_cpS _ _ _ _
theorem yc_69 {post : Int32 → SY → Prop} {fr : Nat} {g : Nat → Int32} (htx : tx ≤ 3) (hfr : fr ≤ 4) (hs : s ≤ 12) (hD : yD = 0 ∨ yD = 1) (hg : ∀ p, p < s → g p = if fr = 4 then bV p else bL (12 * fr + p))
    (K : post 0 (yC, yK, yT, yU, yE, if tx = 3 then yD else 0, sf_cp bL g (12 * tx) s, upd bS tx (nI s), bH, bC, bO, bN, bM, bI, bA, bX, bV)) :
    ∀ d p n, p + d = s → d < n → wY_copyText_69 post (nI fr) (nI tx) (nI s) yC yK yT yU yE yD n (nI p) (sf_cp bL g (12 * tx) p) bS bH bC bO bN bM bI bA bX bV := by
  have w : vp_in (nI tx) 4 := vp_in_nI (by omega) (by omega)
  have c : (nI tx).toNatClampNeg = tx := nI_clamp (by omega)
  intro d
  induction d with
  | zero =>
    intro p n hp hn
    obtain ⟨n, rfl⟩ : ∃ m', n = m' + 1 := ⟨n - 1, by omega⟩
    have e : p = s := by omega
    subst e
    rw [wY_copyText_69]
    exact br_t (nI_le (Nat.le_refl _) (by omega)) ⟨w, nm_r (e' := upd bS tx (nI p)) (by rw [c]) (yn_chg htx hD K)⟩
  | succ d ih =>
    intro p n hp hn
    obtain ⟨n, rfl⟩ : ∃ m', n = m' + 1 := ⟨n - 1, by omega⟩
    have x2 : nI tx * 12 + nI p = nI (12 * tx + p) := ib_12 _ _
    have i2 : vp_in (nI tx * 12 + nI p) 48 := by rw [x2]; exact vp_in_nI (by omega) (by omega)
    have gp := hg p (by omega)
    rw [wY_copyText_69]
    refine br_f (nI_ge (by omega) (by omega)) (pk_eq fr 4 (fun z => ?_) (fun z => ?_))
    · rw [if_pos z] at gp
      refine ⟨vp_in_nI (by omega) (by omega), i2, nm_r (e' := sf_cp bL g (12 * tx) (p + 1)) ?_ (nm_r (nI_1 p) (ih (p + 1) n (by omega) (by omega)))⟩
      rw [x2, nI_clamp (by omega), nI_clamp (by omega), ← gp]
      exact sf_cpS _ _ _ _
    · rw [if_neg z] at gp
      have x1 : nI fr * 12 + nI p = nI (12 * fr + p) := ib_12 _ _
      refine ⟨by rw [x1]; exact vp_in_nI (by omega) (by omega), i2, nm_r (e' := sf_cp bL g (12 * tx) (p + 1)) ?_ (nm_r (nI_1 p) (ih (p + 1) n (by omega) (by omega)))⟩
      rw [x2, x1, nI_clamp (by omega), nI_clamp (by omega)]
      have e : sf_cp bL g (12 * tx) p (12 * fr + p) = g p := by
        rw [gp]
        exact if_neg (by omega)
      rw [e]
      exact sf_cpS _ _ _ _
end
end
section
/-! the owed rows: constructors, texts -/
theorem iv_cap (k0 : Int32) : ∃ c : Nat, c ≤ 12 ∧ ∀ Q : Int32 → Prop, Q (nI c) → ((4 ≤ k0 → ((k0 ≤ 12 → Q k0) ∧ (¬ k0 ≤ 12 → Q 12))) ∧ (¬ 4 ≤ k0 → Q 4)) := by
  by_cases a : 4 ≤ k0
  · by_cases b : k0 ≤ 12
    · have n : ¬ k0 < 0 := by
        rw [Int32.le_iff_toInt_le, show (4 : Int32).toInt = 4 from by decide] at a
        rw [Int32.lt_iff_toInt_lt, ib_T0]
        omega
      obtain ⟨c, hc, rfl⟩ := nI_of2 (M := 12) (n := 12) (by decide) n b
      exact ⟨c, hc, fun Q h => br_t a (br_t b h)⟩
    · exact ⟨12, by omega, fun Q h => br_t a (br_f b h)⟩
  · exact ⟨4, by omega, fun Q h => br_f a h⟩
theorem iv_ctx (k1 : Int32) : ∃ c : Nat, c ≤ 3 ∧ ∀ Q : Int32 → Prop, Q (nI c) → ((0 ≤ k1 → ((k1 ≤ 3 → Q k1) ∧ (¬ k1 ≤ 3 → Q 3))) ∧ (¬ 0 ≤ k1 → Q 0)) := by
  by_cases a : 0 ≤ k1
  · by_cases b : k1 ≤ 3
    · obtain ⟨c, hc, rfl⟩ := nI_of2 (M := 3) (n := 3) (by decide) (Int32.not_lt.mpr a) b
      exact ⟨c, hc, fun Q h => br_t a (br_t b h)⟩
    · exact ⟨3, by omega, fun Q h => br_t a (br_f b h)⟩
  · exact ⟨0, by omega, fun Q h => br_f a h⟩
theorem i_vc0 (k0 : Int32) (k1 : Int32) : wpX_init (fun u => wpY_init (fun v => i_Rel 2 u v) k0 k1) k0 k1 := by
  obtain ⟨c, hc, HC⟩ := iv_cap k0
  obtain ⟨x, hx, HX⟩ := iv_ctx k1
  refine HC (fun z => wX_init_204 (fun u => wpY_init (fun v => i_Rel 2 u v) k0 k1) k1 z 12 24 128 16 8 64 27 5 13 99 0 0 0 0 0 (fun _ => 0) (fun _ => 0) (fun _ => 0) (fun _ => 0) (fun _ => 0) (fun _ => 0) (fun _ => 0) (fun _ => 0) (fun _ => 0) (fun _ => 0) (fun _ => 0) (fun _ => 0) (fun _ => 0) (fun _ => 0) (fun _ => 0)) ?_
  refine HX (fun z => wpY_init (fun v => i_Rel 2 (12, 24, 128, 16, 8, 64, 27, 5, 13, 99, nI c, z, 0, 0, 0, (fun _ => 0), (fun _ => 0), (fun _ => 0), (fun _ => 0), (fun _ => 0), (fun _ => 0), (fun _ => 0), (fun _ => 0), (fun _ => 0), (fun _ => 0), (fun _ => 0), (fun _ => 0), (fun _ => 0), (fun _ => 0), (fun _ => 0)) v) k0 k1) ?_
  refine HC (fun z => wY_init_114 (fun v => i_Rel 2 (12, 24, 128, 16, 8, 64, 27, 5, 13, 99, nI c, nI x, 0, 0, 0, (fun _ => 0), (fun _ => 0), (fun _ => 0), (fun _ => 0), (fun _ => 0), (fun _ => 0), (fun _ => 0), (fun _ => 0), (fun _ => 0), (fun _ => 0), (fun _ => 0), (fun _ => 0), (fun _ => 0), (fun _ => 0), (fun _ => 0)) v) k1 z 0 0 0 0 0 0 (fun _ => 0) (fun _ => 0) (fun _ => 0) (fun _ => 0) (fun _ => 0) (fun _ => 0) (fun _ => 0) (fun _ => 0) (fun _ => 0) (fun _ => 0) (fun _ => 0)) ?_
  refine HX (fun z => i_Rel 2 (12, 24, 128, 16, 8, 64, 27, 5, 13, 99, nI c, nI x, 0, 0, 0, (fun _ => 0), (fun _ => 0), (fun _ => 0), (fun _ => 0), (fun _ => 0), (fun _ => 0), (fun _ => 0), (fun _ => 0), (fun _ => 0), (fun _ => 0), (fun _ => 0), (fun _ => 0), (fun _ => 0), (fun _ => 0), (fun _ => 0)) (nI c, z, 0, 0, 0, 0, (fun _ => 0), (fun _ => 0), (fun _ => 0), (fun _ => 0), (fun _ => 0), (fun _ => 0), (fun _ => 0), (fun _ => 0), (fun _ => 0), (fun _ => 0), (fun _ => 0))) ?_
  exact rl_mk (sz := fun _ => 0) hc hx (fun t _ => ⟨rfl, Nat.zero_le _⟩) (Or.inl rfl)
theorem rl_01 {xD : Int32} {Q : Prop} (h : xD = 0 ∨ (xD = 1 ∧ Q)) : xD = 0 ∨ xD = 1 := h.imp id (fun z => z.1)
theorem i_vc_insertLine {k : Nat} {u : SX} {v : SY} (I : i_Rel k u v) (hk : k + 4 ≤ 2050) (v1 : Int32) (v2 : Int32) (v3 : Int32) : wpX_insertLine (fun r u' => wpY_insertLine (fun r' v' => r' = r ∧ i_Rel (k + 4) u' v') v v1 v2 v3) u v1 v2 v3 := by
  refine rl_el (Q := fun u v => wpX_insertLine (fun r u' => wpY_insertLine (fun r' v' => r' = r ∧ i_Rel (k + 4) u' v') v v1 v2 v3) u v1 v2 v3) I ?_
  intro q0 q1 q2 q3 q4 q5 q6 q7 q8 q9 xD xT xM aL aS aR aO aN aZ aE aM aP aQ aH aW aU aV aX yT yU yE bH bC bO bN bM bI bA bX bV cap x sz h1 h2 h3 h4
  have R : i_Rel (k + 4) (q0, q1, q2, q3, q4, q5, q6, q7, q8, q9, nI cap, nI x, xD, xT, xM, aL, aS, aR, aO, aN, aZ, aE, aM, aP, aQ, aH, aW, aU, aV, aX) (nI cap, nI x, yT, yU, yE, xD, aL, aS, bH, bC, bO, bN, bM, bI, bA, bX, bV) := rl_mk h1 h2 h3 h4
  by_cases a1 : v1 < 0
  · exact br_t a1 (br_t a1 ⟨rfl, R⟩)
  by_cases a2 : 3 < v1
  · exact br_f a1 (br_t a2 (br_f a1 (br_t a2 ⟨rfl, R⟩)))
  by_cases a3 : v3 < 0
  · exact br_f a1 (br_f a2 (br_t a3 (br_f a1 (br_f a2 (br_t a3 ⟨rfl, R⟩)))))
  by_cases a4 : v3 ≤ 99
  · have a4' : ¬ 99 < v3 := Int32.not_lt.mpr a4
    by_cases a5 : v2 < 0
    · exact br_f a1 (br_f a2 (br_f a3 (br_t a4 (br_t a5 (br_f a1 (br_f a2 (br_f a3 (br_f a4' (br_t a5 ⟨rfl, R⟩)))))))))
    obtain ⟨tx, htx, rfl⟩ := nI_of2 (M := 3) (n := 3) (by decide) a1 (Int32.not_lt.mp a2)
    obtain ⟨ps, hps, rfl⟩ := nI_of a5
    obtain ⟨z1, z2⟩ := h3 tx (by omega)
    have w : vp_in (nI tx) 4 := vp_in_nI (by omega) (by omega)
    have c : aS (nI tx).toNatClampNeg = nI (sz tx) := by rw [nI_clamp (by omega), z1]
    by_cases a6 : ps ≤ sz tx
    · have a6' : nI ps ≤ aS (nI tx).toNatClampNeg := by rw [c]; exact nI_le a6 (by omega)
      by_cases a7 : sz tx < cap
      · have a7' : aS (nI tx).toNatClampNeg < nI cap := by rw [c]; exact nI_lt a7 (by omega)
        have X : wX_insertLine_67 (fun r u' => wpY_insertLine (fun r' v' => r' = r ∧ i_Rel (k + 4) u' v') (nI cap, nI x, yT, yU, yE, xD, aL, aS, bH, bC, bO, bN, bM, bI, bA, bX, bV) (nI tx) (nI ps) v3) (nI tx) (nI ps) v3 (nI (12 * tx)) q0 q1 q2 q3 q4 q5 q6 q7 q8 q9 (nI cap) (nI x) xD xT xM (sz tx - ps + 1) (nI (sz tx)) (sf_up aL (12 * tx) (sz tx) (sz tx)) aS aR aO aN aZ aE aM aP aQ aH aW aU aV aX := by
          refine xi_67 htx (by omega) a6 z1 ?_ (sz tx - ps) (sz tx) _ (by omega) (Nat.le_refl _) (by omega)
          have Y : wY_insertLine_59 (fun r' v' => r' = 0 ∧ i_Rel (k + 4) (q0, q1, q2, q3, q4, q5, q6, q7, q8, q9, nI cap, nI x, if tx = 3 then xD else 0, xT, xM, upd (sf_up aL (12 * tx) (sz tx) ps) (12 * tx + ps) v3, upd aS tx (nI (sz tx + 1)), aR, aO, aN, aZ, aE, aM, aP, aQ, aH, aW, aU, aV, aX) v') (nI tx) (nI ps) v3 (nI cap) (nI x) yT yU yE xD (sz tx - ps + 1) (nI (sz tx)) (sf_up aL (12 * tx) (sz tx) (sz tx)) aS bH bC bO bN bM bI bA bX bV := by
            refine yi_59 htx (by omega) a6 z1 (rl_01 h4) ⟨rfl, ?_⟩ (sz tx - ps) (sz tx) _ (by omega) (Nat.le_refl _) (by omega)
            refine rl_chg (n := sz tx + 1) h1 h2 h3 h4 (fun e i hi => ?_) (fun t _ => ?_) (by omega)
            · rw [pk_un (by omega)]
              exact if_neg (by omega)
            · by_cases e : t = tx
              · rw [e, pk_us, if_pos rfl]
              · rw [pk_un e, if_neg e]
          rw [sf_up0] at Y
          exact br_f a1 (br_f a2 (br_f a3 (br_f a4' (br_f a5 ⟨w, br_t a6' ⟨w, br_t a7' ⟨w, nm_r c ⟨_, Y⟩⟩⟩⟩))))
        rw [sf_up0] at X
        exact br_f a1 (br_f a2 (br_f a3 (br_t a4 (br_f a5 ⟨w, br_t a6' ⟨w, br_t a7' (nm_r (ib_m12 tx) ⟨w, nm_r c ⟨_, X⟩⟩)⟩⟩))))
      · have a7' : ¬ aS (nI tx).toNatClampNeg < nI cap := by rw [c]; exact nI_nlt (by omega) (by omega)
        exact br_f a1 (br_f a2 (br_f a3 (br_t a4 (br_f a5 ⟨w, br_t a6' ⟨w, br_f a7' (br_f a1 (br_f a2 (br_f a3 (br_f a4' (br_f a5 ⟨w, br_t a6' ⟨w, br_f a7' ⟨rfl, R⟩⟩⟩)))))⟩⟩))))
    · have a6' : ¬ nI ps ≤ aS (nI tx).toNatClampNeg := by rw [c]; exact nI_ge (by omega) (by omega)
      exact br_f a1 (br_f a2 (br_f a3 (br_t a4 (br_f a5 ⟨w, br_f a6' (br_f a1 (br_f a2 (br_f a3 (br_f a4' (br_f a5 ⟨w, br_f a6' ⟨rfl, R⟩⟩)))))⟩))))
  · have a4' : 99 < v3 := Int32.not_le.mp a4
    exact br_f a1 (br_f a2 (br_f a3 (br_f a4 (br_f a1 (br_f a2 (br_f a3 (br_t a4' ⟨rfl, R⟩)))))))
theorem i_vc_removeLine {k : Nat} {u : SX} {v : SY} (I : i_Rel k u v) (hk : k + 4 ≤ 2050) (v1 : Int32) (v2 : Int32) : wpX_removeLine (fun r u' => wpY_removeLine (fun r' v' => r' = r ∧ i_Rel (k + 4) u' v') v v1 v2) u v1 v2 := by
  refine rl_el (Q := fun u v => wpX_removeLine (fun r u' => wpY_removeLine (fun r' v' => r' = r ∧ i_Rel (k + 4) u' v') v v1 v2) u v1 v2) I ?_
  intro q0 q1 q2 q3 q4 q5 q6 q7 q8 q9 xD xT xM aL aS aR aO aN aZ aE aM aP aQ aH aW aU aV aX yT yU yE bH bC bO bN bM bI bA bX bV cap x sz h1 h2 h3 h4
  have R : i_Rel (k + 4) (q0, q1, q2, q3, q4, q5, q6, q7, q8, q9, nI cap, nI x, xD, xT, xM, aL, aS, aR, aO, aN, aZ, aE, aM, aP, aQ, aH, aW, aU, aV, aX) (nI cap, nI x, yT, yU, yE, xD, aL, aS, bH, bC, bO, bN, bM, bI, bA, bX, bV) := rl_mk h1 h2 h3 h4
  by_cases a1 : v1 < 0
  · exact br_t a1 (br_t a1 ⟨rfl, R⟩)
  by_cases a2 : v1 ≤ 3
  · have a2' : ¬ 3 < v1 := Int32.not_lt.mpr a2
    by_cases a5 : v2 < 0
    · exact br_f a1 (br_t a2 (br_t a5 (br_f a1 (br_f a2' (br_t a5 ⟨rfl, R⟩)))))
    obtain ⟨tx, htx, rfl⟩ := nI_of2 (M := 3) (n := 3) (by decide) a1 a2
    obtain ⟨ps, hps, rfl⟩ := nI_of a5
    obtain ⟨z1, z2⟩ := h3 tx (by omega)
    have w : vp_in (nI tx) 4 := vp_in_nI (by omega) (by omega)
    have ct : (nI tx).toNatClampNeg = tx := nI_clamp (by omega)
    have c : aS (nI tx).toNatClampNeg = nI (sz tx) := by rw [ct, z1]
    by_cases a6 : ps < sz tx
    · have a6' : nI ps < aS (nI tx).toNatClampNeg := by rw [c]; exact nI_lt a6 (by omega)
      obtain ⟨s, es⟩ : ∃ s, sz tx = s + 1 := ⟨sz tx - 1, by omega⟩
      rw [es] at z1 c
      have X : wX_removeLine_45 (fun r u' => wpY_removeLine (fun r' v' => r' = r ∧ i_Rel (k + 4) u' v') (nI cap, nI x, yT, yU, yE, xD, aL, aS, bH, bC, bO, bN, bM, bI, bA, bX, bV) (nI tx) (nI ps)) (nI tx) (nI (12 * tx)) q0 q1 q2 q3 q4 q5 q6 q7 q8 q9 (nI cap) (nI x) xD xT xM (s - ps + 1) (nI ps) (sf_dn aL (12 * tx) ps ps) (upd aS tx (nI s)) aR aO aN aZ aE aM aP aQ aH aW aU aV aX := by
        refine xr_45 htx (by omega) (by omega) pk_us ?_ (s - ps) ps _ (by omega) (Nat.le_refl _) (by omega)
        have Y : wY_removeLine_27 (fun r' v' => r' = 0 ∧ i_Rel (k + 4) (q0, q1, q2, q3, q4, q5, q6, q7, q8, q9, nI cap, nI x, if tx = 3 then xD else 0, xT, xM, sf_dn aL (12 * tx) ps s, upd aS tx (nI s), aR, aO, aN, aZ, aE, aM, aP, aQ, aH, aW, aU, aV, aX) v') (nI tx) (nI cap) (nI x) yT yU yE xD (s - ps + 1) (nI ps) (sf_dn aL (12 * tx) ps ps) aS bH bC bO bN bM bI bA bX bV := by
          refine yr_27 htx (by omega) (by omega) z1 (rl_01 h4) ⟨rfl, ?_⟩ (s - ps) ps _ (by omega) (Nat.le_refl _) (by omega)
          refine rl_chg (n := s) h1 h2 h3 h4 (fun e i hi => ?_) (fun t _ => ?_) (by omega)
          · exact if_neg (by omega)
          · by_cases e : t = tx
            · rw [e, pk_us, if_pos rfl]
            · rw [pk_un e, if_neg e]
        rw [sf_dn0] at Y
        exact br_f a1 (br_f a2' (br_f a5 ⟨w, br_t a6' ⟨_, Y⟩⟩))
      rw [sf_dn0] at X
      exact br_f a1 (br_t a2 (br_f a5 ⟨w, br_t a6' (nm_r (ib_m12 tx) ⟨w, w, nm_r (e' := upd aS tx (nI s)) (by rw [c, ct, nI_pred]) ⟨_, X⟩⟩)⟩))
    · have a6' : ¬ nI ps < aS (nI tx).toNatClampNeg := by rw [c]; exact nI_nlt (by omega) (by omega)
      exact br_f a1 (br_t a2 (br_f a5 ⟨w, br_f a6' (br_f a1 (br_f a2' (br_f a5 ⟨w, br_f a6' ⟨rfl, R⟩⟩)))⟩))
  · have a2' : 3 < v1 := Int32.not_le.mp a2
    exact br_f a1 (br_f a2 (br_f a1 (br_t a2' ⟨rfl, R⟩)))
end
section
/-! the owed rows: length, lineAt, copyText -/
theorem rl_sz {cap : Nat} {aS : Nat → Int32} {sz : Nat → Nat} (h1 : cap ≤ 12) (h3 : rl_Z cap aS sz) : (aS 0 = nI (sz 0) ∧ aS 1 = nI (sz 1) ∧ aS 2 = nI (sz 2) ∧ aS 3 = nI (sz 3)) ∧ sz 0 ≤ 12 ∧ sz 1 ≤ 12 ∧ sz 2 ≤ 12 ∧ sz 3 ≤ 12 := by
  have a := h3 0 (by omega)
  have b := h3 1 (by omega)
  have c := h3 2 (by omega)
  have d := h3 3 (by omega)
  exact ⟨⟨a.1, b.1, c.1, d.1⟩, by omega, by omega, by omega, by omega⟩
theorem rl_mgl {L : Nat → Int32} {b l r : Nat} {ch : Nat → Int32} (hb : b ≤ 12) (hl : l ≤ 12) (hr : r ≤ 12) : (mg_all L (ck_t L b l r) ch (ck_n L b l r)).length ≤ 64 := by
  obtain ⟨f1, f2, f3⟩ := ck_facts (L := L) hb hl hr
  exact Nat.le_trans (mg_alll L (ck_t L b l r) ch (ck_n L b l r)) f3
section
variable {yC yK yT yU yE yD : Int32} {bL bS bH bC bO bN bM bI bA bX bV : Nat → Int32}
variable {L : Nat → Int32} {b l r : Nat}
theorem yl_bad {post : Int32 → SY → Prop} {v1 : Int32} (h : v1 < 0 ∨ ¬ v1 ≤ 4) (K : post (-1) (yC, yK, yT, yU, yE, yD, bL, bS, bH, bC, bO, bN, bM, bI, bA, bX, bV)) : wpY_length post (yC, yK, yT, yU, yE, yD, bL, bS, bH, bC, bO, bN, bM, bI, bA, bX, bV) v1 := by
  unfold wpY_length
  by_cases a : v1 < 0
  · exact br_t a K
  · rcases h with z | z
    · exact absurd z a
    · exact br_f a (br_f z K)
theorem yl_3 {post : Int32 → SY → Prop} (h : yD = 0) (K : post (-3) (yC, yK, yT, yU, yE, yD, bL, bS, bH, bC, bO, bN, bM, bI, bA, bX, bV)) : wpY_length post (yC, yK, yT, yU, yE, yD, bL, bS, bH, bC, bO, bN, bM, bI, bA, bX, bV) 4 := by
  unfold wpY_length
  exact br_f (by decide) (br_t (by decide) (br_t (by decide) (br_t h K)))
theorem yl_t {post : Int32 → SY → Prop} {tx : Nat} (h : tx < 4) (K : post (bS tx) (yC, yK, yT, yU, yE, yD, bL, bS, bH, bC, bO, bN, bM, bI, bA, bX, bV)) : wpY_length post (yC, yK, yT, yU, yE, yD, bL, bS, bH, bC, bO, bN, bM, bI, bA, bX, bV) (nI tx) := by
  unfold wpY_length
  refine br_f (nI_pos (by omega)) (br_t (nI_le (b := 4) (by omega) (by decide)) (br_f (nI_ge (b := 4) h (by decide)) ⟨vp_in_nI h (by omega), ?_⟩))
  rw [nI_clamp (by omega)]
  exact K
theorem yl_m {post : Int32 → SY → Prop} (hD : yD = 1) (hL : ∀ i, i < 36 → bL i = L i) (hb : b ≤ 12) (hl : l ≤ 12) (hr : r ≤ 12) (h0 : bS 0 = nI b) (h1 : bS 1 = nI l) (h2 : bS 2 = nI r)
    (K : ∀ gT gE gC gO gN gM gI gA gX gV, ls_A gV (mg_all L (ck_t L b l r) bH (ck_n L b l r)) → post (nI (mg_all L (ck_t L b l r) bH (ck_n L b l r)).length) (yC, yK, gT, nI (ck_n L b l r), gE, yD, bL, bS, bH, gC, gO, gN, gM, gI, gA, gX, gV)) : wpY_length post (yC, yK, yT, yU, yE, yD, bL, bS, bH, bC, bO, bN, bM, bI, bA, bX, bV) 4 := by
  unfold wpY_length
  exact br_f (by decide) (br_t (by decide) (br_t (by decide) (br_f (by rw [hD]; decide) (ym_merge hL hb hl hr h0 h1 h2 K))))
end
theorem i_vc_length {k : Nat} {u : SX} {v : SY} (I : i_Rel k u v) (hk : k + 4 ≤ 2050) (v1 : Int32) : wpX_length (fun r => wpY_length (fun r' v' => r' = r ∧ i_Rel (k + 4) u v') v v1) u v1 := by
  refine rl_el (Q := fun u v => wpX_length (fun r => wpY_length (fun r' v' => r' = r ∧ i_Rel (k + 4) u v') v v1) u v1) I ?_
  intro q0 q1 q2 q3 q4 q5 q6 q7 q8 q9 xD xT xM aL aS aR aO aN aZ aE aM aP aQ aH aW aU aV aX yT yU yE bH bC bO bN bM bI bA bX bV cap x sz h1 h2 h3 h4
  have R : i_Rel (k + 4) (q0, q1, q2, q3, q4, q5, q6, q7, q8, q9, nI cap, nI x, xD, xT, xM, aL, aS, aR, aO, aN, aZ, aE, aM, aP, aQ, aH, aW, aU, aV, aX) (nI cap, nI x, yT, yU, yE, xD, aL, aS, bH, bC, bO, bN, bM, bI, bA, bX, bV) := rl_mk h1 h2 h3 h4
  obtain ⟨⟨s0, s1, s2, s3⟩, t0, t1, t2, t3⟩ := rl_sz h1 h3
  by_cases a1 : v1 < 0
  · exact br_t a1 (yl_bad (Or.inl a1) ⟨rfl, R⟩)
  by_cases a2 : v1 ≤ 4
  · by_cases a3 : v1 = 4
    · subst a3
      rcases h4 with z | ⟨z, L, cL, cS1, cS2, cT, cU, cM, cV⟩
      · exact br_f a1 (br_t a2 (br_t rfl (br_t z (yl_3 z ⟨rfl, R⟩))))
      · refine br_f a1 (br_t a2 (br_t rfl (br_f (by rw [z]; decide) ?_)))
        rw [cM]
        exact yl_m z cL t0 t1 t2 s0 s1 s2 (fun gT gE gC gO gN gM gI gA gX gV hV => ⟨rfl, rl_mk h1 h2 h3 (Or.inr ⟨z, L, cL, cS1, cS2, cT, cU, rfl, cV⟩)⟩)
    · obtain ⟨tx, htx, rfl⟩ := nI_of2 (M := 4) (n := 4) (by decide) a1 a2
      have htx : tx < 4 := by
        refine Nat.not_le.mp fun z => a3 ?_
        rw [show tx = 4 by omega]
        rfl
      refine br_f a1 (br_t a2 (br_f a3 ⟨vp_in_nI htx (by omega), ?_⟩))
      rw [nI_clamp (by omega)]
      exact yl_t htx ⟨rfl, R⟩
  · exact br_f a1 (br_f a2 (yl_bad (Or.inr a2) ⟨rfl, R⟩))
theorem i_vc_lineAt {k : Nat} {u : SX} {v : SY} (I : i_Rel k u v) (hk : k + 4 ≤ 2050) (v1 : Int32) (v2 : Int32) : wpX_lineAt (fun r => wpY_lineAt (fun r' v' => r' = r ∧ i_Rel (k + 4) u v') v v1 v2) u v1 v2 := by
  refine rl_el (Q := fun u v => wpX_lineAt (fun r => wpY_lineAt (fun r' v' => r' = r ∧ i_Rel (k + 4) u v') v v1 v2) u v1 v2) I ?_
  intro q0 q1 q2 q3 q4 q5 q6 q7 q8 q9 xD xT xM aL aS aR aO aN aZ aE aM aP aQ aH aW aU aV aX yT yU yE bH bC bO bN bM bI bA bX bV cap x sz h1 h2 h3 h4
  have R : i_Rel (k + 4) (q0, q1, q2, q3, q4, q5, q6, q7, q8, q9, nI cap, nI x, xD, xT, xM, aL, aS, aR, aO, aN, aZ, aE, aM, aP, aQ, aH, aW, aU, aV, aX) (nI cap, nI x, yT, yU, yE, xD, aL, aS, bH, bC, bO, bN, bM, bI, bA, bX, bV) := rl_mk h1 h2 h3 h4
  obtain ⟨⟨s0, s1, s2, s3⟩, t0, t1, t2, t3⟩ := rl_sz h1 h3
  have n1 : ¬ (0 : Int32) ≤ -1 := by decide
  have n3 : ¬ (0 : Int32) ≤ -3 := by decide
  by_cases a1 : v1 < 0
  · refine br_t a1 ?_
    unfold wpY_lineAt
    exact yl_bad (Or.inl a1) (br_f n1 ⟨rfl, R⟩)
  by_cases a2 : v1 ≤ 4
  · by_cases a3 : v1 = 4
    · subst a3
      rcases h4 with z | ⟨z, L, cL, cS1, cS2, cT, cU, cM, cV⟩
      · refine br_f a1 (br_t a2 (br_t rfl (br_t z ?_)))
        unfold wpY_lineAt
        exact yl_3 z (br_f n3 ⟨rfl, R⟩)
      · have ll := rl_mgl (L := L) (ch := bH) t0 t1 t2
        have Y : ∀ {post : Int32 → SY → Prop}, (∀ gT gE gC gO gN gM gI gA gX gV, ls_A gV (mg_all L (ck_t L (sz 0) (sz 1) (sz 2)) bH (ck_n L (sz 0) (sz 1) (sz 2))) → post (nI (mg_all L (ck_t L (sz 0) (sz 1) (sz 2)) bH (ck_n L (sz 0) (sz 1) (sz 2))).length) (nI cap, nI x, gT, nI (ck_n L (sz 0) (sz 1) (sz 2)), gE, xD, aL, aS, bH, gC, gO, gN, gM, gI, gA, gX, gV)) → wpY_length post (nI cap, nI x, yT, yU, yE, xD, aL, aS, bH, bC, bO, bN, bM, bI, bA, bX, bV) 4 := fun K => yl_m z cL t0 t1 t2 s0 s1 s2 K
        have R2 : ∀ gT gE gU gC gO gN gM gI gA gX gV, i_Rel (k + 4) (q0, q1, q2, q3, q4, q5, q6, q7, q8, q9, nI cap, nI x, xD, xT, xM, aL, aS, aR, aO, aN, aZ, aE, aM, aP, aQ, aH, aW, aU, aV, aX) (nI cap, nI x, gT, gU, gE, xD, aL, aS, bH, gC, gO, gN, gM, gI, gA, gX, gV) := fun _ _ _ _ _ _ _ _ _ _ _ => rl_mk h1 h2 h3 (Or.inr ⟨z, L, cL, cS1, cS2, cT, cU, cM, cV⟩)
        generalize hm : mg_all L (ck_t L (sz 0) (sz 1) (sz 2)) bH (ck_n L (sz 0) (sz 1) (sz 2)) = ml at Y cV cM ll
        have p0 : 0 ≤ nI ml.length := nI_pos' (by omega)
        refine br_f a1 (br_t a2 (br_t rfl (br_f (by rw [z]; decide) ?_)))
        unfold wX_lineAt_26 wX_lineAt_44
        refine br_t rfl ?_
        rw [cM]
        by_cases b1 : v2 < 0
        · refine br_t b1 ?_
          unfold wpY_lineAt
          exact Y (fun gT gE gC gO gN gM gI gA gX gV hV => br_t p0 (br_t b1 ⟨rfl, cM ▸ R2 _ _ _ _ _ _ _ _ _ _ _⟩))
        · obtain ⟨ps, hps, rfl⟩ := nI_of b1
          by_cases b2 : ps < ml.length
          · have b2' : nI ps < nI ml.length := nI_lt b2 (by omega)
            refine br_f b1 (br_t b2' (br_t rfl ⟨vp_in_nI (by omega) (by omega), ?_⟩))
            rw [nI_clamp (by omega), cV ps b2]
            unfold wpY_lineAt
            refine Y (fun gT gE gC gO gN gM gI gA gX gV hV => br_t p0 (br_f b1 (br_t b2' (br_t rfl ⟨vp_in_nI (by omega) (by omega), ?_, cM ▸ R2 _ _ _ _ _ _ _ _ _ _ _⟩))))
            rw [nI_clamp (by omega), hV ps b2]
          · have b2' : ¬ nI ps < nI ml.length := nI_nlt (by omega) (by omega)
            refine br_f b1 (br_f b2' ?_)
            unfold wpY_lineAt
            exact Y (fun gT gE gC gO gN gM gI gA gX gV hV => br_t p0 (br_f b1 (br_f b2' ⟨rfl, cM ▸ R2 _ _ _ _ _ _ _ _ _ _ _⟩)))
    · obtain ⟨tx, htx, rfl⟩ := nI_of2 (M := 4) (n := 4) (by decide) a1 a2
      have htx : tx < 4 := by
        refine Nat.not_le.mp fun z => a3 ?_
        rw [show tx = 4 by omega]
        rfl
      obtain ⟨z1, z2⟩ := h3 tx htx
      have p0 : 0 ≤ aS tx := by rw [z1]; exact nI_pos' (by omega)
      refine br_f a1 (br_t a2 (br_f a3 ?_))
      unfold wX_lineAt_26 wX_lineAt_44
      refine br_f a3 ⟨vp_in_nI htx (by omega), ?_⟩
      rw [nI_clamp (by omega)]
      by_cases b1 : v2 < 0
      · refine br_t b1 ?_
        unfold wpY_lineAt
        exact yl_t htx (br_t p0 (br_t b1 ⟨rfl, R⟩))
      · obtain ⟨ps, hps, rfl⟩ := nI_of b1
        by_cases b2 : nI ps < aS tx
        · have b3 : ps < sz tx := by rw [z1] at b2; exact (nI_ltI hps (by omega)).mp b2
          have e := ib_12 tx ps
          refine br_f b1 (br_t b2 (br_f a3 ⟨by rw [e]; exact vp_in_nI (by omega) (by omega), ?_⟩))
          unfold wpY_lineAt
          exact yl_t htx (br_t p0 (br_f b1 (br_t b2 (br_f a3 ⟨by rw [e]; exact vp_in_nI (by omega) (by omega), rfl, R⟩))))
        · refine br_f b1 (br_f b2 ?_)
          unfold wpY_lineAt
          exact yl_t htx (br_t p0 (br_f b1 (br_f b2 ⟨rfl, R⟩)))
  · refine br_f a1 (br_f a2 ?_)
    unfold wpY_lineAt
    exact yl_bad (Or.inr a2) (br_f n1 ⟨rfl, R⟩)
theorem i_vc_copyText {k : Nat} {u : SX} {v : SY} (I : i_Rel k u v) (hk : k + 4 ≤ 2050) (v1 : Int32) (v2 : Int32) : wpX_copyText (fun r u' => wpY_copyText (fun r' v' => r' = r ∧ i_Rel (k + 4) u' v') v v1 v2) u v1 v2 := by
  refine rl_el (Q := fun u v => wpX_copyText (fun r u' => wpY_copyText (fun r' v' => r' = r ∧ i_Rel (k + 4) u' v') v v1 v2) u v1 v2) I ?_
  intro q0 q1 q2 q3 q4 q5 q6 q7 q8 q9 xD xT xM aL aS aR aO aN aZ aE aM aP aQ aH aW aU aV aX yT yU yE bH bC bO bN bM bI bA bX bV cap x sz h1 h2 h3 h4
  have R : i_Rel (k + 4) (q0, q1, q2, q3, q4, q5, q6, q7, q8, q9, nI cap, nI x, xD, xT, xM, aL, aS, aR, aO, aN, aZ, aE, aM, aP, aQ, aH, aW, aU, aV, aX) (nI cap, nI x, yT, yU, yE, xD, aL, aS, bH, bC, bO, bN, bM, bI, bA, bX, bV) := rl_mk h1 h2 h3 h4
  obtain ⟨⟨s0, s1, s2, s3⟩, t0, t1, t2, t3⟩ := rl_sz h1 h3
  have n3 : ¬ (0 : Int32) ≤ -3 := by decide
  by_cases a1 : v1 < 0
  · exact br_t a1 (br_t a1 ⟨rfl, R⟩)
  by_cases a2 : v1 ≤ 4
  · have a2' : ¬ 4 < v1 := Int32.not_lt.mpr a2
    by_cases a3 : v2 < 0
    · exact br_f a1 (br_t a2 (br_t a3 (br_f a1 (br_f a2' (br_t a3 ⟨rfl, R⟩)))))
    by_cases a4 : v2 ≤ 3
    · obtain ⟨fr, hfr, rfl⟩ := nI_of2 (M := 4) (n := 4) (by decide) a1 a2
      obtain ⟨tx, htx, rfl⟩ := nI_of2 (M := 3) (n := 3) (by decide) a3 a4
      by_cases a5 : fr = 4
      · subst a5
        rcases h4 with z | ⟨z, L, cL, cS1, cS2, cT, cU, cM, cV⟩
        · refine br_f a1 (br_t a2 (br_f a3 (br_t a4 (br_t rfl (br_t z (br_f a1 (br_f a2' (br_f a3 (br_t a4 ?_)))))))))
          refine yl_3 z (br_t rfl ?_)
          unfold wpY_conflicts wpY_chunkCount
          refine br_t z ⟨1, ?_⟩
          rw [wY_conflicts_9]
          refine br_t (by decide) (br_f n3 ?_)
          show wY_copyText_39 _ _ _ (-3) (-3) (nI cap) (nI x) yT yU yE xD aL aS bH bC bO bN bM bI bA bX bV
          unfold wY_copyText_39
          exact br_f n3 ⟨rfl, R⟩
        · obtain ⟨f1, f2, f3⟩ := ck_facts (L := L) t0 t1 t2
          have f2 := ck_rows12 t0 t1 t2 f2
          have ll := rl_mgl (L := L) (ch := bH) t0 t1 t2
          have lo := mg_opl (ck_t L (sz 0) (sz 1) (sz 2)) bH (ck_n L (sz 0) (sz 1) (sz 2))
          have Y : ∀ {post : Int32 → SY → Prop}, (∀ gT gE gU gC gO gN gM gI gA gX gV, ls_A gV (mg_all L (ck_t L (sz 0) (sz 1) (sz 2)) bH (ck_n L (sz 0) (sz 1) (sz 2))) → wY_copyText_39 post 4 (nI tx) (nI (mg_all L (ck_t L (sz 0) (sz 1) (sz 2)) bH (ck_n L (sz 0) (sz 1) (sz 2))).length) (nI (mg_open (ck_t L (sz 0) (sz 1) (sz 2)) bH (ck_n L (sz 0) (sz 1) (sz 2)))) (nI cap) (nI x) gT gU gE xD aL aS bH gC gO gN gM gI gA gX gV) → wpY_copyText post (nI cap, nI x, yT, yU, yE, xD, aL, aS, bH, bC, bO, bN, bM, bI, bA, bX, bV) 4 (nI tx) := by
            intro post K
            refine br_f a1 (br_f a2' (br_f a3 (br_t a4 ?_)))
            refine yl_m z cL t0 t1 t2 s0 s1 s2 (fun gT gE gC gO gN gM gI gA gX gV hV => br_t rfl ?_)
            exact ym_conf z cL t0 t1 t2 s0 s1 s2 (fun gT gC gO gN gM gI gA gX => K _ _ _ _ _ _ _ _ _ _ _ hV)
          have R2 : ∀ gT gE gU gC gO gN gM gI gA gX gV, i_Rel (k + 4) (q0, q1, q2, q3, q4, q5, q6, q7, q8, q9, nI cap, nI x, xD, xT, xM, aL, aS, aR, aO, aN, aZ, aE, aM, aP, aQ, aH, aW, aU, aV, aX) (nI cap, nI x, gT, gU, gE, xD, aL, aS, bH, gC, gO, gN, gM, gI, gA, gX, gV) := fun _ _ _ _ _ _ _ _ _ _ _ => rl_mk h1 h2 h3 (Or.inr ⟨z, L, cL, cS1, cS2, cT, cU, cM, cV⟩)
          refine br_f a1 (br_t a2 (br_f a3 (br_t a4 (br_t rfl (br_f (by rw [z]; decide) ?_)))))
          refine xm_open f1 cT cU f2 ?_
          by_cases b1 : mg_open (ck_t L (sz 0) (sz 1) (sz 2)) bH (ck_n L (sz 0) (sz 1) (sz 2)) = 0
          · have b1' : nI (mg_open (ck_t L (sz 0) (sz 1) (sz 2)) bH (ck_n L (sz 0) (sz 1) (sz 2))) ≤ 0 := by rw [b1]; decide
            have h4' : xD = 0 ∨ (xD = 1 ∧ rl_C x (sz 0) (sz 1) (sz 2) xT xM aL aE aM aP aQ aH aW aU aV bH) := Or.inr ⟨z, L, cL, cS1, cS2, cT, cU, cM, cV⟩
            generalize hm : mg_all L (ck_t L (sz 0) (sz 1) (sz 2)) bH (ck_n L (sz 0) (sz 1) (sz 2)) = ml at Y cV cM ll
            refine br_t b1' ?_
            by_cases b2 : ml.length ≤ cap
            · have b2' : nI ml.length ≤ nI cap := nI_le b2 (by omega)
              refine br_t (by rw [cM]; exact b2') ?_
              unfold wX_copyText_61
              refine br_t rfl ⟨ml.length + 1, ?_⟩
              have X : wX_copyText_83 (fun r u' => wpY_copyText (fun r' v' => r' = r ∧ i_Rel (k + 4) u' v') (nI cap, nI x, yT, yU, yE, xD, aL, aS, bH, bC, bO, bN, bM, bI, bA, bX, bV) 4 (nI tx)) (nI 4) (nI tx) (nI ml.length) q0 q1 q2 q3 q4 q5 q6 q7 q8 q9 (nI cap) (nI x) xD xT xM (ml.length + 1) (nI 0) (sf_cp aL (fun p => ml.getD p 0) (12 * tx) 0) aS aR aO aN aZ aE aM aP aQ aH aW aU aV aX := by
                refine xc_83 (fr := 4) htx (by omega) (by omega) (fun p hp => by rw [if_pos rfl]; exact (cV p hp).symm) ?_ ml.length 0 _ (by omega) (by omega)
                refine Y (fun gT gE gU gC gO gN gM gI gA gX gV hV => ?_)
                unfold wY_copyText_39
                refine br_t (nI_pos' (by omega)) (br_t b1' (br_t b2' ⟨ml.length + 1, ?_⟩))
                have YY : wY_copyText_69 (fun r' v' => r' = 0 ∧ i_Rel (k + 4) (q0, q1, q2, q3, q4, q5, q6, q7, q8, q9, nI cap, nI x, if tx = 3 then xD else 0, xT, xM, sf_cp aL (fun p => ml.getD p 0) (12 * tx) ml.length, upd aS tx (nI ml.length), aR, aO, aN, aZ, aE, aM, aP, aQ, aH, aW, aU, aV, aX) v') (nI 4) (nI tx) (nI ml.length) (nI cap) (nI x) gT gU gE xD (ml.length + 1) (nI 0) (sf_cp aL (fun p => ml.getD p 0) (12 * tx) 0) aS bH gC gO gN gM gI gA gX gV := by
                  refine yc_69 (fr := 4) htx (by omega) (by omega) (Or.inr z) (fun p hp => by rw [if_pos rfl]; exact (hV p hp).symm) ⟨rfl, ?_⟩ ml.length 0 _ (by omega) (by omega)
                  refine rl_chg (n := ml.length) h1 h2 h3 h4' (fun e i hi => ?_) (fun t _ => ?_) b2
                  · exact if_neg (by omega)
                  · by_cases e : t = tx
                    · rw [e, pk_us, if_pos rfl]
                    · rw [pk_un e, if_neg e]
                rw [sf_cp0] at YY
                exact YY
              rw [sf_cp0] at X
              rw [cM]
              rw [← cM] at X ⊢
              exact X
            · have b2' : ¬ nI ml.length ≤ nI cap := nI_ge (by omega) (by omega)
              refine br_f (by rw [cM]; exact b2') ?_
              refine Y (fun gT gE gU gC gO gN gM gI gA gX gV hV => ?_)
              unfold wY_copyText_39
              exact br_t (nI_pos' (by omega)) (br_t b1' (br_f b2' ⟨rfl, R2 _ _ _ _ _ _ _ _ _ _ _⟩))
          · have b1' : ¬ nI (mg_open (ck_t L (sz 0) (sz 1) (sz 2)) bH (ck_n L (sz 0) (sz 1) (sz 2))) ≤ 0 := nI_nle (by omega) (by omega)
            refine br_f b1' ?_
            refine Y (fun gT gE gU gC gO gN gM gI gA gX gV hV => ?_)
            unfold wY_copyText_39
            exact br_t (nI_pos' (by omega)) (br_f b1' ⟨rfl, R2 _ _ _ _ _ _ _ _ _ _ _⟩)
      · have hfr : fr < 4 := by omega
        have a5' : ¬ nI fr = 4 := fun z => a5 (ib_inj (by omega) (by decide) (b := 4) z)
        obtain ⟨z1, z2⟩ := h3 fr hfr
        refine br_f a1 (br_t a2 (br_f a3 (br_t a4 (br_f a5' ?_))))
        unfold wX_copyText_61
        refine br_f a5' ⟨vp_in_nI hfr (by omega), nm_r (e' := nI (sz fr)) (by rw [nI_clamp (by omega), z1]) ⟨sz fr + 1, ?_⟩⟩
        have X : wX_copyText_83 (fun r u' => wpY_copyText (fun r' v' => r' = r ∧ i_Rel (k + 4) u' v') (nI cap, nI x, yT, yU, yE, xD, aL, aS, bH, bC, bO, bN, bM, bI, bA, bX, bV) (nI fr) (nI tx)) (nI fr) (nI tx) (nI (sz fr)) q0 q1 q2 q3 q4 q5 q6 q7 q8 q9 (nI cap) (nI x) xD xT xM (sz fr + 1) (nI 0) (sf_cp aL (fun p => aL (12 * fr + p)) (12 * tx) 0) aS aR aO aN aZ aE aM aP aQ aH aW aU aV aX := by
          refine xc_83 (fr := fr) htx (by omega) (by omega) (fun p hp => by rw [if_neg a5]) ?_ (sz fr) 0 _ (by omega) (by omega)
          refine br_f a1 (br_f a2' (br_f a3 (br_t a4 ?_)))
          refine yl_t hfr (br_f a5' ?_)
          rw [z1]
          show wY_copyText_39 _ _ _ _ _ (nI cap) (nI x) yT yU yE xD aL aS bH bC bO bN bM bI bA bX bV
          unfold wY_copyText_39
          refine br_t (nI_pos' (by omega)) (br_t (by decide) (br_t (nI_le z2 (by omega)) ⟨sz fr + 1, ?_⟩))
          have YY : wY_copyText_69 (fun r' v' => r' = 0 ∧ i_Rel (k + 4) (q0, q1, q2, q3, q4, q5, q6, q7, q8, q9, nI cap, nI x, if tx = 3 then xD else 0, xT, xM, sf_cp aL (fun p => aL (12 * fr + p)) (12 * tx) (sz fr), upd aS tx (nI (sz fr)), aR, aO, aN, aZ, aE, aM, aP, aQ, aH, aW, aU, aV, aX) v') (nI fr) (nI tx) (nI (sz fr)) (nI cap) (nI x) yT yU yE xD (sz fr + 1) (nI 0) (sf_cp aL (fun p => aL (12 * fr + p)) (12 * tx) 0) aS bH bC bO bN bM bI bA bX bV := by
            refine yc_69 (fr := fr) htx (by omega) (by omega) (rl_01 h4) (fun p hp => by rw [if_neg a5]) ⟨rfl, ?_⟩ (sz fr) 0 _ (by omega) (by omega)
            refine rl_chg (n := sz fr) h1 h2 h3 h4 (fun e i hi => ?_) (fun t _ => ?_) z2
            · exact if_neg (by omega)
            · by_cases e : t = tx
              · rw [e, pk_us, if_pos rfl]
              · rw [pk_un e, if_neg e]
          rw [sf_cp0] at YY
          exact YY
        rw [sf_cp0] at X
        exact X
    · exact br_f a1 (br_t a2 (br_f a3 (br_f a4 (br_f a1 (br_f a2' (br_f a3 (br_f a4 ⟨rfl, R⟩)))))))
  · have a2' : 4 < v1 := Int32.not_le.mp a2
    exact br_f a1 (br_f a2 (br_f a1 (br_t a2' ⟨rfl, R⟩)))
end
section
/-! the owed rows: compare and what reads a comparison -/
theorem i_vc_compare {k : Nat} {u : SX} {v : SY} (I : i_Rel k u v) (hk : k + 4 ≤ 2050) : wpX_compare (fun r u' => wpY_compare (fun r' v' => r' = r ∧ i_Rel (k + 4) u' v') v) u := by
  refine rl_el (Q := fun u v => wpX_compare (fun r u' => wpY_compare (fun r' v' => r' = r ∧ i_Rel (k + 4) u' v') v) u) I ?_
  intro q0 q1 q2 q3 q4 q5 q6 q7 q8 q9 xD xT xM aL aS aR aO aN aZ aE aM aP aQ aH aW aU aV aX yT yU yE bH bC bO bN bM bI bA bX bV cap x sz h1 h2 h3 h4
  obtain ⟨⟨s0, s1, s2, s3⟩, t0, t1, t2, t3⟩ := rl_sz h1 h3
  obtain ⟨f1, f2, f3⟩ := ck_facts (L := aL) t0 t1 t2
  refine xc_compare (L := aL) (x := x) (fun i _ => rfl) t0 t1 t2 s0 s1 s2 h2 rfl (fun gR gO gN gZ gE gM gP gQ gH gW gU gV d1 d2 d3 d4 => ?_)
  refine ym_compare (L := aL) (fun i _ => rfl) t0 t1 t2 s0 s1 s2 (fun yT' yH yC' yO yN yM yI yA yX hH => ?_)
  obtain ⟨e1, e2⟩ := mg_allcg (L := aL) (T := ck_t aL (sz 0) (sz 1) (sz 2)) (ch := fun _ => 0) (ch' := yH) (ck_n aL (sz 0) (sz 1) (sz 2)) (fun c hc => (hH c (by omega)).symm)
  refine ⟨by rw [e2], ?_⟩
  rw [e1] at d4
  rw [e1]
  refine rl_mk h1 h2 h3 (Or.inr ⟨rfl, aL, fun i _ => rfl, d1, d2, rfl, fun c hc => ⟨(d3 c hc).1, (d3 c hc).2.trans (hH c (by omega)).symm⟩, rfl, d4⟩)
section
variable {yC yK yT yU yE yD : Int32} {bL bS bH bC bO bN bM bI bA bX bV : Nat → Int32}
variable {L : Nat → Int32} {b s sd x : Nat}
theorem yd_dist {post : Int32 → SY → Prop} (hD : yD = 1) (hL : ∀ i, i < 36 → bL i = L i) (hb : b ≤ 12) (hs : s ≤ 12) (h1 : 1 ≤ sd) (h2 : sd ≤ 2) (h0 : bS 0 = nI b) (hS : bS sd = nI s)
    (K : ∀ gT gC gO gN gM, (∀ i, i < b → gM (12 * sd + i) = sc_m L (sc_B L sd) b s i) → post (nI (ed_D L (sc_B L sd) b s 0 0)) (yC, yK, gT, yU, yE, yD, bL, bS, bH, gC, gO, gN, gM, bI, bA, bX, bV)) : wpY_distance post (yC, yK, yT, yU, yE, yD, bL, bS, bH, bC, bO, bN, bM, bI, bA, bX, bV) (nI sd) := by
  unfold wpY_distance
  exact br_f (nI_nlt (b := 1) h1 (by omega)) (br_t (nI_le (b := 2) h2 (by decide)) (br_f (by rw [hD]; decide) (yw_script hL hb hs h1 h2 h0 hS (fun gC gO gN gM _ k2 _ => K _ _ _ _ _ k2))))
theorem yd_plen {post : Int32 → SY → Prop} (hD : yD = 1) (hL : ∀ i, i < 36 → bL i = L i) (hb : b ≤ 12) (hs : s ≤ 12) (h1 : 1 ≤ sd) (h2 : sd ≤ 2) (h0 : bS 0 = nI b) (hS : bS sd = nI s) (hx : x ≤ 3) (hK : yK = nI x)
    (K : ∀ gT gE gC gO gN gM gV, pt_ag gV (zz_G L sd b s x) 0 (pt_n (zz_S L sd b s x) (zz_N L sd b s)) → post (nI (pt_n (zz_S L sd b s x) (zz_N L sd b s))) (yC, yK, gT, yU, gE, yD, bL, bS, bH, gC, gO, gN, gM, bI, bA, bX, gV)) : wpY_patchLength post (yC, yK, yT, yU, yE, yD, bL, bS, bH, bC, bO, bN, bM, bI, bA, bX, bV) (nI sd) := by
  unfold wpY_patchLength
  exact br_f (nI_nlt (b := 1) h1 (by omega)) (br_t (nI_le (b := 2) h2 (by decide)) (br_f (by rw [hD]; decide) (yp_patch hL hb hs h1 h2 h0 hS hx hK (fun gC gO gN gM gV hV => K _ _ _ _ _ _ _ hV))))
end
theorem rl_side {x : Nat} {sz : Nat → Nat} {L aE aM aP aQ aH aW : Nat → Int32} (c1 : xd_S L 1 (sz 0) (sz 1) x aE aM aP aQ aH aW) (c2 : xd_S L 2 (sz 0) (sz 2) x aE aM aP aQ aH aW) {sd : Nat} (h1 : 1 ≤ sd) (h2 : sd ≤ 2) : xd_S L sd (sz 0) (sz sd) x aE aM aP aQ aH aW := by
  by_cases e : sd = 1
  · subst e; exact c1
  · have e : sd = 2 := by omega
    subst e; exact c2
theorem rl_v12 {v1 : Int32} (a1 : ¬ v1 < 1) (a2 : v1 ≤ 2) : ∃ sd : Nat, 1 ≤ sd ∧ sd ≤ 2 ∧ v1 = nI sd := by
  have t1 : ¬ v1 < 0 := by
    rw [Int32.lt_iff_toInt_lt, show (1 : Int32).toInt = 1 from by decide] at a1
    rw [Int32.lt_iff_toInt_lt, ib_T0]
    omega
  obtain ⟨sd, h, rfl⟩ := nI_of2 (M := 2) (n := 2) (by decide) t1 a2
  refine ⟨sd, ?_, h, rfl⟩
  refine Nat.not_lt.mp fun z => a1 ?_
  rw [show sd = 0 by omega]
  decide
theorem i_vc_distance {k : Nat} {u : SX} {v : SY} (I : i_Rel k u v) (hk : k + 4 ≤ 2050) (v1 : Int32) : wpX_distance (fun r => wpY_distance (fun r' v' => r' = r ∧ i_Rel (k + 4) u v') v v1) u v1 := by
  refine rl_el (Q := fun u v => wpX_distance (fun r => wpY_distance (fun r' v' => r' = r ∧ i_Rel (k + 4) u v') v v1) u v1) I ?_
  intro q0 q1 q2 q3 q4 q5 q6 q7 q8 q9 xD xT xM aL aS aR aO aN aZ aE aM aP aQ aH aW aU aV aX yT yU yE bH bC bO bN bM bI bA bX bV cap x sz h1 h2 h3 h4
  have R : i_Rel (k + 4) (q0, q1, q2, q3, q4, q5, q6, q7, q8, q9, nI cap, nI x, xD, xT, xM, aL, aS, aR, aO, aN, aZ, aE, aM, aP, aQ, aH, aW, aU, aV, aX) (nI cap, nI x, yT, yU, yE, xD, aL, aS, bH, bC, bO, bN, bM, bI, bA, bX, bV) := rl_mk h1 h2 h3 h4
  obtain ⟨⟨s0, s1, s2, s3⟩, t0, t1, t2, t3⟩ := rl_sz h1 h3
  by_cases a1 : v1 < 1
  · exact br_t a1 (br_t a1 ⟨rfl, R⟩)
  by_cases a2 : v1 ≤ 2
  · rcases h4 with z | ⟨z, L, cL, cS1, cS2, cT, cU, cM, cV⟩
    · exact br_f a1 (br_t a2 (br_t z (br_f a1 (br_t a2 (br_t z ⟨rfl, R⟩)))))
    · obtain ⟨sd, l1, l2, rfl⟩ := rl_v12 a1 a2
      obtain ⟨z1, z2⟩ := h3 sd (by omega)
      have D := rl_side cS1 cS2 l1 l2
      refine br_f a1 (br_t a2 (br_f (by rw [z]; decide) ⟨vp_in_nI (by omega) (by omega), ?_⟩))
      rw [nI_clamp (by omega), D.1]
      exact yd_dist z cL t0 (by omega) l1 l2 s0 z1 (fun gT gC gO gN gM _ => ⟨rfl, rl_mk h1 h2 h3 (Or.inr ⟨z, L, cL, cS1, cS2, cT, cU, cM, cV⟩)⟩)
  · exact br_f a1 (br_f a2 (br_f a1 (br_f a2 ⟨rfl, R⟩)))
theorem i_vc_matchOf {k : Nat} {u : SX} {v : SY} (I : i_Rel k u v) (hk : k + 4 ≤ 2050) (v1 : Int32) (v2 : Int32) : wpX_matchOf (fun r => wpY_matchOf (fun r' v' => r' = r ∧ i_Rel (k + 4) u v') v v1 v2) u v1 v2 := by
  refine rl_el (Q := fun u v => wpX_matchOf (fun r => wpY_matchOf (fun r' v' => r' = r ∧ i_Rel (k + 4) u v') v v1 v2) u v1 v2) I ?_
  intro q0 q1 q2 q3 q4 q5 q6 q7 q8 q9 xD xT xM aL aS aR aO aN aZ aE aM aP aQ aH aW aU aV aX yT yU yE bH bC bO bN bM bI bA bX bV cap x sz h1 h2 h3 h4
  have R : i_Rel (k + 4) (q0, q1, q2, q3, q4, q5, q6, q7, q8, q9, nI cap, nI x, xD, xT, xM, aL, aS, aR, aO, aN, aZ, aE, aM, aP, aQ, aH, aW, aU, aV, aX) (nI cap, nI x, yT, yU, yE, xD, aL, aS, bH, bC, bO, bN, bM, bI, bA, bX, bV) := rl_mk h1 h2 h3 h4
  obtain ⟨⟨s0, s1, s2, s3⟩, t0, t1, t2, t3⟩ := rl_sz h1 h3
  have n1 : ¬ (0 : Int32) ≤ -1 := by decide
  have n3 : ¬ (0 : Int32) ≤ -3 := by decide
  by_cases a1 : v1 < 1
  · refine br_t a1 ?_
    unfold wpY_matchOf wpY_distance
    exact br_t a1 (br_f n1 ⟨rfl, R⟩)
  by_cases a2 : v1 ≤ 2
  · rcases h4 with z | ⟨z, L, cL, cS1, cS2, cT, cU, cM, cV⟩
    · refine br_f a1 (br_t a2 (br_t z ?_))
      unfold wpY_matchOf wpY_distance
      exact br_f a1 (br_t a2 (br_t z (br_f n3 ⟨rfl, R⟩)))
    · obtain ⟨sd, l1, l2, rfl⟩ := rl_v12 a1 a2
      obtain ⟨z1, z2⟩ := h3 sd (by omega)
      have D := rl_side cS1 cS2 l1 l2
      have dl := ed_le (A := L) (B := sc_B L sd) (b := sz 0) (s := sz sd) (i := 0) (j := 0) (Nat.zero_le _) (Nat.zero_le _)
      have p0 : 0 ≤ nI (ed_D L (sc_B L sd) (sz 0) (sz sd) 0 0) := nI_pos' (by omega)
      have R2 : ∀ gT gC gO gN gM, i_Rel (k + 4) (q0, q1, q2, q3, q4, q5, q6, q7, q8, q9, nI cap, nI x, xD, xT, xM, aL, aS, aR, aO, aN, aZ, aE, aM, aP, aQ, aH, aW, aU, aV, aX) (nI cap, nI x, gT, yU, yE, xD, aL, aS, bH, gC, gO, gN, gM, bI, bA, bX, bV) := fun _ _ _ _ _ => rl_mk h1 h2 h3 (Or.inr ⟨z, L, cL, cS1, cS2, cT, cU, cM, cV⟩)
      refine br_f a1 (br_t a2 (br_f (by rw [z]; decide) ?_))
      by_cases b1 : v2 < 0
      · refine br_t b1 ?_
        unfold wpY_matchOf
        exact yd_dist z cL t0 (by omega) l1 l2 s0 z1 (fun gT gC gO gN gM _ => br_t p0 (br_t b1 ⟨rfl, R2 _ _ _ _ _⟩))
      · obtain ⟨ps, hps, rfl⟩ := nI_of b1
        have e := ib_12 sd ps
        by_cases b2 : nI ps < aS 0
        · have b3 : ps < sz 0 := by rw [s0] at b2; exact (nI_ltI hps (by omega)).mp b2
          refine br_f b1 (br_t b2 ⟨by rw [e]; exact vp_in_nI (by omega) (by omega), ?_⟩)
          rw [e, nI_clamp (by omega), D.2.1 ps b3]
          unfold wpY_matchOf
          refine yd_dist z cL t0 (by omega) l1 l2 s0 z1 (fun gT gC gO gN gM hM => br_t p0 (br_f b1 (br_t b2 ⟨by rw [e]; exact vp_in_nI (by omega) (by omega), ?_, R2 _ _ _ _ _⟩)))
          rw [e, nI_clamp (by omega), hM ps b3]
        · refine br_f b1 (br_f b2 ?_)
          unfold wpY_matchOf
          exact yd_dist z cL t0 (by omega) l1 l2 s0 z1 (fun gT gC gO gN gM _ => br_t p0 (br_f b1 (br_f b2 ⟨rfl, R2 _ _ _ _ _⟩)))
  · refine br_f a1 (br_f a2 ?_)
    unfold wpY_matchOf wpY_distance
    exact br_f a1 (br_f a2 (br_f n1 ⟨rfl, R⟩))
theorem rl_few {L : Nat → Int32} {sd b s x : Nat} (hb : b ≤ 12) (hs : s ≤ 12) : pt_k (zz_S L sd b s x) (zz_N L sd b s) ≤ 12 ∧ pt_n (zz_S L sd b s x) (zz_N L sd b s) ≤ 108 := by
  have hN := sc_nE (A := L) (B := sc_B L sd) (b := b) (s := s)
  exact pt_few (by unfold zz_N; omega)
theorem i_vc_patchLength {k : Nat} {u : SX} {v : SY} (I : i_Rel k u v) (hk : k + 4 ≤ 2050) (v1 : Int32) : wpX_patchLength (fun r => wpY_patchLength (fun r' v' => r' = r ∧ i_Rel (k + 4) u v') v v1) u v1 := by
  refine rl_el (Q := fun u v => wpX_patchLength (fun r => wpY_patchLength (fun r' v' => r' = r ∧ i_Rel (k + 4) u v') v v1) u v1) I ?_
  intro q0 q1 q2 q3 q4 q5 q6 q7 q8 q9 xD xT xM aL aS aR aO aN aZ aE aM aP aQ aH aW aU aV aX yT yU yE bH bC bO bN bM bI bA bX bV cap x sz h1 h2 h3 h4
  have R : i_Rel (k + 4) (q0, q1, q2, q3, q4, q5, q6, q7, q8, q9, nI cap, nI x, xD, xT, xM, aL, aS, aR, aO, aN, aZ, aE, aM, aP, aQ, aH, aW, aU, aV, aX) (nI cap, nI x, yT, yU, yE, xD, aL, aS, bH, bC, bO, bN, bM, bI, bA, bX, bV) := rl_mk h1 h2 h3 h4
  obtain ⟨⟨s0, s1, s2, s3⟩, t0, t1, t2, t3⟩ := rl_sz h1 h3
  by_cases a1 : v1 < 1
  · exact br_t a1 (br_t a1 ⟨rfl, R⟩)
  by_cases a2 : v1 ≤ 2
  · rcases h4 with z | ⟨z, L, cL, cS1, cS2, cT, cU, cM, cV⟩
    · exact br_f a1 (br_t a2 (br_t z (br_f a1 (br_t a2 (br_t z ⟨rfl, R⟩)))))
    · obtain ⟨sd, l1, l2, rfl⟩ := rl_v12 a1 a2
      obtain ⟨z1, z2⟩ := h3 sd (by omega)
      have D := rl_side cS1 cS2 l1 l2
      refine br_f a1 (br_t a2 (br_f (by rw [z]; decide) ⟨vp_in_nI (by omega) (by omega), ?_⟩))
      rw [nI_clamp (by omega), D.2.2.2.1]
      exact yd_plen z cL t0 (by omega) l1 l2 s0 z1 h2 rfl (fun gT gE gC gO gN gM gV _ => ⟨rfl, rl_mk h1 h2 h3 (Or.inr ⟨z, L, cL, cS1, cS2, cT, cU, cM, cV⟩)⟩)
  · exact br_f a1 (br_f a2 (br_f a1 (br_f a2 ⟨rfl, R⟩)))
theorem i_vc_patchCell {k : Nat} {u : SX} {v : SY} (I : i_Rel k u v) (hk : k + 4 ≤ 2050) (v1 : Int32) (v2 : Int32) : wpX_patchCell (fun r => wpY_patchCell (fun r' v' => r' = r ∧ i_Rel (k + 4) u v') v v1 v2) u v1 v2 := by
  refine rl_el (Q := fun u v => wpX_patchCell (fun r => wpY_patchCell (fun r' v' => r' = r ∧ i_Rel (k + 4) u v') v v1 v2) u v1 v2) I ?_
  intro q0 q1 q2 q3 q4 q5 q6 q7 q8 q9 xD xT xM aL aS aR aO aN aZ aE aM aP aQ aH aW aU aV aX yT yU yE bH bC bO bN bM bI bA bX bV cap x sz h1 h2 h3 h4
  have R : i_Rel (k + 4) (q0, q1, q2, q3, q4, q5, q6, q7, q8, q9, nI cap, nI x, xD, xT, xM, aL, aS, aR, aO, aN, aZ, aE, aM, aP, aQ, aH, aW, aU, aV, aX) (nI cap, nI x, yT, yU, yE, xD, aL, aS, bH, bC, bO, bN, bM, bI, bA, bX, bV) := rl_mk h1 h2 h3 h4
  obtain ⟨⟨s0, s1, s2, s3⟩, t0, t1, t2, t3⟩ := rl_sz h1 h3
  have n1 : ¬ (0 : Int32) ≤ -1 := by decide
  have n3 : ¬ (0 : Int32) ≤ -3 := by decide
  by_cases a1 : v1 < 1
  · refine br_t a1 ?_
    unfold wpY_patchCell wpY_patchLength
    exact br_t a1 (br_f n1 ⟨rfl, R⟩)
  by_cases a2 : v1 ≤ 2
  · rcases h4 with z | ⟨z, L, cL, cS1, cS2, cT, cU, cM, cV⟩
    · refine br_f a1 (br_t a2 (br_t z ?_))
      unfold wpY_patchCell wpY_patchLength
      exact br_f a1 (br_t a2 (br_t z (br_f n3 ⟨rfl, R⟩)))
    · obtain ⟨sd, l1, l2, rfl⟩ := rl_v12 a1 a2
      obtain ⟨z1, z2⟩ := h3 sd (by omega)
      have D := rl_side cS1 cS2 l1 l2
      have few := rl_few (L := L) (sd := sd) (b := sz 0) (s := sz sd) (x := x) t0 (by omega)
      have p0 : 0 ≤ nI (pt_n (zz_S L sd (sz 0) (sz sd) x) (zz_N L sd (sz 0) (sz sd))) := nI_pos' (by omega)
      have R2 : ∀ gT gE gC gO gN gM gV, i_Rel (k + 4) (q0, q1, q2, q3, q4, q5, q6, q7, q8, q9, nI cap, nI x, xD, xT, xM, aL, aS, aR, aO, aN, aZ, aE, aM, aP, aQ, aH, aW, aU, aV, aX) (nI cap, nI x, gT, yU, gE, xD, aL, aS, bH, gC, gO, gN, gM, bI, bA, bX, gV) := fun _ _ _ _ _ _ _ => rl_mk h1 h2 h3 (Or.inr ⟨z, L, cL, cS1, cS2, cT, cU, cM, cV⟩)
      refine br_f a1 (br_t a2 (br_f (by rw [z]; decide) ?_))
      by_cases b1 : v2 < 0
      · refine br_t b1 ?_
        unfold wpY_patchCell
        exact yd_plen z cL t0 (by omega) l1 l2 s0 z1 h2 rfl (fun gT gE gC gO gN gM gV _ => br_t p0 (br_t b1 ⟨rfl, R2 _ _ _ _ _ _ _⟩))
      · obtain ⟨ps, hps, rfl⟩ := nI_of b1
        have e := ib_128 sd ps
        have c : aQ (nI sd).toNatClampNeg = nI (pt_n (zz_S L sd (sz 0) (sz sd) x) (zz_N L sd (sz 0) (sz sd))) := by rw [nI_clamp (by omega), D.2.2.2.1]
        refine br_f b1 ⟨vp_in_nI (by omega) (by omega), ?_⟩
        by_cases b2 : ps < pt_n (zz_S L sd (sz 0) (sz sd) x) (zz_N L sd (sz 0) (sz sd))
        · have b2' : nI ps < nI (pt_n (zz_S L sd (sz 0) (sz sd) x) (zz_N L sd (sz 0) (sz sd))) := nI_lt b2 (by omega)
          refine br_t (by rw [c]; exact b2') ⟨by rw [e]; exact vp_in_nI (by omega) (by omega), ?_⟩
          rw [e, nI_clamp (by omega), D.2.2.1 ps b2]
          unfold wpY_patchCell
          refine yd_plen z cL t0 (by omega) l1 l2 s0 z1 h2 rfl (fun gT gE gC gO gN gM gV hV => br_t p0 (br_f b1 (br_t b2' ⟨vp_in_nI (by omega) (by omega), ?_, R2 _ _ _ _ _ _ _⟩)))
          have q := hV ps b2
          rw [Nat.zero_add] at q
          rw [nI_clamp (by omega), q]
        · have b2' : ¬ nI ps < nI (pt_n (zz_S L sd (sz 0) (sz sd) x) (zz_N L sd (sz 0) (sz sd))) := nI_nlt (by omega) (by omega)
          refine br_f (by rw [c]; exact b2') ?_
          unfold wpY_patchCell
          exact yd_plen z cL t0 (by omega) l1 l2 s0 z1 h2 rfl (fun gT gE gC gO gN gM gV _ => br_t p0 (br_f b1 (br_f b2' ⟨rfl, R2 _ _ _ _ _ _ _⟩)))
  · refine br_f a1 (br_f a2 ?_)
    unfold wpY_patchCell wpY_patchLength
    exact br_f a1 (br_f a2 (br_f n1 ⟨rfl, R⟩))
theorem i_vc_chunkCount {k : Nat} {u : SX} {v : SY} (I : i_Rel k u v) (hk : k + 4 ≤ 2050) : wpX_chunkCount (fun r => wpY_chunkCount (fun r' v' => r' = r ∧ i_Rel (k + 4) u v') v) u := by
  refine rl_el (Q := fun u v => wpX_chunkCount (fun r => wpY_chunkCount (fun r' v' => r' = r ∧ i_Rel (k + 4) u v') v) u) I ?_
  intro q0 q1 q2 q3 q4 q5 q6 q7 q8 q9 xD xT xM aL aS aR aO aN aZ aE aM aP aQ aH aW aU aV aX yT yU yE bH bC bO bN bM bI bA bX bV cap x sz h1 h2 h3 h4
  have R : i_Rel (k + 4) (q0, q1, q2, q3, q4, q5, q6, q7, q8, q9, nI cap, nI x, xD, xT, xM, aL, aS, aR, aO, aN, aZ, aE, aM, aP, aQ, aH, aW, aU, aV, aX) (nI cap, nI x, yT, yU, yE, xD, aL, aS, bH, bC, bO, bN, bM, bI, bA, bX, bV) := rl_mk h1 h2 h3 h4
  obtain ⟨⟨s0, s1, s2, s3⟩, t0, t1, t2, t3⟩ := rl_sz h1 h3
  rcases h4 with z | ⟨z, L, cL, cS1, cS2, cT, cU, cM, cV⟩
  · exact br_t z (br_t z ⟨rfl, R⟩)
  · refine br_f (by rw [z]; decide) ?_
    rw [cT]
    exact ym_count z cL t0 t1 t2 s0 s1 s2 (fun gT gC gO gN gM gI gA gX _ => ⟨rfl, rl_mk h1 h2 h3 (Or.inr ⟨z, L, cL, cS1, cS2, rfl, cU, cM, cV⟩)⟩)
theorem i_vc_conflicts {k : Nat} {u : SX} {v : SY} (I : i_Rel k u v) (hk : k + 4 ≤ 2050) : wpX_conflicts (fun r => wpY_conflicts (fun r' v' => r' = r ∧ i_Rel (k + 4) u v') v) u := by
  refine rl_el (Q := fun u v => wpX_conflicts (fun r => wpY_conflicts (fun r' v' => r' = r ∧ i_Rel (k + 4) u v') v) u) I ?_
  intro q0 q1 q2 q3 q4 q5 q6 q7 q8 q9 xD xT xM aL aS aR aO aN aZ aE aM aP aQ aH aW aU aV aX yT yU yE bH bC bO bN bM bI bA bX bV cap x sz h1 h2 h3 h4
  have R : i_Rel (k + 4) (q0, q1, q2, q3, q4, q5, q6, q7, q8, q9, nI cap, nI x, xD, xT, xM, aL, aS, aR, aO, aN, aZ, aE, aM, aP, aQ, aH, aW, aU, aV, aX) (nI cap, nI x, yT, yU, yE, xD, aL, aS, bH, bC, bO, bN, bM, bI, bA, bX, bV) := rl_mk h1 h2 h3 h4
  obtain ⟨⟨s0, s1, s2, s3⟩, t0, t1, t2, t3⟩ := rl_sz h1 h3
  have n3 : ¬ (0 : Int32) ≤ -3 := by decide
  rcases h4 with z | ⟨z, L, cL, cS1, cS2, cT, cU, cM, cV⟩
  · refine br_t z ?_
    unfold wpY_conflicts wpY_chunkCount
    refine br_t z ⟨1, ?_⟩
    rw [wY_conflicts_9]
    exact br_t (by decide) (br_f n3 ⟨rfl, R⟩)
  · obtain ⟨f1, f2, f3⟩ := ck_facts (L := L) t0 t1 t2
    have f2 := ck_rows12 t0 t1 t2 f2
    refine br_f (by rw [z]; decide) (xm_open f1 cT cU f2 ?_)
    exact ym_conf z cL t0 t1 t2 s0 s1 s2 (fun gT gC gO gN gM gI gA gX => ⟨rfl, rl_mk h1 h2 h3 (Or.inr ⟨z, L, cL, cS1, cS2, cT, cU, cM, cV⟩)⟩)
section
variable {yC yK yT yU yE yD : Int32} {bL bS bH bC bO bN bM bI bA bX bV : Nat → Int32}
variable {L : Nat → Int32} {b l r : Nat}
/-- chunkInfo of the reference: a bad call, a field, the choice -/
theorem yd_bad {post : Int32 → SY → Prop} {v1 v2 : Int32} (hD : yD = 1) (hL : ∀ i, i < 36 → bL i = L i) (hb : b ≤ 12) (hl : l ≤ 12) (hr : r ≤ 12) (h0 : bS 0 = nI b) (h1 : bS 1 = nI l) (h2 : bS 2 = nI r)
    (h : v1 < 0 ∨ ¬ v1 < nI (ck_n L b l r) ∨ v2 < 0 ∨ ¬ v2 ≤ 7)
    (K : ∀ gT gC gO gN gM gI gA gX, post (-1) (yC, yK, gT, nI (ck_n L b l r), yE, yD, bL, bS, bH, gC, gO, gN, gM, gI, gA, gX, bV)) : wpY_chunkInfo post (yC, yK, yT, yU, yE, yD, bL, bS, bH, bC, bO, bN, bM, bI, bA, bX, bV) v1 v2 := by
  obtain ⟨f1, f2, f3⟩ := ck_facts (L := L) hb hl hr
  have p0 : 0 ≤ nI (ck_n L b l r) := nI_pos' (by omega)
  have p1 : ¬ nI (ck_n L b l r) < 0 := nI_pos (by omega)
  unfold wpY_chunkInfo
  refine ym_count hD hL hb hl hr h0 h1 h2 (fun gT gC gO gN gM gI gA gX _ => br_f p1 ?_)
  have go : wY_chunkInfo_28 post (nI (ck_n L b l r)) yC yK gT (nI (ck_n L b l r)) yE yD bL bS bH gC gO gN gM gI gA gX bV := by
    unfold wY_chunkInfo_28
    exact br_t p0 (K _ _ _ _ _ _ _ _)
  by_cases a1 : v1 < 0
  · exact br_t a1 go
  · refine br_f a1 ?_
    by_cases a2 : v1 < nI (ck_n L b l r)
    · refine br_f (Int32.not_le.mpr a2) ?_
      by_cases a3 : v2 < 0
      · exact br_t a3 go
      · refine br_f a3 (br_f ?_ go)
        rcases h with z | z | z | z
        · exact absurd z a1
        · exact absurd a2 z
        · exact absurd z a3
        · exact z
    · exact br_t (Int32.not_lt.mp a2) go
theorem yd_info {post : Int32 → SY → Prop} {c f : Nat} (hD : yD = 1) (hL : ∀ i, i < 36 → bL i = L i) (hb : b ≤ 12) (hl : l ≤ 12) (hr : r ≤ 12) (h0 : bS 0 = nI b) (h1 : bS 1 = nI l) (h2 : bS 2 = nI r)
    (hc : c < ck_n L b l r) (hf : f ≤ 7)
    (K : ∀ gT gC gO gN gM gI gA gX, post (if f = 7 then bH c else nI (ck_t L b l r c f)) (yC, yK, gT, nI (ck_n L b l r), yE, yD, bL, bS, bH, gC, gO, gN, gM, gI, gA, gX, bV)) : wpY_chunkInfo post (yC, yK, yT, yU, yE, yD, bL, bS, bH, bC, bO, bN, bM, bI, bA, bX, bV) (nI c) (nI f) := by
  obtain ⟨f1, f2, f3⟩ := ck_facts (L := L) hb hl hr
  unfold wpY_chunkInfo
  refine ym_count hD hL hb hl hr h0 h1 h2 (fun gT gC gO gN gM gI gA gX hI => br_f (nI_pos (by omega)) (br_f (nI_pos (by omega)) (br_f (nI_ge hc (by omega)) (br_f (nI_pos (by omega)) (br_t (nI_le (b := 7) hf (by decide)) ?_)))))
  refine pk_eq f 7 (fun z => ⟨vp_in_nI (by omega) (by omega), ?_⟩) (fun z => ?_)
  · rw [if_pos z] at K
    rw [nI_clamp (by omega)]
    exact K _ _ _ _ _ _ _ _
  · rw [if_neg z] at K
    have e : nI c * 8 + nI f = nI (8 * c + f) := by rw [ib_m8, nI_add]
    refine ⟨by rw [e]; exact vp_in_nI (by omega) (by omega), ?_⟩
    rw [e, nI_clamp (by omega), hI c hc f (by omega)]
    exact K _ _ _ _ _ _ _ _
theorem yd_3 {post : Int32 → SY → Prop} {v1 v2 : Int32} (z : yD = 0) (K : post (-3) (yC, yK, yT, yU, yE, yD, bL, bS, bH, bC, bO, bN, bM, bI, bA, bX, bV)) : wpY_chunkInfo post (yC, yK, yT, yU, yE, yD, bL, bS, bH, bC, bO, bN, bM, bI, bA, bX, bV) v1 v2 := by
  unfold wpY_chunkInfo wpY_chunkCount
  refine br_t z (br_t (by decide) ?_)
  show wY_chunkInfo_28 post (-3) yC yK yT yU yE yD bL bS bH bC bO bN bM bI bA bX bV
  unfold wY_chunkInfo_28
  exact br_f (by decide) K
end
theorem i_vc_chunkInfo {k : Nat} {u : SX} {v : SY} (I : i_Rel k u v) (hk : k + 4 ≤ 2050) (v1 : Int32) (v2 : Int32) : wpX_chunkInfo (fun r => wpY_chunkInfo (fun r' v' => r' = r ∧ i_Rel (k + 4) u v') v v1 v2) u v1 v2 := by
  refine rl_el (Q := fun u v => wpX_chunkInfo (fun r => wpY_chunkInfo (fun r' v' => r' = r ∧ i_Rel (k + 4) u v') v v1 v2) u v1 v2) I ?_
  intro q0 q1 q2 q3 q4 q5 q6 q7 q8 q9 xD xT xM aL aS aR aO aN aZ aE aM aP aQ aH aW aU aV aX yT yU yE bH bC bO bN bM bI bA bX bV cap x sz h1 h2 h3 h4
  have R : i_Rel (k + 4) (q0, q1, q2, q3, q4, q5, q6, q7, q8, q9, nI cap, nI x, xD, xT, xM, aL, aS, aR, aO, aN, aZ, aE, aM, aP, aQ, aH, aW, aU, aV, aX) (nI cap, nI x, yT, yU, yE, xD, aL, aS, bH, bC, bO, bN, bM, bI, bA, bX, bV) := rl_mk h1 h2 h3 h4
  obtain ⟨⟨s0, s1, s2, s3⟩, t0, t1, t2, t3⟩ := rl_sz h1 h3
  rcases h4 with z | ⟨z, L, cL, cS1, cS2, cT, cU, cM, cV⟩
  · exact br_t z (yd_3 z ⟨rfl, R⟩)
  · obtain ⟨f1, f2, f3⟩ := ck_facts (L := L) t0 t1 t2
    have R2 : ∀ gT gU gC gO gN gM gI gA gX, i_Rel (k + 4) (q0, q1, q2, q3, q4, q5, q6, q7, q8, q9, nI cap, nI x, xD, xT, xM, aL, aS, aR, aO, aN, aZ, aE, aM, aP, aQ, aH, aW, aU, aV, aX) (nI cap, nI x, gT, gU, yE, xD, aL, aS, bH, gC, gO, gN, gM, gI, gA, gX, bV) := fun _ _ _ _ _ _ _ _ _ => rl_mk h1 h2 h3 (Or.inr ⟨z, L, cL, cS1, cS2, cT, cU, cM, cV⟩)
    refine br_f (by rw [z]; decide) ?_
    by_cases a1 : v1 < 0
    · exact br_t a1 (yd_bad z cL t0 t1 t2 s0 s1 s2 (Or.inl a1) (fun gT gC gO gN gM gI gA gX => ⟨rfl, R2 _ _ _ _ _ _ _ _ _⟩))
    by_cases a2 : v1 < xT
    · by_cases a3 : v2 < 0
      · exact br_f a1 (br_t a2 (br_t a3 (yd_bad z cL t0 t1 t2 s0 s1 s2 (Or.inr (Or.inr (Or.inl a3))) (fun gT gC gO gN gM gI gA gX => ⟨rfl, R2 _ _ _ _ _ _ _ _ _⟩))))
      by_cases a4 : v2 ≤ 7
      · obtain ⟨c, hc, rfl⟩ := nI_of a1
        obtain ⟨f, hf, rfl⟩ := nI_of2 (M := 7) (n := 7) (by decide) a3 a4
        have hc2 : c < ck_n L (sz 0) (sz 1) (sz 2) := by rw [cT] at a2; exact (nI_ltI hc (by omega)).mp a2
        have e : nI c * 8 + nI f = nI (8 * c + f) := by rw [ib_m8, nI_add]
        refine br_f a1 (br_t a2 (br_f a3 (br_t a4 ⟨by rw [e]; exact vp_in_nI (by omega) (by omega), ?_⟩)))
        rw [e, nI_clamp (by omega)]
        refine yd_info z cL t0 t1 t2 s0 s1 s2 hc2 hf (fun gT gC gO gN gM gI gA gX => ⟨?_, R2 _ _ _ _ _ _ _ _ _⟩)
        obtain ⟨k1, k2⟩ := cU c hc2
        by_cases y : f = 7
        · rw [if_pos y, y, k2]
        · rw [if_neg y, k1 f (by omega)]
      · exact br_f a1 (br_t a2 (br_f a3 (br_f a4 (yd_bad z cL t0 t1 t2 s0 s1 s2 (Or.inr (Or.inr (Or.inr a4))) (fun gT gC gO gN gM gI gA gX => ⟨rfl, R2 _ _ _ _ _ _ _ _ _⟩)))))
    · exact br_f a1 (br_f a2 (yd_bad z cL t0 t1 t2 s0 s1 s2 (Or.inr (Or.inl (by rw [cT] at a2; exact a2))) (fun gT gC gO gN gM gI gA gX => ⟨rfl, R2 _ _ _ _ _ _ _ _ _⟩)))
theorem i_vc_resolve {k : Nat} {u : SX} {v : SY} (I : i_Rel k u v) (hk : k + 4 ≤ 2050) (v1 : Int32) (v2 : Int32) : wpX_resolve (fun r u' => wpY_resolve (fun r' v' => r' = r ∧ i_Rel (k + 4) u' v') v v1 v2) u v1 v2 := by
  refine rl_el (Q := fun u v => wpX_resolve (fun r u' => wpY_resolve (fun r' v' => r' = r ∧ i_Rel (k + 4) u' v') v v1 v2) u v1 v2) I ?_
  intro q0 q1 q2 q3 q4 q5 q6 q7 q8 q9 xD xT xM aL aS aR aO aN aZ aE aM aP aQ aH aW aU aV aX yT yU yE bH bC bO bN bM bI bA bX bV cap x sz h1 h2 h3 h4
  have R : i_Rel (k + 4) (q0, q1, q2, q3, q4, q5, q6, q7, q8, q9, nI cap, nI x, xD, xT, xM, aL, aS, aR, aO, aN, aZ, aE, aM, aP, aQ, aH, aW, aU, aV, aX) (nI cap, nI x, yT, yU, yE, xD, aL, aS, bH, bC, bO, bN, bM, bI, bA, bX, bV) := rl_mk h1 h2 h3 h4
  obtain ⟨⟨s0, s1, s2, s3⟩, t0, t1, t2, t3⟩ := rl_sz h1 h3
  have n1 : ¬ (0 : Int32) ≤ -1 := by decide
  have n3 : ¬ (0 : Int32) ≤ -3 := by decide
  have m1 : ¬ (-1 : Int32) = 4 := by decide
  have m3 : ¬ (-3 : Int32) = 4 := by decide
  rcases h4 with z | ⟨z, L, cL, cS1, cS2, cT, cU, cM, cV⟩
  · refine br_t z ?_
    unfold wpY_resolve
    exact yd_3 z (br_f m3 (br_f n3 ⟨rfl, R⟩))
  · obtain ⟨f1, f2, f3⟩ := ck_facts (L := L) t0 t1 t2
    have f2 := ck_rows12 t0 t1 t2 f2
    have R2 : ∀ gT gU gC gO gN gM gI gA gX, i_Rel (k + 4) (q0, q1, q2, q3, q4, q5, q6, q7, q8, q9, nI cap, nI x, xD, xT, xM, aL, aS, aR, aO, aN, aZ, aE, aM, aP, aQ, aH, aW, aU, aV, aX) (nI cap, nI x, gT, gU, yE, xD, aL, aS, bH, gC, gO, gN, gM, gI, gA, gX, bV) := fun _ _ _ _ _ _ _ _ _ => rl_mk h1 h2 h3 (Or.inr ⟨z, L, cL, cS1, cS2, cT, cU, cM, cV⟩)
    refine br_f (by rw [z]; decide) ?_
    by_cases a1 : v1 < 0
    · refine br_t a1 ?_
      unfold wpY_resolve
      exact yd_bad z cL t0 t1 t2 s0 s1 s2 (Or.inl a1) (fun gT gC gO gN gM gI gA gX => br_f m1 (br_f n1 ⟨rfl, R2 _ _ _ _ _ _ _ _ _⟩))
    by_cases a2 : v1 < xT
    · obtain ⟨c, hc, rfl⟩ := nI_of a1
      have hc2 : c < ck_n L (sz 0) (sz 1) (sz 2) := by rw [cT] at a2; exact (nI_ltI hc (by omega)).mp a2
      obtain ⟨k1, k2⟩ := cU c hc2
      obtain ⟨r1, r2, r3, r4⟩ := f2 c hc2
      have e0 : nI c * 8 = nI (8 * c + 0) := ib_m8 c
      have e7 : nI c * 8 + 7 = nI (8 * c + 7) := by rw [ib_m8]; exact nI_add _ 7
      have v0 : aU (nI c * 8).toNatClampNeg = nI (ck_t L (sz 0) (sz 1) (sz 2) c 0) := by rw [e0, nI_clamp (by omega), k1 0 (by omega)]
      refine br_f a1 (br_t a2 ⟨by rw [e0]; exact vp_in_nI (by omega) (by omega), ?_⟩)
      have Y : ∀ {post : Int32 → SY → Prop}, (∀ gT gC gO gN gM gI gA gX, post (nI (ck_t L (sz 0) (sz 1) (sz 2) c 0)) (nI cap, nI x, gT, nI (ck_n L (sz 0) (sz 1) (sz 2)), yE, xD, aL, aS, bH, gC, gO, gN, gM, gI, gA, gX, bV)) → wpY_chunkInfo post (nI cap, nI x, yT, yU, yE, xD, aL, aS, bH, bC, bO, bN, bM, bI, bA, bX, bV) (nI c) 0 := fun K => yd_info (f := 0) z cL t0 t1 t2 s0 s1 s2 hc2 (by omega) K
      by_cases a3 : ck_t L (sz 0) (sz 1) (sz 2) c 0 = 4
      · have a3' : nI (ck_t L (sz 0) (sz 1) (sz 2) c 0) = 4 := by rw [a3]; rfl
        refine br_t (by rw [v0]; exact a3') ?_
        by_cases a4 : v2 < 0
        · refine br_t a4 ?_
          unfold wpY_resolve
          exact Y (fun gT gC gO gN gM gI gA gX => br_t a3' (br_t a4 ⟨rfl, R2 _ _ _ _ _ _ _ _ _⟩))
        by_cases a5 : v2 ≤ 4
        · refine br_f a4 (br_t a5 ⟨by rw [e7]; exact vp_in_nI (by omega) (by omega), nm_r (e' := upd aU (8 * c + 7) v2) (by rw [e7, nI_clamp (by omega)]) ?_⟩)
          have hA : xk_A (upd aU (8 * c + 7) v2) (ck_t L (sz 0) (sz 1) (sz 2)) (ck_n L (sz 0) (sz 1) (sz 2)) (upd bH c v2) := by
            intro c' hc'
            obtain ⟨g1, g2⟩ := cU c' hc'
            refine ⟨fun f hf => ?_, ?_⟩
            · rw [pk_un (by omega)]
              exact g1 f hf
            · by_cases e : c' = c
              · rw [e, pk_us, pk_us]
              · rw [pk_un e, pk_un (by omega)]
                exact g2
          refine xm_all (ch := upd bH c v2) cL f1 cT hA f2 f3 (fun gV hV => ?_)
          unfold wpY_resolve
          refine Y (fun gT gC gO gN gM gI gA gX => br_t a3' (br_f a4 (br_t a5 ⟨vp_in_nI (by omega) (by omega), nm_r (e' := upd bH c v2) (by rw [nI_clamp (by omega)]) ⟨rfl, ?_⟩⟩)))
          exact rl_mk h1 h2 h3 (Or.inr ⟨z, L, cL, cS1, cS2, cT, hA, rfl, hV⟩)
        · refine br_f a4 (br_f a5 ?_)
          unfold wpY_resolve
          exact Y (fun gT gC gO gN gM gI gA gX => br_t a3' (br_f a4 (br_f a5 ⟨rfl, R2 _ _ _ _ _ _ _ _ _⟩)))
      · have a3' : ¬ nI (ck_t L (sz 0) (sz 1) (sz 2) c 0) = 4 := fun y => a3 (ib_inj (by omega) (by decide) (b := 4) y)
        refine br_f (by rw [v0]; exact a3') ?_
        unfold wpY_resolve
        exact Y (fun gT gC gO gN gM gI gA gX => br_f a3' (br_t (nI_pos' (by omega)) ⟨rfl, R2 _ _ _ _ _ _ _ _ _⟩))
    · refine br_f a1 (br_f a2 ?_)
      unfold wpY_resolve
      exact yd_bad z cL t0 t1 t2 s0 s1 s2 (Or.inr (Or.inl (by rw [cT] at a2; exact a2))) (fun gT gC gO gN gM gI gA gX => br_f m1 (br_f n1 ⟨rfl, R2 _ _ _ _ _ _ _ _ _⟩))
end
section
/-! the owed row of apply -/
theorem zz_S0 {L : Nat → Int32} {sd b s x : Nat} : ∀ u, u < zz_N L sd b s → zz_S L sd b s x u = false → sc_o L (sc_B L sd) b s u = 0 := by
  intro u hu hs
  refine Classical.byContradiction fun z => ?_
  have q : zz_S L sd b s x u = true := sh_iff.mpr ⟨u, hu, z, by omega, by omega⟩
  rw [hs] at q
  cases q
theorem xa_of {L : Nat → Int32} {sd b s x dr : Nat} {F : Nat → Nat} {aE aM aP aQ aH aW : Nat → Int32} (hd : xd_S L sd b s x aE aM aP aQ aH aW) (hF : (dr = 0 ∧ F = sc_i L (sc_B L sd) b s) ∨ (dr = 1 ∧ F = sc_j L (sc_B L sd) b s)) :
    xa_P (zz_S L sd b s x) (sc_o L (sc_B L sd) b s) F (sc_l L (sc_B L sd) b s) (zz_N L sd b s) sd dr aP aH aW := by
  obtain ⟨d1, d2, d3, d4, d5, d6⟩ := hd
  have law : pt_Lay (zz_S L sd b s x) (sc_o L (sc_B L sd) b s) (sc_i L (sc_B L sd) b s) (sc_j L (sc_B L sd) b s) (sc_l L (sc_B L sd) b s) (zz_N L sd b s) (zz_G L sd b s x) := pt_law sc_iS sc_jS sc_o3 _
  refine ⟨fun u hu hs => ?_, fun u hu hb => ?_, d6, d5⟩
  · have af := pt_after (S := zz_S L sd b s x) hu hs
    rw [d3 _ (by omega), d3 _ (by omega)]
    exact law.1 u hu hs
  · have af := pt_after (S := zz_S L sd b s x) hu (sh_bS hb).1
    rw [pt_c5 hb] at af
    obtain ⟨l1, l2, l3, l4⟩ := law.2 u hu hb
    rw [d3 _ (by omega), d3 _ (by omega)]
    rcases hF with ⟨e1, e2⟩ | ⟨e1, e2⟩
    · subst e1 e2
      exact ⟨l1, l3⟩
    · subst e1 e2
      exact ⟨l2, l4⟩
section
variable {yC yK yT yU yE yD : Int32} {bL bS bH bC bO bN bM bI bA bX bV : Nat → Int32}
variable {L : Nat → Int32} {sd b s x dr ad tk w cap : Nat} {F P : Nat → Nat} {v3 : Int32}
theorem yq_apply {post : Int32 → SY → Prop} (h1 : 1 ≤ sd) (h2 : sd ≤ 2) (hD : yD = 1) (hL : ∀ i, i < 36 → bL i = L i) (hb : b ≤ 12) (hs : s ≤ 12) (h0 : bS 0 = nI b) (hS : bS sd = nI s) (hS3 : bS 3 = nI w) (hx : x ≤ 3) (hK : yK = nI x) (hw : w ≤ 12) (hcap : cap ≤ 12) (hC : yC = nI cap)
    (hdr : (dr = 0 ∧ ad = 2 ∧ tk = 1 ∧ F (zz_N L sd b s) = b ∧ P (zz_N L sd b s) = s) ∨ (dr = 1 ∧ ad = 1 ∧ tk = 2 ∧ F (zz_N L sd b s) = s ∧ P (zz_N L sd b s) = b))
    (hF : ∀ u, F (u + 1) = F u + (if sc_o L (sc_B L sd) b s u = ad then 0 else 1)) (hPo : ∀ u, P (u + 1) = P u + (if sc_o L (sc_B L sd) b s u = tk then 0 else 1)) (hF0 : F 0 = 0) (hP0 : P 0 = 0) (hv : -12 ≤ v3.toInt ∧ v3.toInt ≤ 12)
    (KN : ¬ ap_Fit (zz_S L sd b s x) (sc_o L (sc_B L sd) b s) F (sc_l L (sc_B L sd) b s) (ap_W bL) ad w v3.toInt (zz_N L sd b s) → ∀ gT gE gC gO gN gM gV, post (-4) (yC, yK, gT, yU, gE, yD, bL, bS, bH, gC, gO, gN, gM, bI, bA, bX, gV))
    (KF : ap_Fit (zz_S L sd b s x) (sc_o L (sc_B L sd) b s) F (sc_l L (sc_B L sd) b s) (ap_W bL) ad w v3.toInt (zz_N L sd b s) → cap < (ap_fin (zz_S L sd b s x) (sc_o L (sc_B L sd) b s) F (sc_l L (sc_B L sd) b s) (ap_W bL) ad tk w (zz_N L sd b s) v3.toInt).length → ∀ gT gE gC gO gN gM gV, post (-2) (yC, yK, gT, yU, gE, yD, bL, bS, bH, gC, gO, gN, gM, bI, bA, bX, gV))
    (KO : ap_Fit (zz_S L sd b s x) (sc_o L (sc_B L sd) b s) F (sc_l L (sc_B L sd) b s) (ap_W bL) ad w v3.toInt (zz_N L sd b s) → (ap_fin (zz_S L sd b s x) (sc_o L (sc_B L sd) b s) F (sc_l L (sc_B L sd) b s) (ap_W bL) ad tk w (zz_N L sd b s) v3.toInt).length ≤ cap → ∀ gT gE gC gO gN gM gV, post (nI (pt_k (zz_S L sd b s x) (zz_N L sd b s))) (yC, yK, gT, yU, gE, yD, ap_wr bL (ap_fin (zz_S L sd b s x) (sc_o L (sc_B L sd) b s) F (sc_l L (sc_B L sd) b s) (ap_W bL) ad tk w (zz_N L sd b s) v3.toInt) (ap_fin (zz_S L sd b s x) (sc_o L (sc_B L sd) b s) F (sc_l L (sc_B L sd) b s) (ap_W bL) ad tk w (zz_N L sd b s) v3.toInt).length, upd bS 3 (nI (ap_fin (zz_S L sd b s x) (sc_o L (sc_B L sd) b s) F (sc_l L (sc_B L sd) b s) (ap_W bL) ad tk w (zz_N L sd b s) v3.toInt).length), bH, gC, gO, gN, gM, bI, bA, bX, gV)) :
    wpY_apply post (yC, yK, yT, yU, yE, yD, bL, bS, bH, bC, bO, bN, bM, bI, bA, bX, bV) (nI sd) (nI dr) v3 := by
  have hN := sc_nE (A := L) (B := sc_B L sd) (b := b) (s := s)
  have g63 : wY_apply_63 post (nI sd) v3 (nI ad) (nI tk) yC yK yT yU yE yD bL bS bH bC bO bN bM bI bA bX bV := by
    unfold wY_apply_63
    refine yw_script hL hb hs h1 h2 h0 hS (fun gC gO gN gM g1 _ _ => ⟨sc_n L (sc_B L sd) b s + 1, ?_⟩)
    have q : wY_apply_88 post (nI ad) (nI tk) (sc_n L (sc_B L sd) b s + 1) (v3 + nI (F 0)) (nI (ap_r (zz_S L sd b s x) (sc_o L (sc_B L sd) b s) F ad v3.toInt 0)) (nI (pt_k (zz_S L sd b s x) 0)) (nI 0) yC yK (nI (zz_N L sd b s)) yU (nI (ap_L (zz_S L sd b s x) (sc_o L (sc_B L sd) b s) F (sc_l L (sc_B L sd) b s) (ap_W bL) ad tk v3.toInt 0).length) yD bL bS bH gC gO gN gM bI bA bX bV :=
      yq_88 (P := P) (N := zz_N L sd b s) (x := x) (w := w) (cap := cap) (by unfold zz_N; omega) hx hw hcap hC hS3 rfl hK sc_o3 (by omega) (fun u hu => (g1 u hu).1) (fun u hu => (g1 u hu).2) hF hPo hF0 hP0 (by omega) (by omega) zz_S0 hv (fun h gE gV => KN h _ _ _ _ _ _ _) (fun h hc gE gV => KF h hc _ _ _ _ _ _ _) (fun h hc gE gV => KO h hc _ _ _ _ _ _ _) (sc_n L (sc_B L sd) b s) 0 _ bV (by unfold zz_N; omega) (by omega) (fun u h => by omega) (ls_nil _)
    rw [hF0, nI_0, Int32.add_zero] at q
    exact q
  unfold wpY_apply
  refine br_f (nI_nlt (b := 1) h1 (by omega)) (br_f (nI_nlt (a := 2) h2 (by decide)) (br_f (nI_pos (by omega)) (br_f (nI_nlt (a := 1) (by omega) (by decide)) (br_f ?_ (br_t ?_ (br_f (by rw [hD]; decide) ?_))))))
  · rw [Int32.lt_iff_toInt_lt, show (-12 : Int32).toInt = -12 from by decide]
    omega
  · rw [Int32.le_iff_toInt_le, show (12 : Int32).toInt = 12 from by decide]
    omega
  · unfold wY_apply_52
    rcases hdr with ⟨d1, d2, d3, _⟩ | ⟨d1, d2, d3, _⟩
    · subst d1 d2 d3
      exact br_t rfl (br_t rfl g63)
    · subst d1 d2 d3
      exact br_f (by decide) (br_f (by decide) g63)
end
section
variable {q0 q1 q2 q3 q4 q5 q6 q7 q8 q9 xC xK xD xT xM : Int32} {aL aS aR aO aN aZ aE aM aP aQ aH aW aU aV aX : Nat → Int32}
variable {yC yK yT yU yE yD : Int32} {bL bS bH bC bO bN bM bI bA bX bV : Nat → Int32}
variable {L : Nat → Int32} {sz : Nat → Nat} {k sd x dr ad tk cap : Nat} {F P : Nat → Nat} {v3 : Int32}
theorem ia_main (h1 : cap ≤ 12) (h2 : x ≤ 3) (h3 : rl_Z cap aS sz) (l1 : 1 ≤ sd) (l2 : sd ≤ 2) (z : xD = 1) (cL : ∀ i, i < 36 → aL i = L i) (h4 : rl_C x (sz 0) (sz 1) (sz 2) xT xM aL aE aM aP aQ aH aW aU aV bH) (D : xd_S L sd (sz 0) (sz sd) x aE aM aP aQ aH aW)
    (hdr : (dr = 0 ∧ ad = 2 ∧ tk = 1 ∧ F (zz_N L sd (sz 0) (sz sd)) = sz 0 ∧ P (zz_N L sd (sz 0) (sz sd)) = sz sd) ∨ (dr = 1 ∧ ad = 1 ∧ tk = 2 ∧ F (zz_N L sd (sz 0) (sz sd)) = sz sd ∧ P (zz_N L sd (sz 0) (sz sd)) = sz 0))
    (hFe : (dr = 0 ∧ F = sc_i L (sc_B L sd) (sz 0) (sz sd)) ∨ (dr = 1 ∧ F = sc_j L (sc_B L sd) (sz 0) (sz sd)))
    (hF : ∀ u, F (u + 1) = F u + (if sc_o L (sc_B L sd) (sz 0) (sz sd) u = ad then 0 else 1)) (hPo : ∀ u, P (u + 1) = P u + (if sc_o L (sc_B L sd) (sz 0) (sz sd) u = tk then 0 else 1)) (hF0 : F 0 = 0) (hP0 : P 0 = 0) (hv : -12 ≤ v3.toInt ∧ v3.toInt ≤ 12) :
    wpX_apply (fun r u' => wpY_apply (fun r' v' => r' = r ∧ i_Rel (k + 4) u' v') (nI cap, nI x, yT, yU, yE, xD, aL, aS, bH, bC, bO, bN, bM, bI, bA, bX, bV) (nI sd) (nI dr) v3) (q0, q1, q2, q3, q4, q5, q6, q7, q8, q9, nI cap, nI x, xD, xT, xM, aL, aS, aR, aO, aN, aZ, aE, aM, aP, aQ, aH, aW, aU, aV, aX) (nI sd) (nI dr) v3 := by
  obtain ⟨⟨s0, s1, s2, s3⟩, t0, t1, t2, t3⟩ := rl_sz h1 h3
  obtain ⟨z1, z2⟩ := h3 sd (by omega)
  have hN := sc_nE (A := L) (B := sc_B L sd) (b := sz 0) (s := sz sd)
  have R2 : ∀ gT gE gC gO gN gM gV, i_Rel (k + 4) (q0, q1, q2, q3, q4, q5, q6, q7, q8, q9, nI cap, nI x, xD, xT, xM, aL, aS, aR, aO, aN, aZ, aE, aM, aP, aQ, aH, aW, aU, aV, aX) (nI cap, nI x, gT, yU, gE, xD, aL, aS, bH, gC, gO, gN, gM, bI, bA, bX, gV) := fun _ _ _ _ _ _ _ => rl_mk h1 h2 h3 (Or.inr ⟨z, h4⟩)
  refine xa_apply (P := P) (S := zz_S L sd (sz 0) (sz sd) x) (N := zz_N L sd (sz 0) (sz sd)) (cap := cap) (b := sz 0) (s := sz sd) (w := sz 3) l1 l2 z (by unfold zz_N; omega) t3 t0 (by omega) h1 rfl s0 z1 s3 sc_o3 hdr hF hPo hF0 hP0 zz_S0 (xa_of D hFe) hv (fun hn => ?_) (fun hy hc => ?_) (fun hy hc g => ?_)
  · exact yq_apply (P := P) (cap := cap) (w := sz 3) l1 l2 z cL t0 (by omega) s0 z1 s3 h2 rfl t3 h1 rfl hdr hF hPo hF0 hP0 hv (fun _ gT gE gC gO gN gM gV => ⟨rfl, R2 _ _ _ _ _ _ _⟩) (fun y => absurd y hn) (fun y => absurd y hn)
  · exact yq_apply (P := P) (cap := cap) (w := sz 3) l1 l2 z cL t0 (by omega) s0 z1 s3 h2 rfl t3 h1 rfl hdr hF hPo hF0 hP0 hv (fun y => absurd hy y) (fun _ _ gT gE gC gO gN gM gV => ⟨rfl, R2 _ _ _ _ _ _ _⟩) (fun _ y => absurd hc (Nat.not_lt.mpr y))
  · refine yq_apply (P := P) (cap := cap) (w := sz 3) l1 l2 z cL t0 (by omega) s0 z1 s3 h2 rfl t3 h1 rfl hdr hF hPo hF0 hP0 hv (fun y => absurd hy y) (fun _ y => absurd y (Nat.not_lt.mpr hc)) (fun _ _ gT gE gC gO gN gM gV => ⟨rfl, ?_⟩)
    generalize ap_fin (zz_S L sd (sz 0) (sz sd) x) (sc_o L (sc_B L sd) (sz 0) (sz sd)) F (sc_l L (sc_B L sd) (sz 0) (sz sd)) (ap_W aL) ad tk (sz 3) (zz_N L sd (sz 0) (sz sd)) v3.toInt = fin at hc ⊢
    have q : i_Rel (k + 4) (q0, q1, q2, q3, q4, q5, q6, q7, q8, q9, nI cap, nI x, if 3 = 3 then xD else 0, xT, xM, ap_wr aL fin fin.length, upd aS 3 (nI fin.length), aR, aO, aN, aZ, aE, aM, aP, aQ, aH, aW, aU, aV, g) (nI cap, nI x, gT, yU, gE, if 3 = 3 then xD else 0, ap_wr aL fin fin.length, upd aS 3 (nI fin.length), bH, gC, gO, gN, gM, bI, bA, bX, gV) := by
      refine rl_chg (tx := 3) (n := fin.length) h1 h2 h3 (Or.inr ⟨z, h4⟩) (fun _ i hi => if_neg (by omega)) (fun t _ => ?_) hc
      by_cases e : t = 3
      · rw [e, pk_us, if_pos rfl]
      · rw [pk_un e, if_neg e]
    rw [if_pos rfl] at q
    exact q
end
theorem i_vc_apply {k : Nat} {u : SX} {v : SY} (I : i_Rel k u v) (hk : k + 4 ≤ 2050) (v1 : Int32) (v2 : Int32) (v3 : Int32) : wpX_apply (fun r u' => wpY_apply (fun r' v' => r' = r ∧ i_Rel (k + 4) u' v') v v1 v2 v3) u v1 v2 v3 := by
  refine rl_el (Q := fun u v => wpX_apply (fun r u' => wpY_apply (fun r' v' => r' = r ∧ i_Rel (k + 4) u' v') v v1 v2 v3) u v1 v2 v3) I ?_
  intro q0 q1 q2 q3 q4 q5 q6 q7 q8 q9 xD xT xM aL aS aR aO aN aZ aE aM aP aQ aH aW aU aV aX yT yU yE bH bC bO bN bM bI bA bX bV cap x sz h1 h2 h3 h4
  have R : i_Rel (k + 4) (q0, q1, q2, q3, q4, q5, q6, q7, q8, q9, nI cap, nI x, xD, xT, xM, aL, aS, aR, aO, aN, aZ, aE, aM, aP, aQ, aH, aW, aU, aV, aX) (nI cap, nI x, yT, yU, yE, xD, aL, aS, bH, bC, bO, bN, bM, bI, bA, bX, bV) := rl_mk h1 h2 h3 h4
  by_cases a1 : v1 < 1
  · exact br_t a1 (br_t a1 ⟨rfl, R⟩)
  by_cases a2 : v1 ≤ 2
  · have a2' : ¬ 2 < v1 := Int32.not_lt.mpr a2
    by_cases a3 : v2 < 0
    · exact br_f a1 (br_t a2 (br_t a3 (br_f a1 (br_f a2' (br_t a3 ⟨rfl, R⟩)))))
    by_cases a4 : v2 ≤ 1
    · have a4' : ¬ 1 < v2 := Int32.not_lt.mpr a4
      by_cases a5 : v3 < -12
      · exact br_f a1 (br_t a2 (br_f a3 (br_t a4 (br_t a5 (br_f a1 (br_f a2' (br_f a3 (br_f a4' (br_t a5 ⟨rfl, R⟩)))))))))
      by_cases a6 : v3 ≤ 12
      · rcases h4 with z | ⟨z, h4⟩
        · exact br_f a1 (br_t a2 (br_f a3 (br_t a4 (br_f a5 (br_t a6 (br_t z (br_f a1 (br_f a2' (br_f a3 (br_f a4' (br_f a5 (br_t a6 (br_t z ⟨rfl, R⟩)))))))))))))
        · obtain ⟨sd, l1, l2, rfl⟩ := rl_v12 a1 a2
          obtain ⟨dr, hdr, rfl⟩ := nI_of2 (M := 1) (n := 1) (by decide) a3 a4
          obtain ⟨L, cL, cS1, cS2, cR⟩ := id h4
          have D := rl_side cS1 cS2 l1 l2
          have hN := sc_nE (A := L) (B := sc_B L sd) (b := sz 0) (s := sz sd)
          have hv : -12 ≤ v3.toInt ∧ v3.toInt ≤ 12 := by
            rw [Int32.lt_iff_toInt_lt, show (-12 : Int32).toInt = -12 from by decide] at a5
            rw [Int32.le_iff_toInt_le, show (12 : Int32).toInt = 12 from by decide] at a6
            omega
          by_cases e : dr = 0
          · subst e
            exact ia_main (ad := 2) (tk := 1) (F := sc_i L (sc_B L sd) (sz 0) (sz sd)) (P := sc_j L (sc_B L sd) (sz 0) (sz sd)) h1 h2 h3 l1 l2 z cL h4 D (Or.inl ⟨rfl, rfl, rfl, hN.2.1, hN.2.2⟩) (Or.inl ⟨rfl, rfl⟩) sc_iS sc_jS rfl rfl hv
          · have e : dr = 1 := by omega
            subst e
            exact ia_main (ad := 1) (tk := 2) (F := sc_j L (sc_B L sd) (sz 0) (sz sd)) (P := sc_i L (sc_B L sd) (sz 0) (sz sd)) h1 h2 h3 l1 l2 z cL h4 D (Or.inr ⟨rfl, rfl, rfl, hN.2.2, hN.2.1⟩) (Or.inr ⟨rfl, rfl⟩) sc_jS sc_iS rfl rfl hv
      · exact br_f a1 (br_t a2 (br_f a3 (br_t a4 (br_f a5 (br_f a6 (br_f a1 (br_f a2' (br_f a3 (br_f a4' (br_f a5 (br_f a6 ⟨rfl, R⟩)))))))))))
    · have a4' : 1 < v2 := Int32.not_le.mp a4
      exact br_f a1 (br_t a2 (br_f a3 (br_f a4 (br_f a1 (br_f a2' (br_f a3 (br_t a4' ⟨rfl, R⟩)))))))
  · have a2' : 2 < v1 := Int32.not_le.mp a2
    exact br_f a1 (br_f a2 (br_f a1 (br_t a2' ⟨rfl, R⟩)))
end
